section
/-! PART 01: plain laws of lanes (no program in sight). The first rows (bt .. nx_xor) are pasted from kit/laws/BITS -/
def bt (x : Int32) (i : Nat) : Bool := x.toBitVec.getLsbD i
theorem b_ext {x y : Int32} (h : ∀ i, i < 32 → bt x i = bt y i) : x = y := Int32.toBitVec_inj.mp (BitVec.eq_of_getLsbD_eq (fun i hi => h i hi))
theorem b_or (x y : Int32) (i : Nat) : bt (x ||| y) i = (bt x i || bt y i) := by unfold bt; rw [Int32.toBitVec_or, BitVec.getLsbD_or]
theorem b_and (x y : Int32) (i : Nat) : bt (x &&& y) i = (bt x i && bt y i) := by unfold bt; rw [Int32.toBitVec_and, BitVec.getLsbD_and]
theorem b_xor (x y : Int32) (i : Nat) : bt (x ^^^ y) i = (bt x i ^^ bt y i) := by unfold bt; rw [Int32.toBitVec_xor, BitVec.getLsbD_xor]
theorem b_big {x : Int32} {i : Nat} (h : 32 ≤ i) : bt x i = false := BitVec.getLsbD_of_ge _ _ h
theorem b_255 (i : Nat) : bt 255 i = decide (i < 8) := by
  rcases Nat.lt_or_ge i 32 with h | h
  · exact (by decide +kernel : ∀ i, i < 32 → bt 255 i = decide (i < 8)) i h
  · rw [b_big h, decide_eq_false (by omega)]
theorem b_65535 (i : Nat) : bt 65535 i = decide (i < 16) := by
  rcases Nat.lt_or_ge i 32 with h | h
  · exact (by decide +kernel : ∀ i, i < 32 → bt 65535 i = decide (i < 16)) i h
  · rw [b_big h, decide_eq_false (by omega)]
theorem b_m1 : ∀ i, i < 32 → bt (-1) i = true := by decide +kernel
theorem b_0 (i : Nat) : bt 0 i = false := BitVec.getLsbD_zero
theorem s_l : ∀ n, n < 32 → ((nI n &&& 31).toBitVec.smod 32).toNat = n := by decide +kernel
theorem s_u : ∀ n, n < 32 → (((nI n).toUInt32 &&& Int32.toUInt32 31).toBitVec % 32).toNat = n := by decide +kernel
theorem b_shl (n : Nat) (hn : n < 32) (x : Int32) {i : Nat} (hi : i < 32) : bt (x <<< (nI n &&& 31)) i = (decide (n ≤ i) && bt x (i - n)) := by
  unfold bt
  rw [Int32.toBitVec_shiftLeft]
  show (x.toBitVec <<< ((nI n &&& 31).toBitVec.smod 32).toNat).getLsbD i = _
  rw [s_l n hn, BitVec.getLsbD_shiftLeft]
  rcases Nat.lt_or_ge i n with h | h
  · simp [h, Nat.not_le.mpr h]
  · simp [hi, h, Nat.not_lt.mpr h]
theorem b_ushr (n : Nat) (hn : n < 32) (x : Int32) (i : Nat) : bt ((x.toUInt32 >>> ((nI n).toUInt32 &&& Int32.toUInt32 31)).toInt32) i = bt x (n + i) := by
  show (x.toUInt32 >>> ((nI n).toUInt32 &&& Int32.toUInt32 31)).toBitVec.getLsbD i = x.toUInt32.toBitVec.getLsbD (n + i)
  rw [UInt32.toBitVec_shiftRight]
  show (x.toUInt32.toBitVec >>> (((nI n).toUInt32 &&& Int32.toUInt32 31).toBitVec % 32).toNat).getLsbD i = _
  rw [s_u n hn, BitVec.getLsbD_ushiftRight]
theorem nx_xor (a b : Nat) : nI a ^^^ nI b = nI (a ^^^ b) := by
  apply Int32.toBitVec_inj.1
  show BitVec.ofNat 32 a ^^^ BitVec.ofNat 32 b = BitVec.ofNat 32 (a ^^^ b)
  apply BitVec.eq_of_getLsbD_eq
  intro i hi
  simp [hi]
/-! ===== all four lanes times x ===== -/
def th (v : Int32) : Int32 := (v.toUInt32 >>> ((nI 7).toUInt32 &&& Int32.toUInt32 31)).toInt32 &&& 16843009
def tx (v : Int32) : Int32 := (((((v &&& 2139062143) <<< (nI 1 &&& 31)) ^^^ th v) ^^^ (th v <<< (nI 2 &&& 31))) ^^^ (th v <<< (nI 3 &&& 31))) ^^^ (th v <<< (nI 4 &&& 31))
theorem xor_andm (a b m : Int32) : (a ^^^ b) &&& m = (a &&& m) ^^^ (b &&& m) := b_ext (fun i _ => by
  rw [b_and, b_xor, b_xor, b_and, b_and]
  cases bt a i <;> cases bt b i <;> cases bt m i <;> rfl)
theorem xor_shl (n : Nat) (hn : n < 32) (a b : Int32) : (a ^^^ b) <<< (nI n &&& 31) = (a <<< (nI n &&& 31)) ^^^ (b <<< (nI n &&& 31)) := b_ext (fun i hi => by
  rw [b_shl n hn _ hi, b_xor, b_xor, b_shl n hn _ hi, b_shl n hn _ hi]
  cases decide (n ≤ i) <;> cases bt a (i - n) <;> cases bt b (i - n) <;> rfl)
theorem xor_ushr (n : Nat) (hn : n < 32) (a b : Int32) : ((a ^^^ b).toUInt32 >>> ((nI n).toUInt32 &&& Int32.toUInt32 31)).toInt32 = (a.toUInt32 >>> ((nI n).toUInt32 &&& Int32.toUInt32 31)).toInt32 ^^^ (b.toUInt32 >>> ((nI n).toUInt32 &&& Int32.toUInt32 31)).toInt32 := b_ext (fun i _ => by
  rw [b_xor, b_ushr n hn, b_ushr n hn, b_ushr n hn, b_xor])
theorem xor4 (a b c d : Int32) : (a ^^^ b) ^^^ (c ^^^ d) = (a ^^^ c) ^^^ (b ^^^ d) := b_ext (fun i _ => by
  simp only [b_xor]
  cases bt a i <;> cases bt b i <;> cases bt c i <;> cases bt d i <;> rfl)
theorem xor10 (a b c d e a' b' c' d' e' : Int32) : ((((a ^^^ a') ^^^ (b ^^^ b')) ^^^ (c ^^^ c')) ^^^ (d ^^^ d')) ^^^ (e ^^^ e') = ((((a ^^^ b) ^^^ c) ^^^ d) ^^^ e) ^^^ ((((a' ^^^ b') ^^^ c') ^^^ d') ^^^ e') := by
  rw [xor4 a a' b b', xor4 (a ^^^ b) (a' ^^^ b') c c', xor4 ((a ^^^ b) ^^^ c) ((a' ^^^ b') ^^^ c') d d', xor4 _ _ e e']
theorem th_lin (a b : Int32) : th (a ^^^ b) = th a ^^^ th b := by
  unfold th
  rw [xor_ushr 7 (by omega), xor_andm]
theorem tx_lin (a b : Int32) : tx (a ^^^ b) = tx a ^^^ tx b := by
  unfold tx
  rw [th_lin, xor_andm, xor_shl 1 (by omega), xor_shl 2 (by omega), xor_shl 3 (by omega), xor_shl 4 (by omega)]
  exact xor10 _ _ _ _ _ _ _ _ _ _
/-- k times -/
def tp : Nat → Int32 → Int32
  | 0, w => w
  | k + 1, w => tx (tp k w)
theorem tp_lin (k : Nat) (a b : Int32) : tp k (a ^^^ b) = tp k a ^^^ tp k b := by
  induction k with
  | zero => rfl
  | succ k ih =>
    show tx (tp k (a ^^^ b)) = tx (tp k a) ^^^ tx (tp k b)
    rw [ih, tx_lin]
theorem tx_0 : tx 0 = 0 := by decide +kernel
theorem tp_0 (k : Nat) : tp k 0 = 0 := by
  induction k with
  | zero => rfl
  | succ k ih =>
    show tx (tp k 0) = 0
    rw [ih, tx_0]
theorem tp_add (a b : Nat) (w : Int32) : tp (a + b) w = tp a (tp b w) := by
  induction a with
  | zero =>
    show tp (0 + b) w = tp b w
    rw [Nat.zero_add]
  | succ a ih =>
    rw [Nat.succ_add]
    show tx (tp (a + b) w) = tx (tp a (tp b w))
    rw [ih]
theorem tp_comm (a b : Nat) (w : Int32) : tp a (tp b w) = tp b (tp a w) := by
  rw [← tp_add, Nat.add_comm, tp_add]
/-! ===== one lane: numbers below 256 ===== -/
def stp (u : Nat) : Nat := if 255 < 2 * u then (2 * u) ^^^ 285 else 2 * u
theorem tx_l : ∀ u, u < 256 → tx (nI u) = nI (stp u) ∧ stp u < 256 := by decide +kernel
theorem tx_sh : ∀ i, i < 4 → ∀ u, u < 256 → tx (nI u <<< (nI (8 * i) &&& 31)) = nI (stp u) <<< (nI (8 * i) &&& 31) := by decide +kernel
theorem tp_sh {i : Nat} (hi : i < 4) (k u : Nat) (hu : u < 256) : ∃ v, v < 256 ∧ tp k (nI u) = nI v ∧ tp k (nI u <<< (nI (8 * i) &&& 31)) = nI v <<< (nI (8 * i) &&& 31) := by
  induction k with
  | zero => exact ⟨u, hu, rfl, rfl⟩
  | succ k ih =>
    obtain ⟨v, hv, e1, e2⟩ := ih
    refine ⟨stp v, (tx_l v hv).2, ?_, ?_⟩
    · show tx (tp k (nI u)) = _
      rw [e1]
      exact (tx_l v hv).1
    · show tx (tp k (nI u <<< (nI (8 * i) &&& 31))) = _
      rw [e2]
      exact tx_sh i hi v hv
def eT : List Nat := [1, 2, 4, 8, 16, 32, 64, 128, 29, 58, 116, 232, 205, 135, 19, 38, 76, 152, 45, 90, 180, 117, 234, 201, 143, 3, 6, 12, 24, 48, 96, 192, 157, 39, 78, 156, 37, 74, 148, 53, 106, 212, 181, 119, 238, 193, 159, 35, 70, 140, 5, 10, 20, 40, 80, 160, 93, 186, 105, 210, 185, 111, 222, 161, 95, 190, 97, 194, 153, 47, 94, 188, 101, 202, 137, 15, 30, 60, 120, 240, 253, 231, 211, 187, 107, 214, 177, 127, 254, 225, 223, 163, 91, 182, 113, 226, 217, 175, 67, 134, 17, 34, 68, 136, 13, 26, 52, 104, 208, 189, 103, 206, 129, 31, 62, 124, 248, 237, 199, 147, 59, 118, 236, 197, 151, 51, 102, 204, 133, 23, 46, 92, 184, 109, 218, 169, 79, 158, 33, 66, 132, 21, 42, 84, 168, 77, 154, 41, 82, 164, 85, 170, 73, 146, 57, 114, 228, 213, 183, 115, 230, 209, 191, 99, 198, 145, 63, 126, 252, 229, 215, 179, 123, 246, 241, 255, 227, 219, 171, 75, 150, 49, 98, 196, 149, 55, 110, 220, 165, 87, 174, 65, 130, 25, 50, 100, 200, 141, 7, 14, 28, 56, 112, 224, 221, 167, 83, 166, 81, 162, 89, 178, 121, 242, 249, 239, 195, 155, 43, 86, 172, 69, 138, 9, 18, 36, 72, 144, 61, 122, 244, 245, 247, 243, 251, 235, 203, 139, 11, 22, 44, 88, 176, 125, 250, 233, 207, 131, 27, 54, 108, 216, 173, 71, 142]
def eN (k : Nat) : Nat := eT.getD k 0
def lT : List Nat := [0, 0, 1, 25, 2, 50, 26, 198, 3, 223, 51, 238, 27, 104, 199, 75, 4, 100, 224, 14, 52, 141, 239, 129, 28, 193, 105, 248, 200, 8, 76, 113, 5, 138, 101, 47, 225, 36, 15, 33, 53, 147, 142, 218, 240, 18, 130, 69, 29, 181, 194, 125, 106, 39, 249, 185, 201, 154, 9, 120, 77, 228, 114, 166, 6, 191, 139, 98, 102, 221, 48, 253, 226, 152, 37, 179, 16, 145, 34, 136, 54, 208, 148, 206, 143, 150, 219, 189, 241, 210, 19, 92, 131, 56, 70, 64, 30, 66, 182, 163, 195, 72, 126, 110, 107, 58, 40, 84, 250, 133, 186, 61, 202, 94, 155, 159, 10, 21, 121, 43, 78, 212, 229, 172, 115, 243, 167, 87, 7, 112, 192, 247, 140, 128, 99, 13, 103, 74, 222, 237, 49, 197, 254, 24, 227, 165, 153, 119, 38, 184, 180, 124, 17, 68, 146, 217, 35, 32, 137, 46, 55, 63, 209, 91, 149, 188, 207, 205, 144, 135, 151, 178, 220, 252, 190, 97, 242, 86, 211, 171, 20, 42, 93, 158, 132, 60, 57, 83, 71, 109, 65, 162, 31, 45, 67, 216, 183, 123, 164, 118, 196, 23, 73, 236, 127, 12, 111, 246, 108, 161, 59, 82, 41, 157, 85, 170, 251, 96, 134, 177, 187, 204, 62, 90, 203, 89, 95, 176, 156, 169, 160, 81, 11, 245, 22, 235, 122, 117, 44, 215, 79, 174, 213, 233, 230, 231, 173, 232, 116, 214, 244, 234, 168, 80, 88, 175]
def dl (u : Nat) : Nat := lT.getD u 0
theorem e_st : ∀ k, k < 254 → stp (eN k) = eN (k + 1) := by decide +kernel
theorem e_in : ∀ k, k < 255 → 0 < eN k ∧ eN k < 256 ∧ dl (eN k) = k := by decide +kernel
theorem dl_in : ∀ u, u < 256 → 0 < u → dl u < 255 ∧ eN (dl u) = u := by decide +kernel
theorem tp_1 : ∀ k, k < 255 → tp k (nI 1) = nI (eN k) := by
  intro k
  induction k with
  | zero => intro _; rfl
  | succ k ih =>
    intro hk
    show tx (tp k (nI 1)) = _
    rw [ih (by omega), (tx_l _ (e_in k (by omega)).2.1).1, e_st k (by omega)]
theorem tp_255 : tp 255 (nI 1) = nI 1 := by
  show tx (tp 254 (nI 1)) = _
  rw [tp_1 254 (by omega)]
  decide +kernel
theorem tp_510 {j : Nat} (hj : j < 510) : tp j (nI 1) = nI (eN (j % 255)) := by
  rcases Nat.lt_or_ge j 255 with h | h
  · rw [Nat.mod_eq_of_lt h, tp_1 j h]
  · obtain ⟨i, rfl⟩ := Nat.exists_eq_add_of_le' h
    rw [tp_add, tp_255, tp_1 i (by omega), Nat.add_mod_right, Nat.mod_eq_of_lt (by omega)]
/-! ===== a word is its four lanes ===== -/
def ln (i : Nat) (w : Int32) : Int32 := (w.toUInt32 >>> ((nI (8 * i)).toUInt32 &&& Int32.toUInt32 31)).toInt32 &&& nI 255
theorem ln_nat (i : Nat) (w : Int32) : ∃ u, u < 256 ∧ ln i w = nI u := pk_andE _ (m := nI 255) 8 (by decide)
def lo : Nat → Int32 → Int32
  | 0, _ => 0
  | i + 1, w => lo i w ^^^ (ln i w <<< (nI (8 * i) &&& 31))
theorem b_255n (j : Nat) : bt (nI 255) j = decide (j < 8) := b_255 j
theorem ln_b {i : Nat} (hi : i < 4) (w : Int32) (j : Nat) : bt (ln i w) j = (bt w (8 * i + j) && decide (j < 8)) := by
  unfold ln
  rw [b_and, b_255n, b_ushr (8 * i) (by omega)]
theorem lnsh_b {i : Nat} (hi : i < 4) (w : Int32) {j : Nat} (hj : j < 32) : bt (ln i w <<< (nI (8 * i) &&& 31)) j = (decide (8 * i ≤ j) && (bt w j && decide (j - 8 * i < 8))) := by
  rw [b_shl (8 * i) (by omega) _ hj, ln_b hi]
  rcases Nat.lt_or_ge j (8 * i) with h | h
  · rw [decide_eq_false (Nat.not_le.mpr h)]; rfl
  · rw [Nat.add_sub_cancel' h]
theorem lo_4 (w : Int32) : lo 4 w = w := b_ext (fun j hj => by
  show bt ((((0 ^^^ (ln 0 w <<< (nI (8 * 0) &&& 31))) ^^^ (ln 1 w <<< (nI (8 * 1) &&& 31))) ^^^ (ln 2 w <<< (nI (8 * 2) &&& 31))) ^^^ (ln 3 w <<< (nI (8 * 3) &&& 31))) j = bt w j
  rw [b_xor, b_xor, b_xor, b_xor, b_0, lnsh_b (i := 0) (by omega) w hj, lnsh_b (i := 1) (by omega) w hj, lnsh_b (i := 2) (by omega) w hj, lnsh_b (i := 3) (by omega) w hj]
  have hc : j < 8 ∨ (8 ≤ j ∧ j < 16) ∨ (16 ≤ j ∧ j < 24) ∨ 24 ≤ j := by omega
  rcases hc with h | h | h | h
  · rw [decide_eq_true (show 8 * 0 ≤ j by omega), decide_eq_true (show j - 8 * 0 < 8 by omega), decide_eq_false (show ¬ 8 * 1 ≤ j by omega), decide_eq_false (show ¬ 8 * 2 ≤ j by omega), decide_eq_false (show ¬ 8 * 3 ≤ j by omega)]
    cases bt w j <;> rfl
  · rw [decide_eq_false (show ¬ j - 8 * 0 < 8 by omega), decide_eq_true (show 8 * 1 ≤ j by omega), decide_eq_true (show j - 8 * 1 < 8 by omega), decide_eq_false (show ¬ 8 * 2 ≤ j by omega), decide_eq_false (show ¬ 8 * 3 ≤ j by omega)]
    cases bt w j <;> cases decide (8 * 0 ≤ j) <;> rfl
  · rw [decide_eq_false (show ¬ j - 8 * 0 < 8 by omega), decide_eq_false (show ¬ j - 8 * 1 < 8 by omega), decide_eq_true (show 8 * 2 ≤ j by omega), decide_eq_true (show j - 8 * 2 < 8 by omega), decide_eq_false (show ¬ 8 * 3 ≤ j by omega)]
    cases bt w j <;> cases decide (8 * 0 ≤ j) <;> cases decide (8 * 1 ≤ j) <;> rfl
  · rw [decide_eq_false (show ¬ j - 8 * 0 < 8 by omega), decide_eq_false (show ¬ j - 8 * 1 < 8 by omega), decide_eq_false (show ¬ j - 8 * 2 < 8 by omega), decide_eq_true (show 8 * 3 ≤ j by omega), decide_eq_true (show j - 8 * 3 < 8 by omega)]
    cases bt w j <;> cases decide (8 * 0 ≤ j) <;> cases decide (8 * 1 ≤ j) <;> cases decide (8 * 2 ≤ j) <;> rfl)
theorem sh_0 : ∀ i, i < 4 → nI 0 <<< (nI (8 * i) &&& 31) = 0 := by decide +kernel
theorem b_small {x j : Nat} (hx : x < 256) (hj : 8 ≤ j) : bt (nI x) j = false := by
  show (BitVec.ofNat 32 x).getLsbD j = false
  rw [BitVec.getLsbD_ofNat, Nat.testBit_lt_two_pow (Nat.lt_of_lt_of_le (show x < 2 ^ 8 from hx) (Nat.pow_le_pow_right (by decide) hj))]
  simp
theorem tm_or (v t : Int32) (n : Nat) (hv : ∀ j, n ≤ j → bt v j = false) (ht : ∀ j, j < n → bt t j = false) : v ||| t = v ^^^ t := b_ext (fun j _ => by
  rw [b_or, b_xor]
  rcases Nat.lt_or_ge j n with h | h
  · rw [ht j h]; cases bt v j <;> rfl
  · rw [hv j h]; cases bt t j <;> rfl)
/-- a step of 'times': the lanes done so far -/
theorem tm_step {i k : Nat} (hi : i < 4) {w v : Int32} (h : v = tp k (lo i w)) (hb : ∀ j, 8 * i ≤ j → bt v j = false) : v ||| tp k (ln i w <<< (nI (8 * i) &&& 31)) = tp k (lo (i + 1) w) ∧ ∀ j, 8 * (i + 1) ≤ j → bt (v ||| tp k (ln i w <<< (nI (8 * i) &&& 31))) j = false := by
  obtain ⟨u, hu, eu⟩ := ln_nat i w
  obtain ⟨x, hx, -, ex⟩ := tp_sh hi k u hu
  have hz : ∀ j, j < 8 * i → bt (nI x <<< (nI (8 * i) &&& 31)) j = false := by
    intro j hj
    rw [b_shl (8 * i) (by omega) _ (by omega), decide_eq_false (Nat.not_le.mpr hj)]
    rfl
  have ez : tp k (ln i w <<< (nI (8 * i) &&& 31)) = nI x <<< (nI (8 * i) &&& 31) := by rw [eu, ex]
  refine ⟨?_, ?_⟩
  · show _ = tp k (lo i w ^^^ (ln i w <<< (nI (8 * i) &&& 31)))
    rw [tp_lin, ← h, ez]
    exact tm_or v _ (8 * i) hb hz
  · intro j hj
    rw [b_or, hb j (by omega), ez]
    rcases Nat.lt_or_ge j 32 with h32 | h32
    · rw [b_shl (8 * i) (by omega) _ h32, b_small hx (by omega)]
      simp
    · rw [b_big h32]; rfl
theorem tm_0 {i k : Nat} (hi : i < 4) {w v : Int32} (h0 : ln i w = 0) : v ||| tp k (ln i w <<< (nI (8 * i) &&& 31)) = v := by
  rw [h0, show (0 : Int32) <<< (nI (8 * i) &&& 31) = 0 from sh_0 i hi, tp_0, Int32.or_zero]
/-- what a lane that is not 0 gives -/
theorem tm_x {i k u : Nat} (hi : i < 4) (hk : k < 255) {w : Int32} (hu : u < 256) (h0 : 0 < u) (e : ln i w = nI u) : nI (eN ((dl u + k) % 255)) <<< (nI (8 * i) &&& 31) = tp k (ln i w <<< (nI (8 * i) &&& 31)) := by
  obtain ⟨h1, h2⟩ := dl_in u hu h0
  obtain ⟨v, hv, e1, e2⟩ := tp_sh hi k u hu
  rw [e, e2, ← e1, ← tp_510 (by omega), Nat.add_comm, tp_add, tp_1 _ h1, h2]
/-- what holds of the lanes' generators holds of all words -/
theorem gen_ind (S : Int32 → Prop) (h0 : S 0) (hx : ∀ a b, S a → S b → S (a ^^^ b)) (hg : ∀ m i, m < 255 → i < 4 → S (tp m (nI 1 <<< (nI (8 * i) &&& 31)))) (w : Int32) : S w := by
  have hl : ∀ i, i < 4 → S (ln i w <<< (nI (8 * i) &&& 31)) := by
    intro i hi
    obtain ⟨u, hu, eu⟩ := ln_nat i w
    rw [eu]
    rcases Nat.eq_zero_or_pos u with h | h
    · rw [h, sh_0 i hi]; exact h0
    · obtain ⟨h1, h2⟩ := dl_in u hu h
      obtain ⟨v, hv, e1, e2⟩ := tp_sh hi (dl u) 1 (by omega)
      rw [tp_1 (dl u) h1, h2] at e1
      rw [e1, ← e2]
      exact hg _ _ h1 hi
  have hs : ∀ i, i ≤ 4 → S (lo i w) := by
    intro i
    induction i with
    | zero => intro _; exact h0
    | succ i ih => intro hi; exact hx _ _ (ih (by omega)) (hl i (by omega))
  have h4 := hs 4 (Nat.le_refl 4)
  rw [lo_4] at h4
  exact h4
theorem tp_g {i : Nat} (hi : i < 4) {a : Nat} (ha : a < 255) : tp a (nI 1 <<< (nI (8 * i) &&& 31)) = nI (eN a) <<< (nI (8 * i) &&& 31) := by
  obtain ⟨v, hv, e1, e2⟩ := tp_sh hi a 1 (by omega)
  rw [e2, ← e1, tp_1 a ha]
theorem tp_id (w : Int32) : tp 255 w = w := gen_ind (fun w => tp 255 w = w) (tp_0 255) (fun a b (ha : tp 255 a = a) (hb : tp 255 b = b) => by
    show tp 255 (a ^^^ b) = a ^^^ b
    rw [tp_lin, ha, hb]) (fun m i hm hi => by
    show tp 255 (tp m _) = tp m _
    obtain ⟨v, hv, e1, e2⟩ := tp_sh hi 255 1 (by omega)
    rw [tp_255] at e1
    rw [tp_comm, e2, ← e1]) w
/-- two powers' sum is a power: on all words -/
theorem tp_two {i j L : Nat} (hi : i < 255) (hj : j < 255) (hL : L < 255) (h : nI (eN i) ^^^ nI (eN j) = nI (eN L)) (w : Int32) : tp i w ^^^ tp j w = tp L w := gen_ind (fun w => tp i w ^^^ tp j w = tp L w) (by
    show tp i 0 ^^^ tp j 0 = tp L 0
    rw [tp_0, tp_0, tp_0, Int32.xor_self]) (fun a b (ha : tp i a ^^^ tp j a = tp L a) (hb : tp i b ^^^ tp j b = tp L b) => by
    show tp i (a ^^^ b) ^^^ tp j (a ^^^ b) = tp L (a ^^^ b)
    rw [tp_lin, tp_lin, tp_lin, xor4, ha, hb]) (fun m q hm hq => by
    show tp i (tp m _) ^^^ tp j (tp m _) = tp L (tp m _)
    rw [tp_comm i m, tp_comm j m, tp_comm L m, ← tp_lin, tp_g hq hi, tp_g hq hj, tp_g hq hL, ← xor_shl (8 * q) (by omega), h]) w
theorem tp_inv {k : Nat} (hk : k < 255) (w : Int32) : tp ((255 - k) % 255) (tp k w) = w := by
  rcases Nat.eq_zero_or_pos k with h | h
  · subst h; rfl
  · rw [Nat.mod_eq_of_lt (by omega), ← tp_add, Nat.sub_add_cancel (by omega), tp_id]
end
section
/-! PART 02: sums over disks, what a disk has, the three ways of finding a lost one (no program in sight) -/
def ps : Nat → (Nat → Int32) → Int32
  | 0, _ => 0
  | n + 1, f => ps n f ^^^ f n
theorem ps_congr {n : Nat} {f g : Nat → Int32} (h : ∀ k, k < n → f k = g k) : ps n f = ps n g := by
  induction n with
  | zero => rfl
  | succ n ih =>
    show ps n f ^^^ f n = ps n g ^^^ g n
    rw [ih (fun k hk => h k (by omega)), h n (by omega)]
theorem ps_xor (n : Nat) (f g : Nat → Int32) : ps n f ^^^ ps n g = ps n (fun k => f k ^^^ g k) := by
  induction n with
  | zero => exact Int32.xor_self
  | succ n ih =>
    show (ps n f ^^^ f n) ^^^ (ps n g ^^^ g n) = ps n (fun k => f k ^^^ g k) ^^^ (f n ^^^ g n)
    rw [xor4, ih]
theorem ps_z {n : Nat} {f : Nat → Int32} (h : ∀ k, k < n → f k = 0) : ps n f = 0 := by
  induction n with
  | zero => rfl
  | succ n ih =>
    show ps n f ^^^ f n = 0
    rw [ih (fun k hk => h k (by omega)), h n (by omega), Int32.xor_self]
theorem ps_at {n x : Nat} (hx : x < n) (a : Int32) : ps n (fun k => if k = x then a else 0) = a := by
  induction n with
  | zero => omega
  | succ n ih =>
    show ps n (fun k => if k = x then a else 0) ^^^ (if n = x then a else 0) = a
    rcases Nat.lt_or_ge x n with h | h
    · rw [ih h, if_neg (by omega), Int32.xor_zero]
    · rw [ps_z (fun k hk => if_neg (by omega)), if_pos (by omega), Int32.zero_xor]
/-- the disks but one or two -/
def xf (f : Nat → Int32) (b o : Int32) : Nat → Int32 := fun k => if nI k = b ∨ nI k = o then 0 else f k
theorem nI_m1 {k : Nat} (hk : k < 2 ^ 31) : ¬ nI k = -1 := by
  intro h
  have h1 := nI_toInt hk
  rw [h] at h1
  have h2 : (-1 : Int32).toInt = -1 := by decide
  omega
theorem xf_1 {d x : Nat} (hd : d ≤ 20) (hx : x < d) (f : Nat → Int32) : ps d f ^^^ ps d (xf f (nI x) (-1)) = f x := by
  rw [ps_xor, ps_congr (g := fun k => if k = x then f x else 0), ps_at hx]
  intro k hk
  show f k ^^^ (if nI k = nI x ∨ nI k = -1 then 0 else f k) = _
  by_cases h : k = x
  · subst h
    rw [if_pos (Or.inl rfl), if_pos rfl, Int32.xor_zero]
  · have hn : ¬ (nI k = nI x ∨ nI k = -1) := by
      intro q
      rcases q with q | q
      · exact h ((nI_eq (by omega) (by omega)).mp q)
      · exact nI_m1 (by omega) q
    rw [if_neg hn, if_neg h, Int32.xor_self]
theorem xf_2 {d x y : Nat} (hd : d ≤ 20) (hx : x < d) (hy : y < d) (hxy : x ≠ y) (f : Nat → Int32) : ps d f ^^^ ps d (xf f (nI x) (nI y)) = f x ^^^ f y := by
  rw [ps_xor, ps_congr (g := fun k => (if k = x then f x else 0) ^^^ (if k = y then f y else 0)), ← ps_xor d (fun k => if k = x then f x else 0) (fun k => if k = y then f y else 0), ps_at hx, ps_at hy]
  intro k hk
  show f k ^^^ (if nI k = nI x ∨ nI k = nI y then 0 else f k) = _
  by_cases h : k = x
  · subst h
    rw [if_pos (Or.inl rfl), if_pos rfl, if_neg hxy, Int32.xor_zero]
  · by_cases h2 : k = y
    · subst h2
      rw [if_pos (Or.inr rfl), if_neg h, if_pos rfl, Int32.xor_zero, Int32.zero_xor]
    · have hn : ¬ (nI k = nI x ∨ nI k = nI y) := by
        intro q
        rcases q with q | q
        · exact h ((nI_eq (by omega) (by omega)).mp q)
        · exact h2 ((nI_eq (by omega) (by omega)).mp q)
      rw [if_neg hn, if_neg h, if_neg h2, Int32.xor_self, Int32.xor_self]
theorem xf_0 {d : Nat} (hd : d ≤ 20) (f : Nat → Int32) : ps d (xf f (-1) (-1)) = ps d f := ps_congr (fun k hk => by
  have hn : ¬ (nI k = -1 ∨ nI k = -1) := by
    intro q
    rcases q with q | q <;> exact nI_m1 (by omega) q
  exact if_neg hn)
theorem xf_step {d : Nat} (f : Nat → Int32) (b o : Int32) : (nI d = b ∨ nI d = o → ps (d + 1) (xf f b o) = ps d (xf f b o)) ∧ (¬ (nI d = b ∨ nI d = o) → ps (d + 1) (xf f b o) = ps d (xf f b o) ^^^ f d) := by
  refine ⟨fun h => ?_, fun h => ?_⟩
  · show ps d (xf f b o) ^^^ (if nI d = b ∨ nI d = o then 0 else f d) = _
    rw [if_pos h, Int32.xor_zero]
  · show ps d (xf f b o) ^^^ (if nI d = b ∨ nI d = o then 0 else f d) = _
    rw [if_neg h]
theorem xf_congr {d : Nat} {f g : Nat → Int32} {b o : Int32} (h : ∀ k, k < d → ¬ (nI k = b ∨ nI k = o) → f k = g k) : ps d (xf f b o) = ps d (xf g b o) := ps_congr (fun k hk => by
  show (if nI k = b ∨ nI k = o then 0 else f k) = (if nI k = b ∨ nI k = o then 0 else g k)
  by_cases q : nI k = b ∨ nI k = o
  · rw [if_pos q, if_pos q]
  · rw [if_neg q, if_neg q, h k hk q])
/-! ===== tables; what a disk that is alive has ===== -/
def TB (ex lg : Nat → Int32) : Prop := (∀ j, j < 510 → ex j = nI (eN (j % 255))) ∧ ∀ u, u < 256 → 0 < u → lg u = nI (dl u)
def du (d : Nat) (M : Nat → Int32) (k a : Nat) : Int32 := if k < d then M (40 * k + a) else if k = d then ps d (fun i => M (40 * i + a)) else ps d (fun i => tp i (M (40 * i + a)))
theorem du_d {d : Nat} {M : Nat → Int32} {k a : Nat} (h : k < d) : du d M k a = M (40 * k + a) := if_pos h
theorem du_p {d : Nat} {M : Nat → Int32} {a : Nat} : du d M d a = ps d (fun i => M (40 * i + a)) := by
  unfold du
  rw [if_neg (Nat.lt_irrefl d), if_pos rfl]
theorem du_q {d : Nat} {M : Nat → Int32} {a : Nat} : du d M (d + 1) a = ps d (fun i => tp i (M (40 * i + a))) := by
  unfold du
  rw [if_neg (by omega), if_neg (by omega)]
def AL (d bl : Nat) (M ce de : Nat → Int32) : Prop := ∀ k a, k < d + 2 → a < bl → de k = 0 → ce (40 * k + a) = du d M k a
theorem fd1 {d bl x a : Nat} {M ce de : Nat → Int32} (hd : d ≤ 20) (hx : x < d) (ha : a < bl) (hA : AL d bl M ce de) (ho : ∀ k, k < d → k ≠ x → de k = 0) (hp : de d = 0) :
    ce (40 * d + a) ^^^ ps d (xf (fun k => ce (40 * k + a)) (nI x) (-1)) = M (40 * x + a) := by
  rw [hA d a (by omega) ha hp, du_p, xf_congr (g := fun k => M (40 * k + a)), xf_1 hd hx]
  intro k hk hn
  show ce (40 * k + a) = M (40 * k + a)
  rw [hA k a (by omega) ha (ho k hk (fun q => hn (Or.inl (by rw [q])))), du_d hk]
theorem fdq {d bl x a : Nat} {M ce de : Nat → Int32} (hd : d ≤ 20) (hx : x < d) (ha : a < bl) (hA : AL d bl M ce de) (ho : ∀ k, k < d → k ≠ x → de k = 0) (hq : de (d + 1) = 0) :
    ce (40 * (d + 1) + a) ^^^ ps d (xf (fun k => tp k (ce (40 * k + a))) (nI x) (-1)) = tp x (M (40 * x + a)) := by
  rw [hA (d + 1) a (by omega) ha hq, du_q, xf_congr (g := fun k => tp k (M (40 * k + a))), xf_1 hd hx]
  intro k hk hn
  show tp k (ce (40 * k + a)) = tp k (M (40 * k + a))
  rw [hA k a (by omega) ha (ho k hk (fun q => hn (Or.inl (by rw [q])))), du_d hk]
theorem fd2 {d bl x a : Nat} {M ce de : Nat → Int32} (hd : d ≤ 20) (hx : x < d) (ha : a < bl) (hA : AL d bl M ce de) (ho : ∀ k, k < d → k ≠ x → de k = 0) (hq : de (d + 1) = 0) :
    tp ((255 - x) % 255) (ce (40 * (d + 1) + a) ^^^ ps d (xf (fun k => tp k (ce (40 * k + a))) (nI x) (-1))) = M (40 * x + a) := by
  rw [fdq hd hx ha hA ho hq, tp_inv (by omega)]
theorem fd3p {d bl x y a : Nat} {M ce de : Nat → Int32} (hd : d ≤ 20) (hx : x < d) (hy : y < d) (hxy : x ≠ y) (ha : a < bl) (hA : AL d bl M ce de) (ho : ∀ k, k < d → k ≠ x → k ≠ y → de k = 0) (hp : de d = 0) :
    ce (40 * d + a) ^^^ ps d (xf (fun k => ce (40 * k + a)) (nI x) (nI y)) = M (40 * x + a) ^^^ M (40 * y + a) := by
  rw [hA d a (by omega) ha hp, du_p, xf_congr (g := fun k => M (40 * k + a)), xf_2 hd hx hy hxy]
  intro k hk hn
  show ce (40 * k + a) = M (40 * k + a)
  rw [hA k a (by omega) ha (ho k hk (fun q => hn (Or.inl (by rw [q]))) (fun q => hn (Or.inr (by rw [q])))), du_d hk]
theorem fd3q {d bl x y a : Nat} {M ce de : Nat → Int32} (hd : d ≤ 20) (hx : x < d) (hy : y < d) (hxy : x ≠ y) (ha : a < bl) (hA : AL d bl M ce de) (ho : ∀ k, k < d → k ≠ x → k ≠ y → de k = 0) (hq : de (d + 1) = 0) :
    ce (40 * (d + 1) + a) ^^^ ps d (xf (fun k => tp k (ce (40 * k + a))) (nI x) (nI y)) = tp x (M (40 * x + a)) ^^^ tp y (M (40 * y + a)) := by
  rw [hA (d + 1) a (by omega) ha hq, du_q, xf_congr (g := fun k => tp k (M (40 * k + a))), xf_2 hd hx hy hxy]
  intro k hk hn
  show tp k (ce (40 * k + a)) = tp k (M (40 * k + a))
  rw [hA k a (by omega) ha (ho k hk (fun q => hn (Or.inl (by rw [q]))) (fun q => hn (Or.inr (by rw [q])))), du_d hk]
/-- the lane by which is divided: it isn't 0 -/
theorem e_xor {x y : Nat} (hx : x < 255) (hy : y < 255) (hxy : x ≠ y) : 0 < eN x ^^^ eN y ∧ eN x ^^^ eN y < 256 := by
  have h1 := e_in x hx
  have h2 := e_in y hy
  refine ⟨Nat.pos_of_ne_zero (fun h => hxy ?_), Nat.xor_lt_two_pow (n := 8) h1.2.1 h2.2.1⟩
  have e : eN x = eN y := by
    have h3 : (eN x ^^^ eN y) ^^^ eN y = 0 ^^^ eN y := by rw [h]
    rw [Nat.xor_assoc, Nat.xor_self, Nat.xor_zero, Nat.zero_xor] at h3
    exact h3
  rw [← h1.2.2, ← h2.2.2, e]
theorem fd3 {d x y : Nat} (hd : d ≤ 20) (hx : x < d) (hy : y < d) (hxy : x ≠ y) (u v : Int32) :
    tp ((255 - dl (eN x ^^^ eN y)) % 255) ((tp x u ^^^ tp y v) ^^^ tp y (u ^^^ v)) = u := by
  obtain ⟨h0, h1⟩ := e_xor (x := x) (y := y) (by omega) (by omega) hxy
  obtain ⟨h2, h3⟩ := dl_in _ h1 h0
  have e : (tp x u ^^^ tp y v) ^^^ tp y (u ^^^ v) = tp (dl (eN x ^^^ eN y)) u := by
    rw [tp_lin, xor4, Int32.xor_self, Int32.xor_zero]
    exact tp_two (by omega) (by omega) h2 (by rw [nx_xor, h3]) u
  rw [e, tp_inv h2]
/-! ===== how many are lost ===== -/
def cnt : Nat → (Nat → Int32) → Nat
  | 0, _ => 0
  | n + 1, f => if f n = 0 then cnt n f else cnt n f + 1
theorem cnt_le (n : Nat) (f : Nat → Int32) : cnt n f ≤ n := by
  induction n with
  | zero => exact Nat.le_refl 0
  | succ n ih =>
    show (if f n = 0 then cnt n f else cnt n f + 1) ≤ n + 1
    split <;> omega
theorem cnt_s0 {n : Nat} {f : Nat → Int32} (h : f n = 0) : cnt (n + 1) f = cnt n f := if_pos h
theorem cnt_s1 {n : Nat} {f : Nat → Int32} (h : ¬ f n = 0) : cnt (n + 1) f = cnt n f + 1 := if_neg h
theorem cnt_mono {f : Nat → Int32} {i n : Nat} (h : i ≤ n) : cnt i f ≤ cnt n f := by
  induction n with
  | zero => rw [Nat.le_zero.mp h]; exact Nat.le_refl _
  | succ n ih =>
    rcases Nat.lt_or_ge i (n + 1) with q | q
    · have h1 := ih (by omega)
      have h2 : cnt n f ≤ cnt (n + 1) f := by
        show cnt n f ≤ (if f n = 0 then cnt n f else cnt n f + 1)
        split <;> omega
      omega
    · rw [show i = n + 1 by omega]; exact Nat.le_refl _
theorem cnt_3 {f : Nat → Int32} {n i j k : Nat} (h2 : cnt n f ≤ 2) (hij : i < j) (hjk : j < k) (hkn : k < n) (hi : ¬ f i = 0) (hj : ¬ f j = 0) (hk : ¬ f k = 0) : False := by
  have a1 := cnt_s1 hi
  have a2 := cnt_s1 hj
  have a3 := cnt_s1 hk
  have b1 := cnt_mono (f := f) (show i + 1 ≤ j by omega)
  have b2 := cnt_mono (f := f) (show j + 1 ≤ k by omega)
  have b3 := cnt_mono (f := f) (show k + 1 ≤ n by omega)
  omega
theorem cnt_congr {f g : Nat → Int32} {n : Nat} (h : ∀ k, k < n → f k = g k) : cnt n f = cnt n g := by
  induction n with
  | zero => rfl
  | succ n ih =>
    show (if f n = 0 then cnt n f else cnt n f + 1) = (if g n = 0 then cnt n g else cnt n g + 1)
    rw [ih (fun k hk => h k (by omega)), h n (by omega)]
theorem cnt_z {f : Nat → Int32} {n : Nat} (h : ∀ k, k < n → f k = 0) : cnt n f = 0 := by
  induction n with
  | zero => rfl
  | succ n ih => rw [cnt_s0 (h n (by omega)), ih (fun k hk => h k (by omega))]
theorem cnt_ext {f : Nat → Int32} {m n : Nat} (hmn : m ≤ n) (h : ∀ k, m ≤ k → k < n → f k = 0) : cnt n f = cnt m f := by
  induction n with
  | zero => rw [Nat.le_zero.mp hmn]
  | succ n ih =>
    rcases Nat.lt_or_ge m (n + 1) with q | q
    · rw [cnt_s0 (h n (by omega) (by omega)), ih (by omega) (fun k h1 h2 => h k h1 (by omega))]
    · rw [show m = n + 1 by omega]
theorem cnt_up {f : Nat → Int32} {n x : Nat} (v : Int32) (h0 : f x = 0) : cnt n (upd f x v) ≤ cnt n f + 1 ∧ (n ≤ x → cnt n (upd f x v) = cnt n f) := by
  induction n with
  | zero => exact ⟨Nat.zero_le _, fun _ => rfl⟩
  | succ n ih =>
    by_cases hx : n = x
    · subst hx
      refine ⟨?_, fun h => by omega⟩
      have e := ih.2 (Nat.le_refl n)
      rw [cnt_s0 h0]
      show (if upd f n v n = 0 then cnt n (upd f n v) else cnt n (upd f n v) + 1) ≤ _
      split <;> omega
    · have e : upd f x v n = f n := pk_un hx
      refine ⟨?_, fun h => ?_⟩
      · show (if upd f x v n = 0 then cnt n (upd f x v) else cnt n (upd f x v) + 1) ≤ (if f n = 0 then cnt n f else cnt n f + 1) + 1
        rw [e]
        split <;> omega
      · show (if upd f x v n = 0 then cnt n (upd f x v) else cnt n (upd f x v) + 1) = (if f n = 0 then cnt n f else cnt n f + 1)
        rw [e, ih.2 (by omega)]
/-- at most two are lost: with two of them known no other is -/
theorem lost2 {f : Nat → Int32} {n x y k : Nat} (h2 : cnt n f ≤ 2) (hx : x < n) (hy : y < n) (hk : k < n) (hxy : x ≠ y) (hkx : k ≠ x) (hky : k ≠ y) (fx : ¬ f x = 0) (fy : ¬ f y = 0) : f k = 0 := by
  by_cases h : f k = 0
  · exact h
  · exfalso
    rcases Nat.lt_or_ge x y with a | a <;> rcases Nat.lt_or_ge k x with b | b <;> rcases Nat.lt_or_ge k y with c | c
    · exact cnt_3 h2 b a hy h fx fy
    · omega
    · exact cnt_3 h2 (show x < k by omega) c hy fx h fy
    · exact cnt_3 h2 a (show y < k by omega) hk fx fy h
    · exact cnt_3 h2 c (show y < x by omega) hx h fy fx
    · exact cnt_3 h2 (show y < k by omega) b hx fy h fx
    · omega
    · exact cnt_3 h2 (show y < x by omega) (show x < k by omega) hk fy fx h
end
section
/-! PART 03: PART A of the skeleton and its rows ahead of YOUR PART (starting text), then names and words -/
-- ===== PART A: goes FIRST, ahead of the names: the tables' words, and 'selects' of the private methods out of them =====
/-- a private method of a class that the tables say can be made, by its rows of tables_1 -/
def lw_okq (q : MethodName × Nat) : Prop := (q.1.cls ≠ "java/lang/invoke/MethodHandle" ∧ q.1.cls ≠ "java/lang/invoke/VarHandle") ∧ Cond.instantiable q.1.cls q.2 ∈ tables_1 ∧ Cond.privateMethod q.1 ∈ tables_1 ∧ Cond.instanceMethod q.1 ∈ tables_1
theorem lw_p0 : lw_okq (⟨"TwoLost", "isCell", "(III)Z"⟩, 7) := ⟨⟨by decide +kernel, by decide +kernel⟩, List.mem_of_getElem? (i := 4) (by decide +kernel), List.mem_of_getElem? (i := 47) (by decide +kernel), List.mem_of_getElem? (i := 48) (by decide +kernel)⟩
theorem lw_p1 : lw_okq (⟨"TwoLost", "valueOf", "(II)I"⟩, 7) := ⟨⟨by decide +kernel, by decide +kernel⟩, List.mem_of_getElem? (i := 4) (by decide +kernel), List.mem_of_getElem? (i := 51) (by decide +kernel), List.mem_of_getElem? (i := 52) (by decide +kernel)⟩
theorem lw_p2 : lw_okq (⟨"TwoLost", "found", "(II)I"⟩, 7) := ⟨⟨by decide +kernel, by decide +kernel⟩, List.mem_of_getElem? (i := 4) (by decide +kernel), List.mem_of_getElem? (i := 55) (by decide +kernel), List.mem_of_getElem? (i := 56) (by decide +kernel)⟩
theorem lw_p3 : lw_okq (⟨"TwoLost", "otherLost", "(I)I"⟩, 7) := ⟨⟨by decide +kernel, by decide +kernel⟩, List.mem_of_getElem? (i := 4) (by decide +kernel), List.mem_of_getElem? (i := 59) (by decide +kernel), List.mem_of_getElem? (i := 60) (by decide +kernel)⟩
theorem lw_p4 : lw_okq (⟨"TwoLost", "at", "(II)I"⟩, 7) := ⟨⟨by decide +kernel, by decide +kernel⟩, List.mem_of_getElem? (i := 4) (by decide +kernel), List.mem_of_getElem? (i := 63) (by decide +kernel), List.mem_of_getElem? (i := 64) (by decide +kernel)⟩
theorem lw_p5 : lw_okq (⟨"TwoLost", "sumOf", "(III)I"⟩, 7) := ⟨⟨by decide +kernel, by decide +kernel⟩, List.mem_of_getElem? (i := 4) (by decide +kernel), List.mem_of_getElem? (i := 67) (by decide +kernel), List.mem_of_getElem? (i := 68) (by decide +kernel)⟩
theorem lw_p6 : lw_okq (⟨"TwoLost", "weightedOf", "(III)I"⟩, 7) := ⟨⟨by decide +kernel, by decide +kernel⟩, List.mem_of_getElem? (i := 4) (by decide +kernel), List.mem_of_getElem? (i := 71) (by decide +kernel), List.mem_of_getElem? (i := 72) (by decide +kernel)⟩
theorem lw_p7 : lw_okq (⟨"TwoLost", "times", "(II)I"⟩, 7) := ⟨⟨by decide +kernel, by decide +kernel⟩, List.mem_of_getElem? (i := 4) (by decide +kernel), List.mem_of_getElem? (i := 75) (by decide +kernel), List.mem_of_getElem? (i := 76) (by decide +kernel)⟩
theorem lw_p8 : lw_okq (⟨"TwoLost", "over", "(II)I"⟩, 7) := ⟨⟨by decide +kernel, by decide +kernel⟩, List.mem_of_getElem? (i := 4) (by decide +kernel), List.mem_of_getElem? (i := 79) (by decide +kernel), List.mem_of_getElem? (i := 80) (by decide +kernel)⟩
theorem lw_p9 : lw_okq (⟨"TwoLost", "restore", "(I)V"⟩, 7) := ⟨⟨by decide +kernel, by decide +kernel⟩, List.mem_of_getElem? (i := 4) (by decide +kernel), List.mem_of_getElem? (i := 112) (by decide +kernel), List.mem_of_getElem? (i := 113) (by decide +kernel)⟩
theorem lw_p10 : lw_okq (⟨"TwoLost", "isSound", "(I)Z"⟩, 7) := ⟨⟨by decide +kernel, by decide +kernel⟩, List.mem_of_getElem? (i := 4) (by decide +kernel), List.mem_of_getElem? (i := 121) (by decide +kernel), List.mem_of_getElem? (i := 122) (by decide +kernel)⟩
theorem lw_p11 : lw_okq (⟨"TwoLostModel", "isData", "(II)Z"⟩, 6) := ⟨⟨by decide +kernel, by decide +kernel⟩, List.mem_of_getElem? (i := 128) (by decide +kernel), List.mem_of_getElem? (i := 161) (by decide +kernel), List.mem_of_getElem? (i := 162) (by decide +kernel)⟩
theorem lw_p12 : lw_okq (⟨"TwoLostModel", "isPlace", "(I)Z"⟩, 6) := ⟨⟨by decide +kernel, by decide +kernel⟩, List.mem_of_getElem? (i := 128) (by decide +kernel), List.mem_of_getElem? (i := 165) (by decide +kernel), List.mem_of_getElem? (i := 166) (by decide +kernel)⟩
theorem lw_p13 : lw_okq (⟨"TwoLostModel", "isDisk", "(I)Z"⟩, 6) := ⟨⟨by decide +kernel, by decide +kernel⟩, List.mem_of_getElem? (i := 128) (by decide +kernel), List.mem_of_getElem? (i := 177) (by decide +kernel), List.mem_of_getElem? (i := 178) (by decide +kernel)⟩
theorem lw_p14 : lw_okq (⟨"TwoLostModel", "due", "(II)I"⟩, 6) := ⟨⟨by decide +kernel, by decide +kernel⟩, List.mem_of_getElem? (i := 128) (by decide +kernel), List.mem_of_getElem? (i := 185) (by decide +kernel), List.mem_of_getElem? (i := 186) (by decide +kernel)⟩
def lw_privs_1 : List (MethodName × Nat) := [(⟨"TwoLost", "isCell", "(III)Z"⟩, 7), (⟨"TwoLost", "valueOf", "(II)I"⟩, 7), (⟨"TwoLost", "found", "(II)I"⟩, 7), (⟨"TwoLost", "otherLost", "(I)I"⟩, 7), (⟨"TwoLost", "at", "(II)I"⟩, 7), (⟨"TwoLost", "sumOf", "(III)I"⟩, 7), (⟨"TwoLost", "weightedOf", "(III)I"⟩, 7), (⟨"TwoLost", "times", "(II)I"⟩, 7), (⟨"TwoLost", "over", "(II)I"⟩, 7), (⟨"TwoLost", "restore", "(I)V"⟩, 7), (⟨"TwoLost", "isSound", "(I)Z"⟩, 7), (⟨"TwoLostModel", "isData", "(II)Z"⟩, 6), (⟨"TwoLostModel", "isPlace", "(I)Z"⟩, 6), (⟨"TwoLostModel", "isDisk", "(I)Z"⟩, 6), (⟨"TwoLostModel", "due", "(II)I"⟩, 6)]
theorem lw_r1 : ∀ q ∈ lw_privs_1, lw_okq q := List.forall_mem_cons.mpr ⟨lw_p0, List.forall_mem_cons.mpr ⟨lw_p1, List.forall_mem_cons.mpr ⟨lw_p2, List.forall_mem_cons.mpr ⟨lw_p3, List.forall_mem_cons.mpr ⟨lw_p4, List.forall_mem_cons.mpr ⟨lw_p5, List.forall_mem_cons.mpr ⟨lw_p6, List.forall_mem_cons.mpr ⟨lw_p7, List.forall_mem_cons.mpr ⟨lw_p8, List.forall_mem_cons.mpr ⟨lw_p9, List.forall_mem_cons.mpr ⟨lw_p10, List.forall_mem_cons.mpr ⟨lw_p11, List.forall_mem_cons.mpr ⟨lw_p12, List.forall_mem_cons.mpr ⟨lw_p13, List.forall_mem_cons.mpr ⟨lw_p14, fun _ h => absurd h List.not_mem_nil⟩⟩⟩⟩⟩⟩⟩⟩⟩⟩⟩⟩⟩⟩⟩
def lw_privs : List (MethodName × Nat) := lw_privs_1
def lw_tbl : List Cond := k2_sels lw_privs ++ tables_1
theorem lw_privs_ok : ∀ q ∈ lw_privs, lw_okq q := lw_r1
-- ===== end of PART A; then your names; then what follows =====
/-! THE CLAIM OUT OF ONE WALK OF THE LAW'S BODY. Your part is whole_start (and what it stands on); all else here is the same for every law, but numbers. -/
def R_law : String := "TwoLostLaw"
def lw_P (b : Addr) (xs : List Int32) (args : Array Value) (s : State) : Prop := args = #[.ref b] ∧ s.IntsAt b xs ∧ xs.length ≤ 2050 ∧ (Jvm.Cond.and given_1 narrow_1).before args s = true
def lw_Q (_ : Array Value) (s : State) (o : Outcome) (t : State) : Prop := o = .returned (some (.int 1)) ∧ Framed s o t [] 9 3383
def lw_Z (below : List Frame) (a : Array Value) (s : State) : State → Prop := fun t => ∃ o, t.status = .running ∧ Ended t below o ∧ lw_Q a s o t
/-- the law's own end, with 1 on the stack, nothing written that was there before, its room as the claim has it -/
theorem lw_ret {p : Program} {l : Launch} {e : Env} {s : State} {m : MethodId} {below : List Frame} {meth : Method} {c : Code} {b : Nat} (hx : p.tables.exec = Jvm.exec) (hb : c.code = code) (hr : meth.sig.returnType = ret) (hlocks : meth.locks = false) {pc : Nat} {H : Heap} {ls : Array Slot} (hdg : decode code pc = .ok (.ireturn, 1)) : W p l e room_1 s m #[Value.ref b] below meth c H [] 9 3383 (lw_Z below #[Value.ref b] s) (F0 m pc ls [.int 1]) := by
  intro T hT X
  obtain ⟨fs, hret, hrun, hended, hW, hframe⟩ := X.leave (v := some (.int 1)) (hlocks := hlocks) (fun h => by rw [hr] at h; cases h)
  have hmeth' : T.vm.method? m = some meth := X.method'
  refine ⟨T.setFrames fs, ?_, .returned (some (.int 1)), hrun, hended, rfl, ⟨_, rfl⟩, hW, hframe⟩
  jvm_step X.here [X.here.top, hx, hb, hdg, hmeth', hr, ret, narrow_b1]
  (try refine ⟨rfl, ?_⟩); (try refine ⟨rfl, ?_⟩)
  first | (intro acts; rw [hret _ acts rfl rfl rfl]) | rw [hret _ _ rfl rfl rfl]
  exact Steps.refl _
/-- what holds at the law's entry: the machine, the code, the tables' words (any of lw_tbl by 'hts w (by decide +kernel)'), the script of L ints xs at the cell b, what the Statement gives of the start (any of its parts by flat_of_before) -/
def lw_At (p : Program) (s : State) (m : MethodId) (meth : Method) (c : Code) (b L : Nat) (xs : Nat → Int32) : Prop :=
  p.tables.exec = Jvm.exec ∧ c.code = code ∧ meth.sig.returnType = ret ∧ c.maxLocals = 4 ∧ s.vm.findClass R_law = some m.cls ∧ (∀ w ∈ lw_tbl, w.before #[Value.ref b] s = true) ∧ va_X b L xs s s.heap ∧ b < s.heap.size ∧ meth.locks = false ∧ (Jvm.Cond.and given_1 narrow_1).before #[Value.ref b] s = true
-- ===== names =====
def R_X : String := "TwoLost"
def F_X : u_T := fun k => match k with
  | 0 => ("TwoLost", "d", "I", true)
  | 1 => ("TwoLost", "blocks", "I", true)
  | 2 => ("TwoLost", "exp", "[I", true)
  | 3 => ("TwoLost", "log", "[I", true)
  | 4 => ("TwoLost", "cells", "[I", true)
  | 5 => ("TwoLost", "dead", "[Z", true)
  | _ => ("TwoLost", "ready", "Z", false)
def t_X : Nat → FieldType := fun k => match k with
  | 0 => .int
  | 1 => .int
  | 2 => .array .int
  | 3 => .array .int
  | 4 => .array .int
  | 5 => .array .boolean
  | _ => .boolean
abbrev w_X : List Cond := u_ws R_X F_X 7
def R_M : String := "TwoLostModel"
def F_M : u_T := fun k => match k with
  | 0 => ("TwoLostModel", "disks", "I", true)
  | 1 => ("TwoLostModel", "places", "I", true)
  | 2 => ("TwoLostModel", "isThere", "Z", false)
  | 3 => ("TwoLostModel", "map", "[I", true)
  | 4 => ("TwoLostModel", "kept", "[I", true)
  | _ => ("TwoLostModel", "isFailed", "[Z", true)
def t_M : Nat → FieldType := fun k => match k with
  | 0 => .int
  | 1 => .int
  | 2 => .boolean
  | 3 => .array .int
  | 4 => .array .int
  | _ => .array .boolean
abbrev w_M : List Cond := u_ws R_M F_M 6
abbrev classes : List vw_C := [(R_X, F_X, 7), (R_M, F_M, 6)]
abbrev y_X_ctor : MethodName := ⟨"TwoLost", "<init>", "(II)V"⟩
abbrev b_X_ctor : ByteArray := prog_1_method_1_code
abbrev y_X_within : MethodName := ⟨"TwoLost", "within", "(II)I"⟩
abbrev b_X_within : ByteArray := prog_1_method_2_code
abbrev y_X_init : MethodName := ⟨"TwoLost", "init", "()V"⟩
abbrev b_X_init : ByteArray := prog_1_method_3_code
abbrev y_X_write : MethodName := ⟨"TwoLost", "write", "(III)Z"⟩
abbrev b_X_write : ByteArray := prog_1_method_13_code
abbrev y_X_isCell : MethodName := ⟨"TwoLost", "isCell", "(III)Z"⟩
abbrev b_X_isCell : ByteArray := prog_1_method_12_code
abbrev y_X_valueOf : MethodName := ⟨"TwoLost", "valueOf", "(II)I"⟩
abbrev b_X_valueOf : ByteArray := prog_1_method_11_code
abbrev y_X_found : MethodName := ⟨"TwoLost", "found", "(II)I"⟩
abbrev b_X_found : ByteArray := prog_1_method_10_code
abbrev y_X_otherLost : MethodName := ⟨"TwoLost", "otherLost", "(I)I"⟩
abbrev b_X_otherLost : ByteArray := prog_1_method_9_code
abbrev y_X_at : MethodName := ⟨"TwoLost", "at", "(II)I"⟩
abbrev b_X_at : ByteArray := prog_1_method_6_code
abbrev y_X_sumOf : MethodName := ⟨"TwoLost", "sumOf", "(III)I"⟩
abbrev b_X_sumOf : ByteArray := prog_1_method_7_code
abbrev y_X_weightedOf : MethodName := ⟨"TwoLost", "weightedOf", "(III)I"⟩
abbrev b_X_weightedOf : ByteArray := prog_1_method_8_code
abbrev y_X_times : MethodName := ⟨"TwoLost", "times", "(II)I"⟩
abbrev b_X_times : ByteArray := prog_1_method_4_code
abbrev y_X_over : MethodName := ⟨"TwoLost", "over", "(II)I"⟩
abbrev b_X_over : ByteArray := prog_1_method_5_code
abbrev y_X_read : MethodName := ⟨"TwoLost", "read", "(II)I"⟩
abbrev b_X_read : ByteArray := prog_1_method_14_code
abbrev y_X_lost : MethodName := ⟨"TwoLost", "lost", "()I"⟩
abbrev b_X_lost : ByteArray := prog_1_method_15_code
abbrev y_X_fail : MethodName := ⟨"TwoLost", "fail", "(I)Z"⟩
abbrev b_X_fail : ByteArray := prog_1_method_16_code
abbrev y_X_alive : MethodName := ⟨"TwoLost", "alive", "(I)Z"⟩
abbrev b_X_alive : ByteArray := prog_1_method_21_code
abbrev y_X_smash : MethodName := ⟨"TwoLost", "smash", "(III)Z"⟩
abbrev b_X_smash : ByteArray := prog_1_method_17_code
abbrev y_X_raw : MethodName := ⟨"TwoLost", "raw", "(II)I"⟩
abbrev b_X_raw : ByteArray := prog_1_method_18_code
abbrev y_X_rebuild : MethodName := ⟨"TwoLost", "rebuild", "()I"⟩
abbrev b_X_rebuild : ByteArray := prog_1_method_20_code
abbrev y_X_restore : MethodName := ⟨"TwoLost", "restore", "(I)V"⟩
abbrev b_X_restore : ByteArray := prog_1_method_19_code
abbrev y_X_scrub : MethodName := ⟨"TwoLost", "scrub", "()I"⟩
abbrev b_X_scrub : ByteArray := prog_1_method_23_code
abbrev y_X_isSound : MethodName := ⟨"TwoLost", "isSound", "(I)Z"⟩
abbrev b_X_isSound : ByteArray := prog_1_method_22_code
abbrev y_L_cell : MethodName := ⟨"TwoLostLaw", "cell", "([II)I"⟩
abbrev b_L_cell : ByteArray := method_2_code
abbrev y_M_ctor : MethodName := ⟨"TwoLostModel", "<init>", "(II)V"⟩
abbrev b_M_ctor : ByteArray := prog_3_method_1_code
abbrev y_M_init : MethodName := ⟨"TwoLostModel", "init", "()V"⟩
abbrev b_M_init : ByteArray := prog_3_method_2_code
abbrev y_M_write : MethodName := ⟨"TwoLostModel", "write", "(III)Z"⟩
abbrev b_M_write : ByteArray := prog_3_method_6_code
abbrev y_M_isData : MethodName := ⟨"TwoLostModel", "isData", "(II)Z"⟩
abbrev b_M_isData : ByteArray := prog_3_method_5_code
abbrev y_M_isPlace : MethodName := ⟨"TwoLostModel", "isPlace", "(I)Z"⟩
abbrev b_M_isPlace : ByteArray := prog_3_method_4_code
abbrev y_M_read : MethodName := ⟨"TwoLostModel", "read", "(II)I"⟩
abbrev b_M_read : ByteArray := prog_3_method_7_code
abbrev y_M_fail : MethodName := ⟨"TwoLostModel", "fail", "(I)Z"⟩
abbrev b_M_fail : ByteArray := prog_3_method_10_code
abbrev y_M_isDisk : MethodName := ⟨"TwoLostModel", "isDisk", "(I)Z"⟩
abbrev b_M_isDisk : ByteArray := prog_3_method_3_code
abbrev y_M_lost : MethodName := ⟨"TwoLostModel", "lost", "()I"⟩
abbrev b_M_lost : ByteArray := prog_3_method_16_code
abbrev y_M_due : MethodName := ⟨"TwoLostModel", "due", "(II)I"⟩
abbrev b_M_due : ByteArray := prog_3_method_9_code
abbrev y_M_timesX : MethodName := ⟨"TwoLostModel", "timesX", "(I)I"⟩
abbrev b_M_timesX : ByteArray := prog_3_method_8_code
abbrev y_M_smash : MethodName := ⟨"TwoLostModel", "smash", "(III)Z"⟩
abbrev b_M_smash : ByteArray := prog_3_method_11_code
abbrev y_M_raw : MethodName := ⟨"TwoLostModel", "raw", "(II)I"⟩
abbrev b_M_raw : ByteArray := prog_3_method_12_code
abbrev y_M_rebuild : MethodName := ⟨"TwoLostModel", "rebuild", "()I"⟩
abbrev b_M_rebuild : ByteArray := prog_3_method_13_code
abbrev y_M_alive : MethodName := ⟨"TwoLostModel", "alive", "(I)Z"⟩
abbrev b_M_alive : ByteArray := prog_3_method_14_code
abbrev y_M_scrub : MethodName := ⟨"TwoLostModel", "scrub", "()I"⟩
abbrev b_M_scrub : ByteArray := prog_3_method_15_code
-- ===== the good words: all but privateMethod =====
def tb : List Cond := lw_tbl.filter goodWord
theorem tb_t {w : Cond} (i : Nat) (h : tables_1[i]? = some w) (g : goodWord w = true) : w ∈ tb := List.mem_filter.mpr ⟨List.mem_append_right _ (List.mem_of_getElem? h), g⟩
theorem tb_s {w : Cond} (i : Nat) (h : (k2_sels lw_privs)[i]? = some w) (g : goodWord w = true) : w ∈ tb := List.mem_filter.mpr ⟨List.mem_append_left _ (List.mem_of_getElem? h), g⟩
theorem tb_in {w : Cond} (h : w ∈ tb) : w ∈ lw_tbl := (List.mem_filter.mp h).1
theorem tb_g {w : Cond} (h : w ∈ tb) : goodWord w = true := (List.mem_filter.mp h).2
theorem gd_C {y : MethodName} {b : ByteArray} {n : Nat} {r : Option FieldType} (h5 : Cond.code y b n r ∈ tb) : GoodIn tb (Cond.code y b n r :: tb) := by
  intro w hw
  have h : w ∈ tb := by
    rcases List.mem_cons.mp hw with rfl | hw
    · exact h5
    · exact hw
  exact ⟨h, good_of_word (tb_g h)⟩
theorem gd_V {own C : String} {idx : Nat} {y : MethodName} {b : ByteArray} {n : Nat} {r : Option FieldType} (h1 : Cond.methodLink own idx y ∈ tb) (h2 : Cond.instanceMethod y ∈ tb) (h3 : Cond.selects C y y ∈ tb) (h4 : Cond.initialized C ∈ tb) (h5 : Cond.code y b n r ∈ tb) : GoodIn tb (wsV own idx C y (Cond.code y b n r :: tb)) := by
  intro w hw
  have h : w ∈ tb := by
    unfold wsV at hw
    simp only [List.cons_append, List.nil_append, List.mem_cons] at hw
    rcases hw with rfl | rfl | rfl | rfl | rfl | hw <;> assumption
  exact ⟨h, good_of_word (tb_g h)⟩
theorem gd_S {own : String} {idx : Nat} {y : MethodName} {b : ByteArray} {n : Nat} {r : Option FieldType} (h1 : Cond.methodLink own idx y ∈ tb) (h2 : Cond.static y ∈ tb) (h4 : Cond.initialized own ∈ tb) (h5 : Cond.code y b n r ∈ tb) : GoodIn tb (wsS own idx y (Cond.code y b n r :: tb)) := by
  intro w hw
  have h : w ∈ tb := by
    unfold wsS at hw
    simp only [List.cons_append, List.nil_append, List.mem_cons] at hw
    rcases hw with rfl | rfl | rfl | rfl | hw <;> assumption
  exact ⟨h, good_of_word (tb_g h)⟩
theorem k_0 : Cond.initialized "TwoLostLaw" ∈ tb := tb_t 0 rfl rfl
theorem k_1 : Cond.initialized "TwoLost" ∈ tb := tb_t 1 rfl rfl
theorem k_2 : Cond.initialized "TwoLostModel" ∈ tb := tb_t 2 rfl rfl
theorem k_3 : Cond.classLink "TwoLostLaw" 7 "TwoLost" ∈ tb := tb_t 3 rfl rfl
theorem k_4 : Cond.instantiable "TwoLost" 7 ∈ tb := tb_t 4 rfl rfl
theorem k_5 : Cond.methodLink "TwoLostLaw" 15 y_X_ctor ∈ tb := tb_t 5 rfl rfl
theorem k_6 : Cond.instanceMethod y_X_ctor ∈ tb := tb_t 6 rfl rfl
theorem k_7 : Cond.code y_X_ctor prog_1_method_1_code 3 none ∈ tb := tb_t 7 rfl rfl
theorem k_8 : Cond.methodLink "TwoLost" 1 objectInit ∈ tb := tb_t 8 rfl rfl
theorem k_9 : Cond.instanceMethod objectInit ∈ tb := tb_t 9 rfl rfl
theorem k_10 : Cond.code objectInit object_method_1_code 1 none ∈ tb := tb_t 10 rfl rfl
theorem k_11 : Cond.methodLink "TwoLost" 23 y_X_within ∈ tb := tb_t 11 rfl rfl
theorem k_12 : Cond.static y_X_within ∈ tb := tb_t 12 rfl rfl
theorem k_13 : Cond.code y_X_within prog_1_method_2_code 2 (some .int) ∈ tb := tb_t 13 rfl rfl
theorem k_14 : Cond.fieldLink "TwoLost" 27 "TwoLost" "d" "I" ∈ tb := tb_t 14 rfl rfl
theorem k_15 : Cond.fieldLink "TwoLost" 31 "TwoLost" "blocks" "I" ∈ tb := tb_t 15 rfl rfl
theorem k_16 : Cond.fieldLink "TwoLost" 7 "TwoLost" "exp" "[I" ∈ tb := tb_t 16 rfl rfl
theorem k_17 : Cond.fieldLink "TwoLost" 13 "TwoLost" "log" "[I" ∈ tb := tb_t 17 rfl rfl
theorem k_18 : Cond.fieldLink "TwoLost" 16 "TwoLost" "cells" "[I" ∈ tb := tb_t 18 rfl rfl
theorem k_19 : Cond.fieldLink "TwoLost" 19 "TwoLost" "dead" "[Z" ∈ tb := tb_t 19 rfl rfl
theorem k_20 : Cond.fieldLink "TwoLost" 34 "TwoLost" "ready" "Z" ∈ tb := tb_t 20 rfl rfl
theorem k_21 : Cond.laysFinal "TwoLost" "TwoLost" "d" "I" ∈ tb := tb_t 21 rfl rfl
theorem k_23 : Cond.laysFinal "TwoLost" "TwoLost" "blocks" "I" ∈ tb := tb_t 23 rfl rfl
theorem k_25 : Cond.laysFinal "TwoLost" "TwoLost" "exp" "[I" ∈ tb := tb_t 25 rfl rfl
theorem k_27 : Cond.laysFinal "TwoLost" "TwoLost" "log" "[I" ∈ tb := tb_t 27 rfl rfl
theorem k_29 : Cond.laysFinal "TwoLost" "TwoLost" "cells" "[I" ∈ tb := tb_t 29 rfl rfl
theorem k_31 : Cond.laysFinal "TwoLost" "TwoLost" "dead" "[Z" ∈ tb := tb_t 31 rfl rfl
theorem k_33 : Cond.lays "TwoLost" "TwoLost" "ready" "Z" ∈ tb := tb_t 33 rfl rfl
theorem k_36 : Cond.arrayClass .int ∈ tb := tb_t 36 rfl rfl
theorem k_37 : Cond.arrayClass .boolean ∈ tb := tb_t 37 rfl rfl
theorem k_38 : Cond.methodLink "TwoLostLaw" 21 y_X_init ∈ tb := tb_t 38 rfl rfl
theorem k_39 : Cond.instanceMethod y_X_init ∈ tb := tb_t 39 rfl rfl
theorem k_40 : Cond.selects "TwoLost" y_X_init y_X_init ∈ tb := tb_t 40 rfl rfl
theorem k_41 : Cond.code y_X_init prog_1_method_3_code 3 none ∈ tb := tb_t 41 rfl rfl
theorem k_42 : Cond.methodLink "TwoLostLaw" 25 y_X_write ∈ tb := tb_t 42 rfl rfl
theorem k_43 : Cond.instanceMethod y_X_write ∈ tb := tb_t 43 rfl rfl
theorem k_44 : Cond.selects "TwoLost" y_X_write y_X_write ∈ tb := tb_t 44 rfl rfl
theorem k_45 : Cond.code y_X_write prog_1_method_13_code 5 (some .boolean) ∈ tb := tb_t 45 rfl rfl
theorem k_46 : Cond.methodLink "TwoLost" 61 y_X_isCell ∈ tb := tb_t 46 rfl rfl
theorem k_48 : Cond.instanceMethod y_X_isCell ∈ tb := tb_t 48 rfl rfl
theorem k_49 : Cond.code y_X_isCell prog_1_method_12_code 4 (some .boolean) ∈ tb := tb_t 49 rfl rfl
theorem k_50 : Cond.methodLink "TwoLost" 65 y_X_valueOf ∈ tb := tb_t 50 rfl rfl
theorem k_52 : Cond.instanceMethod y_X_valueOf ∈ tb := tb_t 52 rfl rfl
theorem k_53 : Cond.code y_X_valueOf prog_1_method_11_code 3 (some .int) ∈ tb := tb_t 53 rfl rfl
theorem k_54 : Cond.methodLink "TwoLost" 58 y_X_found ∈ tb := tb_t 54 rfl rfl
theorem k_56 : Cond.instanceMethod y_X_found ∈ tb := tb_t 56 rfl rfl
theorem k_57 : Cond.code y_X_found prog_1_method_10_code 6 (some .int) ∈ tb := tb_t 57 rfl rfl
theorem k_58 : Cond.methodLink "TwoLost" 44 y_X_otherLost ∈ tb := tb_t 58 rfl rfl
theorem k_60 : Cond.instanceMethod y_X_otherLost ∈ tb := tb_t 60 rfl rfl
theorem k_61 : Cond.code y_X_otherLost prog_1_method_9_code 3 (some .int) ∈ tb := tb_t 61 rfl rfl
theorem k_62 : Cond.methodLink "TwoLost" 41 y_X_at ∈ tb := tb_t 62 rfl rfl
theorem k_64 : Cond.instanceMethod y_X_at ∈ tb := tb_t 64 rfl rfl
theorem k_65 : Cond.code y_X_at prog_1_method_6_code 3 (some .int) ∈ tb := tb_t 65 rfl rfl
theorem k_66 : Cond.methodLink "TwoLost" 48 y_X_sumOf ∈ tb := tb_t 66 rfl rfl
theorem k_68 : Cond.instanceMethod y_X_sumOf ∈ tb := tb_t 68 rfl rfl
theorem k_69 : Cond.code y_X_sumOf prog_1_method_7_code 6 (some .int) ∈ tb := tb_t 69 rfl rfl
theorem k_70 : Cond.methodLink "TwoLost" 52 y_X_weightedOf ∈ tb := tb_t 70 rfl rfl
theorem k_72 : Cond.instanceMethod y_X_weightedOf ∈ tb := tb_t 72 rfl rfl
theorem k_73 : Cond.code y_X_weightedOf prog_1_method_8_code 6 (some .int) ∈ tb := tb_t 73 rfl rfl
theorem k_74 : Cond.methodLink "TwoLost" 38 y_X_times ∈ tb := tb_t 74 rfl rfl
theorem k_76 : Cond.instanceMethod y_X_times ∈ tb := tb_t 76 rfl rfl
theorem k_77 : Cond.code y_X_times prog_1_method_4_code 6 (some .int) ∈ tb := tb_t 77 rfl rfl
theorem k_78 : Cond.methodLink "TwoLost" 55 y_X_over ∈ tb := tb_t 78 rfl rfl
theorem k_80 : Cond.instanceMethod y_X_over ∈ tb := tb_t 80 rfl rfl
theorem k_81 : Cond.code y_X_over prog_1_method_5_code 3 (some .int) ∈ tb := tb_t 81 rfl rfl
theorem k_82 : Cond.methodLink "TwoLostLaw" 30 y_X_read ∈ tb := tb_t 82 rfl rfl
theorem k_83 : Cond.instanceMethod y_X_read ∈ tb := tb_t 83 rfl rfl
theorem k_84 : Cond.selects "TwoLost" y_X_read y_X_read ∈ tb := tb_t 84 rfl rfl
theorem k_85 : Cond.code y_X_read prog_1_method_14_code 3 (some .int) ∈ tb := tb_t 85 rfl rfl
theorem k_86 : Cond.methodLink "TwoLostLaw" 61 y_X_lost ∈ tb := tb_t 86 rfl rfl
theorem k_87 : Cond.instanceMethod y_X_lost ∈ tb := tb_t 87 rfl rfl
theorem k_88 : Cond.selects "TwoLost" y_X_lost y_X_lost ∈ tb := tb_t 88 rfl rfl
theorem k_89 : Cond.code y_X_lost prog_1_method_15_code 3 (some .int) ∈ tb := tb_t 89 rfl rfl
theorem k_90 : Cond.methodLink "TwoLostLaw" 35 y_X_fail ∈ tb := tb_t 90 rfl rfl
theorem k_91 : Cond.instanceMethod y_X_fail ∈ tb := tb_t 91 rfl rfl
theorem k_92 : Cond.selects "TwoLost" y_X_fail y_X_fail ∈ tb := tb_t 92 rfl rfl
theorem k_93 : Cond.code y_X_fail prog_1_method_16_code 2 (some .boolean) ∈ tb := tb_t 93 rfl rfl
theorem k_94 : Cond.methodLink "TwoLost" 68 y_X_alive ∈ tb := tb_t 94 rfl rfl
theorem k_95 : Cond.instanceMethod y_X_alive ∈ tb := tb_t 95 rfl rfl
theorem k_96 : Cond.selects "TwoLost" y_X_alive y_X_alive ∈ tb := tb_t 96 rfl rfl
theorem k_97 : Cond.code y_X_alive prog_1_method_21_code 2 (some .boolean) ∈ tb := tb_t 97 rfl rfl
theorem k_98 : Cond.methodLink "TwoLost" 72 y_X_lost ∈ tb := tb_t 98 rfl rfl
theorem k_99 : Cond.methodLink "TwoLostLaw" 40 y_X_smash ∈ tb := tb_t 99 rfl rfl
theorem k_100 : Cond.instanceMethod y_X_smash ∈ tb := tb_t 100 rfl rfl
theorem k_101 : Cond.selects "TwoLost" y_X_smash y_X_smash ∈ tb := tb_t 101 rfl rfl
theorem k_102 : Cond.code y_X_smash prog_1_method_17_code 4 (some .boolean) ∈ tb := tb_t 102 rfl rfl
theorem k_103 : Cond.methodLink "TwoLostLaw" 44 y_X_raw ∈ tb := tb_t 103 rfl rfl
theorem k_104 : Cond.instanceMethod y_X_raw ∈ tb := tb_t 104 rfl rfl
theorem k_105 : Cond.selects "TwoLost" y_X_raw y_X_raw ∈ tb := tb_t 105 rfl rfl
theorem k_106 : Cond.code y_X_raw prog_1_method_18_code 3 (some .int) ∈ tb := tb_t 106 rfl rfl
theorem k_107 : Cond.methodLink "TwoLostLaw" 48 y_X_rebuild ∈ tb := tb_t 107 rfl rfl
theorem k_108 : Cond.instanceMethod y_X_rebuild ∈ tb := tb_t 108 rfl rfl
theorem k_109 : Cond.selects "TwoLost" y_X_rebuild y_X_rebuild ∈ tb := tb_t 109 rfl rfl
theorem k_110 : Cond.code y_X_rebuild prog_1_method_20_code 3 (some .int) ∈ tb := tb_t 110 rfl rfl
theorem k_111 : Cond.methodLink "TwoLost" 76 y_X_restore ∈ tb := tb_t 111 rfl rfl
theorem k_113 : Cond.instanceMethod y_X_restore ∈ tb := tb_t 113 rfl rfl
theorem k_114 : Cond.code y_X_restore prog_1_method_19_code 6 none ∈ tb := tb_t 114 rfl rfl
theorem k_115 : Cond.methodLink "TwoLostLaw" 53 y_X_alive ∈ tb := tb_t 115 rfl rfl
theorem k_116 : Cond.methodLink "TwoLostLaw" 57 y_X_scrub ∈ tb := tb_t 116 rfl rfl
theorem k_117 : Cond.instanceMethod y_X_scrub ∈ tb := tb_t 117 rfl rfl
theorem k_118 : Cond.selects "TwoLost" y_X_scrub y_X_scrub ∈ tb := tb_t 118 rfl rfl
theorem k_119 : Cond.code y_X_scrub prog_1_method_23_code 3 (some .int) ∈ tb := tb_t 119 rfl rfl
theorem k_120 : Cond.methodLink "TwoLost" 80 y_X_isSound ∈ tb := tb_t 120 rfl rfl
theorem k_122 : Cond.instanceMethod y_X_isSound ∈ tb := tb_t 122 rfl rfl
theorem k_123 : Cond.code y_X_isSound prog_1_method_22_code 6 (some .boolean) ∈ tb := tb_t 123 rfl rfl
theorem k_124 : Cond.methodLink "TwoLostLaw" 9 y_L_cell ∈ tb := tb_t 124 rfl rfl
theorem k_125 : Cond.static y_L_cell ∈ tb := tb_t 125 rfl rfl
theorem k_126 : Cond.code y_L_cell method_2_code 2 (some .int) ∈ tb := tb_t 126 rfl rfl
theorem k_127 : Cond.classLink "TwoLostLaw" 18 "TwoLostModel" ∈ tb := tb_t 127 rfl rfl
theorem k_128 : Cond.instantiable "TwoLostModel" 6 ∈ tb := tb_t 128 rfl rfl
theorem k_129 : Cond.methodLink "TwoLostLaw" 20 y_M_ctor ∈ tb := tb_t 129 rfl rfl
theorem k_130 : Cond.instanceMethod y_M_ctor ∈ tb := tb_t 130 rfl rfl
theorem k_131 : Cond.code y_M_ctor prog_3_method_1_code 3 none ∈ tb := tb_t 131 rfl rfl
theorem k_132 : Cond.methodLink "TwoLostModel" 1 objectInit ∈ tb := tb_t 132 rfl rfl
theorem k_133 : Cond.fieldLink "TwoLostModel" 20 "TwoLostModel" "disks" "I" ∈ tb := tb_t 133 rfl rfl
theorem k_134 : Cond.fieldLink "TwoLostModel" 24 "TwoLostModel" "places" "I" ∈ tb := tb_t 134 rfl rfl
theorem k_135 : Cond.fieldLink "TwoLostModel" 27 "TwoLostModel" "isThere" "Z" ∈ tb := tb_t 135 rfl rfl
theorem k_136 : Cond.fieldLink "TwoLostModel" 7 "TwoLostModel" "map" "[I" ∈ tb := tb_t 136 rfl rfl
theorem k_137 : Cond.fieldLink "TwoLostModel" 13 "TwoLostModel" "kept" "[I" ∈ tb := tb_t 137 rfl rfl
theorem k_138 : Cond.fieldLink "TwoLostModel" 16 "TwoLostModel" "isFailed" "[Z" ∈ tb := tb_t 138 rfl rfl
theorem k_139 : Cond.laysFinal "TwoLostModel" "TwoLostModel" "disks" "I" ∈ tb := tb_t 139 rfl rfl
theorem k_141 : Cond.laysFinal "TwoLostModel" "TwoLostModel" "places" "I" ∈ tb := tb_t 141 rfl rfl
theorem k_143 : Cond.lays "TwoLostModel" "TwoLostModel" "isThere" "Z" ∈ tb := tb_t 143 rfl rfl
theorem k_145 : Cond.laysFinal "TwoLostModel" "TwoLostModel" "map" "[I" ∈ tb := tb_t 145 rfl rfl
theorem k_147 : Cond.laysFinal "TwoLostModel" "TwoLostModel" "kept" "[I" ∈ tb := tb_t 147 rfl rfl
theorem k_149 : Cond.laysFinal "TwoLostModel" "TwoLostModel" "isFailed" "[Z" ∈ tb := tb_t 149 rfl rfl
theorem k_152 : Cond.methodLink "TwoLostLaw" 24 y_M_init ∈ tb := tb_t 152 rfl rfl
theorem k_153 : Cond.instanceMethod y_M_init ∈ tb := tb_t 153 rfl rfl
theorem k_154 : Cond.selects "TwoLostModel" y_M_init y_M_init ∈ tb := tb_t 154 rfl rfl
theorem k_155 : Cond.code y_M_init prog_3_method_2_code 2 none ∈ tb := tb_t 155 rfl rfl
theorem k_156 : Cond.methodLink "TwoLostLaw" 29 y_M_write ∈ tb := tb_t 156 rfl rfl
theorem k_157 : Cond.instanceMethod y_M_write ∈ tb := tb_t 157 rfl rfl
theorem k_158 : Cond.selects "TwoLostModel" y_M_write y_M_write ∈ tb := tb_t 158 rfl rfl
theorem k_159 : Cond.code y_M_write prog_3_method_6_code 4 (some .boolean) ∈ tb := tb_t 159 rfl rfl
theorem k_160 : Cond.methodLink "TwoLostModel" 35 y_M_isData ∈ tb := tb_t 160 rfl rfl
theorem k_162 : Cond.instanceMethod y_M_isData ∈ tb := tb_t 162 rfl rfl
theorem k_163 : Cond.code y_M_isData prog_3_method_5_code 3 (some .boolean) ∈ tb := tb_t 163 rfl rfl
theorem k_164 : Cond.methodLink "TwoLostModel" 31 y_M_isPlace ∈ tb := tb_t 164 rfl rfl
theorem k_166 : Cond.instanceMethod y_M_isPlace ∈ tb := tb_t 166 rfl rfl
theorem k_167 : Cond.code y_M_isPlace prog_3_method_4_code 2 (some .boolean) ∈ tb := tb_t 167 rfl rfl
theorem k_168 : Cond.methodLink "TwoLostLaw" 34 y_M_read ∈ tb := tb_t 168 rfl rfl
theorem k_169 : Cond.instanceMethod y_M_read ∈ tb := tb_t 169 rfl rfl
theorem k_170 : Cond.selects "TwoLostModel" y_M_read y_M_read ∈ tb := tb_t 170 rfl rfl
theorem k_171 : Cond.code y_M_read prog_3_method_7_code 3 (some .int) ∈ tb := tb_t 171 rfl rfl
theorem k_172 : Cond.methodLink "TwoLostLaw" 39 y_M_fail ∈ tb := tb_t 172 rfl rfl
theorem k_173 : Cond.instanceMethod y_M_fail ∈ tb := tb_t 173 rfl rfl
theorem k_174 : Cond.selects "TwoLostModel" y_M_fail y_M_fail ∈ tb := tb_t 174 rfl rfl
theorem k_175 : Cond.code y_M_fail prog_3_method_10_code 3 (some .boolean) ∈ tb := tb_t 175 rfl rfl
theorem k_176 : Cond.methodLink "TwoLostModel" 45 y_M_isDisk ∈ tb := tb_t 176 rfl rfl
theorem k_178 : Cond.instanceMethod y_M_isDisk ∈ tb := tb_t 178 rfl rfl
theorem k_179 : Cond.code y_M_isDisk prog_3_method_3_code 2 (some .boolean) ∈ tb := tb_t 179 rfl rfl
theorem k_180 : Cond.methodLink "TwoLostModel" 48 y_M_lost ∈ tb := tb_t 180 rfl rfl
theorem k_181 : Cond.instanceMethod y_M_lost ∈ tb := tb_t 181 rfl rfl
theorem k_182 : Cond.selects "TwoLostModel" y_M_lost y_M_lost ∈ tb := tb_t 182 rfl rfl
theorem k_183 : Cond.code y_M_lost prog_3_method_16_code 3 (some .int) ∈ tb := tb_t 183 rfl rfl
theorem k_184 : Cond.methodLink "TwoLostModel" 52 y_M_due ∈ tb := tb_t 184 rfl rfl
theorem k_186 : Cond.instanceMethod y_M_due ∈ tb := tb_t 186 rfl rfl
theorem k_187 : Cond.code y_M_due prog_3_method_9_code 5 (some .int) ∈ tb := tb_t 187 rfl rfl
theorem k_188 : Cond.methodLink "TwoLostModel" 41 y_M_timesX ∈ tb := tb_t 188 rfl rfl
theorem k_189 : Cond.static y_M_timesX ∈ tb := tb_t 189 rfl rfl
theorem k_190 : Cond.code y_M_timesX prog_3_method_8_code 3 (some .int) ∈ tb := tb_t 190 rfl rfl
theorem k_191 : Cond.constant "TwoLostModel" 39 (2139062143 : Int32) ∈ tb := tb_t 191 rfl rfl
theorem k_192 : Cond.constant "TwoLostModel" 40 (16843009 : Int32) ∈ tb := tb_t 192 rfl rfl
theorem k_193 : Cond.methodLink "TwoLostLaw" 43 y_M_smash ∈ tb := tb_t 193 rfl rfl
theorem k_194 : Cond.instanceMethod y_M_smash ∈ tb := tb_t 194 rfl rfl
theorem k_195 : Cond.selects "TwoLostModel" y_M_smash y_M_smash ∈ tb := tb_t 195 rfl rfl
theorem k_196 : Cond.code y_M_smash prog_3_method_11_code 4 (some .boolean) ∈ tb := tb_t 196 rfl rfl
theorem k_197 : Cond.methodLink "TwoLostLaw" 47 y_M_raw ∈ tb := tb_t 197 rfl rfl
theorem k_198 : Cond.instanceMethod y_M_raw ∈ tb := tb_t 198 rfl rfl
theorem k_199 : Cond.selects "TwoLostModel" y_M_raw y_M_raw ∈ tb := tb_t 199 rfl rfl
theorem k_200 : Cond.code y_M_raw prog_3_method_12_code 3 (some .int) ∈ tb := tb_t 200 rfl rfl
theorem k_201 : Cond.methodLink "TwoLostLaw" 52 y_M_rebuild ∈ tb := tb_t 201 rfl rfl
theorem k_202 : Cond.instanceMethod y_M_rebuild ∈ tb := tb_t 202 rfl rfl
theorem k_203 : Cond.selects "TwoLostModel" y_M_rebuild y_M_rebuild ∈ tb := tb_t 203 rfl rfl
theorem k_204 : Cond.code y_M_rebuild prog_3_method_13_code 3 (some .int) ∈ tb := tb_t 204 rfl rfl
theorem k_205 : Cond.methodLink "TwoLostLaw" 56 y_M_alive ∈ tb := tb_t 205 rfl rfl
theorem k_206 : Cond.instanceMethod y_M_alive ∈ tb := tb_t 206 rfl rfl
theorem k_207 : Cond.selects "TwoLostModel" y_M_alive y_M_alive ∈ tb := tb_t 207 rfl rfl
theorem k_208 : Cond.code y_M_alive prog_3_method_14_code 2 (some .boolean) ∈ tb := tb_t 208 rfl rfl
theorem k_209 : Cond.methodLink "TwoLostLaw" 60 y_M_scrub ∈ tb := tb_t 209 rfl rfl
theorem k_210 : Cond.instanceMethod y_M_scrub ∈ tb := tb_t 210 rfl rfl
theorem k_211 : Cond.selects "TwoLostModel" y_M_scrub y_M_scrub ∈ tb := tb_t 211 rfl rfl
theorem k_212 : Cond.code y_M_scrub prog_3_method_15_code 5 (some .int) ∈ tb := tb_t 212 rfl rfl
theorem k_213 : Cond.methodLink "TwoLostModel" 56 y_M_raw ∈ tb := tb_t 213 rfl rfl
theorem k_214 : Cond.methodLink "TwoLostLaw" 64 y_M_lost ∈ tb := tb_t 214 rfl rfl
theorem ks_0 : Cond.selects "TwoLost" y_X_isCell y_X_isCell ∈ tb := tb_s 0 rfl rfl
theorem ks_1 : Cond.selects "TwoLost" y_X_valueOf y_X_valueOf ∈ tb := tb_s 1 rfl rfl
theorem ks_2 : Cond.selects "TwoLost" y_X_found y_X_found ∈ tb := tb_s 2 rfl rfl
theorem ks_3 : Cond.selects "TwoLost" y_X_otherLost y_X_otherLost ∈ tb := tb_s 3 rfl rfl
theorem ks_4 : Cond.selects "TwoLost" y_X_at y_X_at ∈ tb := tb_s 4 rfl rfl
theorem ks_5 : Cond.selects "TwoLost" y_X_sumOf y_X_sumOf ∈ tb := tb_s 5 rfl rfl
theorem ks_6 : Cond.selects "TwoLost" y_X_weightedOf y_X_weightedOf ∈ tb := tb_s 6 rfl rfl
theorem ks_7 : Cond.selects "TwoLost" y_X_times y_X_times ∈ tb := tb_s 7 rfl rfl
theorem ks_8 : Cond.selects "TwoLost" y_X_over y_X_over ∈ tb := tb_s 8 rfl rfl
theorem ks_9 : Cond.selects "TwoLost" y_X_restore y_X_restore ∈ tb := tb_s 9 rfl rfl
theorem ks_10 : Cond.selects "TwoLost" y_X_isSound y_X_isSound ∈ tb := tb_s 10 rfl rfl
theorem ks_11 : Cond.selects "TwoLostModel" y_M_isData y_M_isData ∈ tb := tb_s 11 rfl rfl
theorem ks_12 : Cond.selects "TwoLostModel" y_M_isPlace y_M_isPlace ∈ tb := tb_s 12 rfl rfl
theorem ks_13 : Cond.selects "TwoLostModel" y_M_isDisk y_M_isDisk ∈ tb := tb_s 13 rfl rfl
theorem ks_14 : Cond.selects "TwoLostModel" y_M_due y_M_due ∈ tb := tb_s 14 rfl rfl
theorem g_X_X_within : GoodIn tb (wsS "TwoLost" 23 y_X_within (Cond.code y_X_within b_X_within 2 (some .int) :: tb)) := gd_S k_11 k_12 k_1 k_13
theorem g_L_X_init : GoodIn tb (wsV "TwoLostLaw" 21 "TwoLost" y_X_init (Cond.code y_X_init b_X_init 3 none :: tb)) := gd_V k_38 k_39 k_40 k_1 k_41
theorem g_L_X_write : GoodIn tb (wsV "TwoLostLaw" 25 "TwoLost" y_X_write (Cond.code y_X_write b_X_write 5 (some .boolean) :: tb)) := gd_V k_42 k_43 k_44 k_1 k_45
theorem g_X_X_isCell : GoodIn tb (wsV "TwoLost" 61 "TwoLost" y_X_isCell (Cond.code y_X_isCell b_X_isCell 4 (some .boolean) :: tb)) := gd_V k_46 k_48 ks_0 k_1 k_49
theorem g_X_X_valueOf : GoodIn tb (wsV "TwoLost" 65 "TwoLost" y_X_valueOf (Cond.code y_X_valueOf b_X_valueOf 3 (some .int) :: tb)) := gd_V k_50 k_52 ks_1 k_1 k_53
theorem g_X_X_found : GoodIn tb (wsV "TwoLost" 58 "TwoLost" y_X_found (Cond.code y_X_found b_X_found 6 (some .int) :: tb)) := gd_V k_54 k_56 ks_2 k_1 k_57
theorem g_X_X_otherLost : GoodIn tb (wsV "TwoLost" 44 "TwoLost" y_X_otherLost (Cond.code y_X_otherLost b_X_otherLost 3 (some .int) :: tb)) := gd_V k_58 k_60 ks_3 k_1 k_61
theorem g_X_X_at : GoodIn tb (wsV "TwoLost" 41 "TwoLost" y_X_at (Cond.code y_X_at b_X_at 3 (some .int) :: tb)) := gd_V k_62 k_64 ks_4 k_1 k_65
theorem g_X_X_sumOf : GoodIn tb (wsV "TwoLost" 48 "TwoLost" y_X_sumOf (Cond.code y_X_sumOf b_X_sumOf 6 (some .int) :: tb)) := gd_V k_66 k_68 ks_5 k_1 k_69
theorem g_X_X_weightedOf : GoodIn tb (wsV "TwoLost" 52 "TwoLost" y_X_weightedOf (Cond.code y_X_weightedOf b_X_weightedOf 6 (some .int) :: tb)) := gd_V k_70 k_72 ks_6 k_1 k_73
theorem g_X_X_times : GoodIn tb (wsV "TwoLost" 38 "TwoLost" y_X_times (Cond.code y_X_times b_X_times 6 (some .int) :: tb)) := gd_V k_74 k_76 ks_7 k_1 k_77
theorem g_X_X_over : GoodIn tb (wsV "TwoLost" 55 "TwoLost" y_X_over (Cond.code y_X_over b_X_over 3 (some .int) :: tb)) := gd_V k_78 k_80 ks_8 k_1 k_81
theorem g_L_X_read : GoodIn tb (wsV "TwoLostLaw" 30 "TwoLost" y_X_read (Cond.code y_X_read b_X_read 3 (some .int) :: tb)) := gd_V k_82 k_83 k_84 k_1 k_85
theorem g_L_X_lost : GoodIn tb (wsV "TwoLostLaw" 61 "TwoLost" y_X_lost (Cond.code y_X_lost b_X_lost 3 (some .int) :: tb)) := gd_V k_86 k_87 k_88 k_1 k_89
theorem g_L_X_fail : GoodIn tb (wsV "TwoLostLaw" 35 "TwoLost" y_X_fail (Cond.code y_X_fail b_X_fail 2 (some .boolean) :: tb)) := gd_V k_90 k_91 k_92 k_1 k_93
theorem g_X_X_alive : GoodIn tb (wsV "TwoLost" 68 "TwoLost" y_X_alive (Cond.code y_X_alive b_X_alive 2 (some .boolean) :: tb)) := gd_V k_94 k_95 k_96 k_1 k_97
theorem g_X_X_lost : GoodIn tb (wsV "TwoLost" 72 "TwoLost" y_X_lost (Cond.code y_X_lost b_X_lost 3 (some .int) :: tb)) := gd_V k_98 k_87 k_88 k_1 k_89
theorem g_L_X_smash : GoodIn tb (wsV "TwoLostLaw" 40 "TwoLost" y_X_smash (Cond.code y_X_smash b_X_smash 4 (some .boolean) :: tb)) := gd_V k_99 k_100 k_101 k_1 k_102
theorem g_L_X_raw : GoodIn tb (wsV "TwoLostLaw" 44 "TwoLost" y_X_raw (Cond.code y_X_raw b_X_raw 3 (some .int) :: tb)) := gd_V k_103 k_104 k_105 k_1 k_106
theorem g_L_X_rebuild : GoodIn tb (wsV "TwoLostLaw" 48 "TwoLost" y_X_rebuild (Cond.code y_X_rebuild b_X_rebuild 3 (some .int) :: tb)) := gd_V k_107 k_108 k_109 k_1 k_110
theorem g_X_X_restore : GoodIn tb (wsV "TwoLost" 76 "TwoLost" y_X_restore (Cond.code y_X_restore b_X_restore 6 none :: tb)) := gd_V k_111 k_113 ks_9 k_1 k_114
theorem g_L_X_alive : GoodIn tb (wsV "TwoLostLaw" 53 "TwoLost" y_X_alive (Cond.code y_X_alive b_X_alive 2 (some .boolean) :: tb)) := gd_V k_115 k_95 k_96 k_1 k_97
theorem g_L_X_scrub : GoodIn tb (wsV "TwoLostLaw" 57 "TwoLost" y_X_scrub (Cond.code y_X_scrub b_X_scrub 3 (some .int) :: tb)) := gd_V k_116 k_117 k_118 k_1 k_119
theorem g_X_X_isSound : GoodIn tb (wsV "TwoLost" 80 "TwoLost" y_X_isSound (Cond.code y_X_isSound b_X_isSound 6 (some .boolean) :: tb)) := gd_V k_120 k_122 ks_10 k_1 k_123
theorem g_L_L_cell : GoodIn tb (wsS "TwoLostLaw" 9 y_L_cell (Cond.code y_L_cell b_L_cell 2 (some .int) :: tb)) := gd_S k_124 k_125 k_0 k_126
theorem g_L_M_init : GoodIn tb (wsV "TwoLostLaw" 24 "TwoLostModel" y_M_init (Cond.code y_M_init b_M_init 2 none :: tb)) := gd_V k_152 k_153 k_154 k_2 k_155
theorem g_L_M_write : GoodIn tb (wsV "TwoLostLaw" 29 "TwoLostModel" y_M_write (Cond.code y_M_write b_M_write 4 (some .boolean) :: tb)) := gd_V k_156 k_157 k_158 k_2 k_159
theorem g_M_M_isData : GoodIn tb (wsV "TwoLostModel" 35 "TwoLostModel" y_M_isData (Cond.code y_M_isData b_M_isData 3 (some .boolean) :: tb)) := gd_V k_160 k_162 ks_11 k_2 k_163
theorem g_M_M_isPlace : GoodIn tb (wsV "TwoLostModel" 31 "TwoLostModel" y_M_isPlace (Cond.code y_M_isPlace b_M_isPlace 2 (some .boolean) :: tb)) := gd_V k_164 k_166 ks_12 k_2 k_167
theorem g_L_M_read : GoodIn tb (wsV "TwoLostLaw" 34 "TwoLostModel" y_M_read (Cond.code y_M_read b_M_read 3 (some .int) :: tb)) := gd_V k_168 k_169 k_170 k_2 k_171
theorem g_L_M_fail : GoodIn tb (wsV "TwoLostLaw" 39 "TwoLostModel" y_M_fail (Cond.code y_M_fail b_M_fail 3 (some .boolean) :: tb)) := gd_V k_172 k_173 k_174 k_2 k_175
theorem g_M_M_isDisk : GoodIn tb (wsV "TwoLostModel" 45 "TwoLostModel" y_M_isDisk (Cond.code y_M_isDisk b_M_isDisk 2 (some .boolean) :: tb)) := gd_V k_176 k_178 ks_13 k_2 k_179
theorem g_M_M_lost : GoodIn tb (wsV "TwoLostModel" 48 "TwoLostModel" y_M_lost (Cond.code y_M_lost b_M_lost 3 (some .int) :: tb)) := gd_V k_180 k_181 k_182 k_2 k_183
theorem g_M_M_due : GoodIn tb (wsV "TwoLostModel" 52 "TwoLostModel" y_M_due (Cond.code y_M_due b_M_due 5 (some .int) :: tb)) := gd_V k_184 k_186 ks_14 k_2 k_187
theorem g_M_M_timesX : GoodIn tb (wsS "TwoLostModel" 41 y_M_timesX (Cond.code y_M_timesX b_M_timesX 3 (some .int) :: tb)) := gd_S k_188 k_189 k_2 k_190
theorem g_L_M_smash : GoodIn tb (wsV "TwoLostLaw" 43 "TwoLostModel" y_M_smash (Cond.code y_M_smash b_M_smash 4 (some .boolean) :: tb)) := gd_V k_193 k_194 k_195 k_2 k_196
theorem g_L_M_raw : GoodIn tb (wsV "TwoLostLaw" 47 "TwoLostModel" y_M_raw (Cond.code y_M_raw b_M_raw 3 (some .int) :: tb)) := gd_V k_197 k_198 k_199 k_2 k_200
theorem g_L_M_rebuild : GoodIn tb (wsV "TwoLostLaw" 52 "TwoLostModel" y_M_rebuild (Cond.code y_M_rebuild b_M_rebuild 3 (some .int) :: tb)) := gd_V k_201 k_202 k_203 k_2 k_204
theorem g_L_M_alive : GoodIn tb (wsV "TwoLostLaw" 56 "TwoLostModel" y_M_alive (Cond.code y_M_alive b_M_alive 2 (some .boolean) :: tb)) := gd_V k_205 k_206 k_207 k_2 k_208
theorem g_L_M_scrub : GoodIn tb (wsV "TwoLostLaw" 60 "TwoLostModel" y_M_scrub (Cond.code y_M_scrub b_M_scrub 5 (some .int) :: tb)) := gd_V k_209 k_210 k_211 k_2 k_212
theorem g_M_M_raw : GoodIn tb (wsV "TwoLostModel" 56 "TwoLostModel" y_M_raw (Cond.code y_M_raw b_M_raw 3 (some .int) :: tb)) := gd_V k_213 k_198 k_199 k_2 k_200
theorem g_L_M_lost : GoodIn tb (wsV "TwoLostLaw" 64 "TwoLostModel" y_M_lost (Cond.code y_M_lost b_M_lost 3 (some .int) :: tb)) := gd_V k_214 k_181 k_182 k_2 k_183
-- ===== rows that a program decides =====
theorem n_X : ∀ a, a < 7 → ∀ b, b < 7 → a ≠ b → (F_X a).2.1 ≠ (F_X b).2.1 := by decide +kernel
theorem t_X_ok : ∀ k, k < 7 → parseFieldDescriptor (F_X k).2.2.1 = some (t_X k) := by decide +kernel
theorem i_X : ∀ w ∈ w_X, w ∈ tb := List.forall_mem_cons.mpr ⟨k_21, List.forall_mem_cons.mpr ⟨k_23, List.forall_mem_cons.mpr ⟨k_25, List.forall_mem_cons.mpr ⟨k_27, List.forall_mem_cons.mpr ⟨k_29, List.forall_mem_cons.mpr ⟨k_31, List.forall_mem_cons.mpr ⟨k_33, fun _ h => absurd h List.not_mem_nil⟩⟩⟩⟩⟩⟩⟩
theorem n_M : ∀ a, a < 6 → ∀ b, b < 6 → a ≠ b → (F_M a).2.1 ≠ (F_M b).2.1 := by decide +kernel
theorem t_M_ok : ∀ k, k < 6 → parseFieldDescriptor (F_M k).2.2.1 = some (t_M k) := by decide +kernel
theorem i_M : ∀ w ∈ w_M, w ∈ tb := List.forall_mem_cons.mpr ⟨k_139, List.forall_mem_cons.mpr ⟨k_141, List.forall_mem_cons.mpr ⟨k_143, List.forall_mem_cons.mpr ⟨k_145, List.forall_mem_cons.mpr ⟨k_147, List.forall_mem_cons.mpr ⟨k_149, fun _ h => absurd h List.not_mem_nil⟩⟩⟩⟩⟩⟩
end
section
/-! decode rows, printed by gen_names.py -/
theorem d_X_ctor_0 : decode b_X_ctor 0 = .ok (.aload_n 0, 1) := by decide +kernel
theorem d_X_ctor_1 : decode b_X_ctor 1 = .ok (.invokespecial 1, 3) := by decide +kernel
theorem d_X_ctor_4 : decode b_X_ctor 4 = .ok (.aload_n 0, 1) := by decide +kernel
theorem d_X_ctor_5 : decode b_X_ctor 5 = .ok (.sipush 510, 3) := by decide +kernel
theorem d_X_ctor_8 : decode b_X_ctor 8 = .ok (.newarray .int, 2) := by decide +kernel
theorem d_X_ctor_10 : decode b_X_ctor 10 = .ok (.putfield 7, 3) := by decide +kernel
theorem d_X_ctor_13 : decode b_X_ctor 13 = .ok (.aload_n 0, 1) := by decide +kernel
theorem d_X_ctor_14 : decode b_X_ctor 14 = .ok (.sipush 256, 3) := by decide +kernel
theorem d_X_ctor_17 : decode b_X_ctor 17 = .ok (.newarray .int, 2) := by decide +kernel
theorem d_X_ctor_19 : decode b_X_ctor 19 = .ok (.putfield 13, 3) := by decide +kernel
theorem d_X_ctor_22 : decode b_X_ctor 22 = .ok (.aload_n 0, 1) := by decide +kernel
theorem d_X_ctor_23 : decode b_X_ctor 23 = .ok (.sipush 880, 3) := by decide +kernel
theorem d_X_ctor_26 : decode b_X_ctor 26 = .ok (.newarray .int, 2) := by decide +kernel
theorem d_X_ctor_28 : decode b_X_ctor 28 = .ok (.putfield 16, 3) := by decide +kernel
theorem d_X_ctor_31 : decode b_X_ctor 31 = .ok (.aload_n 0, 1) := by decide +kernel
theorem d_X_ctor_32 : decode b_X_ctor 32 = .ok (.bipush 22, 2) := by decide +kernel
theorem d_X_ctor_34 : decode b_X_ctor 34 = .ok (.newarray .boolean, 2) := by decide +kernel
theorem d_X_ctor_36 : decode b_X_ctor 36 = .ok (.putfield 19, 3) := by decide +kernel
theorem d_X_ctor_39 : decode b_X_ctor 39 = .ok (.aload_n 0, 1) := by decide +kernel
theorem d_X_ctor_40 : decode b_X_ctor 40 = .ok (.iload_n 1, 1) := by decide +kernel
theorem d_X_ctor_41 : decode b_X_ctor 41 = .ok (.bipush 20, 2) := by decide +kernel
theorem d_X_ctor_43 : decode b_X_ctor 43 = .ok (.invokestatic 23, 3) := by decide +kernel
theorem d_X_ctor_46 : decode b_X_ctor 46 = .ok (.putfield 27, 3) := by decide +kernel
theorem d_X_ctor_49 : decode b_X_ctor 49 = .ok (.aload_n 0, 1) := by decide +kernel
theorem d_X_ctor_50 : decode b_X_ctor 50 = .ok (.iload_n 2, 1) := by decide +kernel
theorem d_X_ctor_51 : decode b_X_ctor 51 = .ok (.bipush 40, 2) := by decide +kernel
theorem d_X_ctor_53 : decode b_X_ctor 53 = .ok (.invokestatic 23, 3) := by decide +kernel
theorem d_X_ctor_56 : decode b_X_ctor 56 = .ok (.putfield 31, 3) := by decide +kernel
theorem d_X_ctor_59 : decode b_X_ctor 59 = .ok (.return_, 1) := by decide +kernel
theorem d_X_within_0 : decode b_X_within 0 = .ok (.iload_n 0, 1) := by decide +kernel
theorem d_X_within_1 : decode b_X_within 1 = .ok (.iconst 1, 1) := by decide +kernel
theorem d_X_within_2 : decode b_X_within 2 = .ok (.if_icmp .ge 7, 3) := by decide +kernel
theorem d_X_within_5 : decode b_X_within 5 = .ok (.iconst 1, 1) := by decide +kernel
theorem d_X_within_6 : decode b_X_within 6 = .ok (.goto 13, 3) := by decide +kernel
theorem d_X_within_9 : decode b_X_within 9 = .ok (.iload_n 0, 1) := by decide +kernel
theorem d_X_within_10 : decode b_X_within 10 = .ok (.iload_n 1, 1) := by decide +kernel
theorem d_X_within_11 : decode b_X_within 11 = .ok (.if_icmp .le 7, 3) := by decide +kernel
theorem d_X_within_14 : decode b_X_within 14 = .ok (.iload_n 1, 1) := by decide +kernel
theorem d_X_within_15 : decode b_X_within 15 = .ok (.goto 4, 3) := by decide +kernel
theorem d_X_within_18 : decode b_X_within 18 = .ok (.iload_n 0, 1) := by decide +kernel
theorem d_X_within_19 : decode b_X_within 19 = .ok (.ireturn, 1) := by decide +kernel
theorem d_X_init_0 : decode b_X_init 0 = .ok (.iconst 1, 1) := by decide +kernel
theorem d_X_init_1 : decode b_X_init 1 = .ok (.istore_n 1, 1) := by decide +kernel
theorem d_X_init_2 : decode b_X_init 2 = .ok (.iconst 0, 1) := by decide +kernel
theorem d_X_init_3 : decode b_X_init 3 = .ok (.istore_n 2, 1) := by decide +kernel
theorem d_X_init_4 : decode b_X_init 4 = .ok (.iload_n 2, 1) := by decide +kernel
theorem d_X_init_5 : decode b_X_init 5 = .ok (.sipush 255, 3) := by decide +kernel
theorem d_X_init_8 : decode b_X_init 8 = .ok (.if_icmp .ge 51, 3) := by decide +kernel
theorem d_X_init_11 : decode b_X_init 11 = .ok (.aload_n 0, 1) := by decide +kernel
theorem d_X_init_12 : decode b_X_init 12 = .ok (.getfield 7, 3) := by decide +kernel
theorem d_X_init_15 : decode b_X_init 15 = .ok (.iload_n 2, 1) := by decide +kernel
theorem d_X_init_16 : decode b_X_init 16 = .ok (.iload_n 1, 1) := by decide +kernel
theorem d_X_init_17 : decode b_X_init 17 = .ok (.iastore, 1) := by decide +kernel
theorem d_X_init_18 : decode b_X_init 18 = .ok (.aload_n 0, 1) := by decide +kernel
theorem d_X_init_19 : decode b_X_init 19 = .ok (.getfield 7, 3) := by decide +kernel
theorem d_X_init_22 : decode b_X_init 22 = .ok (.iload_n 2, 1) := by decide +kernel
theorem d_X_init_23 : decode b_X_init 23 = .ok (.sipush 255, 3) := by decide +kernel
theorem d_X_init_26 : decode b_X_init 26 = .ok (.iadd, 1) := by decide +kernel
theorem d_X_init_27 : decode b_X_init 27 = .ok (.iload_n 1, 1) := by decide +kernel
theorem d_X_init_28 : decode b_X_init 28 = .ok (.iastore, 1) := by decide +kernel
theorem d_X_init_29 : decode b_X_init 29 = .ok (.aload_n 0, 1) := by decide +kernel
theorem d_X_init_30 : decode b_X_init 30 = .ok (.getfield 13, 3) := by decide +kernel
theorem d_X_init_33 : decode b_X_init 33 = .ok (.iload_n 1, 1) := by decide +kernel
theorem d_X_init_34 : decode b_X_init 34 = .ok (.iload_n 2, 1) := by decide +kernel
theorem d_X_init_35 : decode b_X_init 35 = .ok (.iastore, 1) := by decide +kernel
theorem d_X_init_36 : decode b_X_init 36 = .ok (.iload_n 1, 1) := by decide +kernel
theorem d_X_init_37 : decode b_X_init 37 = .ok (.iconst 1, 1) := by decide +kernel
theorem d_X_init_38 : decode b_X_init 38 = .ok (.ishl, 1) := by decide +kernel
theorem d_X_init_39 : decode b_X_init 39 = .ok (.istore_n 1, 1) := by decide +kernel
theorem d_X_init_40 : decode b_X_init 40 = .ok (.iload_n 1, 1) := by decide +kernel
theorem d_X_init_41 : decode b_X_init 41 = .ok (.sipush 255, 3) := by decide +kernel
theorem d_X_init_44 : decode b_X_init 44 = .ok (.if_icmp .le 9, 3) := by decide +kernel
theorem d_X_init_47 : decode b_X_init 47 = .ok (.iload_n 1, 1) := by decide +kernel
theorem d_X_init_48 : decode b_X_init 48 = .ok (.sipush 285, 3) := by decide +kernel
theorem d_X_init_51 : decode b_X_init 51 = .ok (.ixor, 1) := by decide +kernel
theorem d_X_init_52 : decode b_X_init 52 = .ok (.istore_n 1, 1) := by decide +kernel
theorem d_X_init_53 : decode b_X_init 53 = .ok (.iinc 2 1, 3) := by decide +kernel
theorem d_X_init_56 : decode b_X_init 56 = .ok (.goto (-52), 3) := by decide +kernel
theorem d_X_init_59 : decode b_X_init 59 = .ok (.iconst 0, 1) := by decide +kernel
theorem d_X_init_60 : decode b_X_init 60 = .ok (.istore_n 2, 1) := by decide +kernel
theorem d_X_init_61 : decode b_X_init 61 = .ok (.iload_n 2, 1) := by decide +kernel
theorem d_X_init_62 : decode b_X_init 62 = .ok (.sipush 880, 3) := by decide +kernel
theorem d_X_init_65 : decode b_X_init 65 = .ok (.if_icmp .ge 16, 3) := by decide +kernel
theorem d_X_init_68 : decode b_X_init 68 = .ok (.aload_n 0, 1) := by decide +kernel
theorem d_X_init_69 : decode b_X_init 69 = .ok (.getfield 16, 3) := by decide +kernel
theorem d_X_init_72 : decode b_X_init 72 = .ok (.iload_n 2, 1) := by decide +kernel
theorem d_X_init_73 : decode b_X_init 73 = .ok (.iconst 0, 1) := by decide +kernel
theorem d_X_init_74 : decode b_X_init 74 = .ok (.iastore, 1) := by decide +kernel
theorem d_X_init_75 : decode b_X_init 75 = .ok (.iinc 2 1, 3) := by decide +kernel
theorem d_X_init_78 : decode b_X_init 78 = .ok (.goto (-17), 3) := by decide +kernel
theorem d_X_init_81 : decode b_X_init 81 = .ok (.iconst 0, 1) := by decide +kernel
theorem d_X_init_82 : decode b_X_init 82 = .ok (.istore_n 2, 1) := by decide +kernel
theorem d_X_init_83 : decode b_X_init 83 = .ok (.iload_n 2, 1) := by decide +kernel
theorem d_X_init_84 : decode b_X_init 84 = .ok (.bipush 22, 2) := by decide +kernel
theorem d_X_init_86 : decode b_X_init 86 = .ok (.if_icmp .ge 16, 3) := by decide +kernel
theorem d_X_init_89 : decode b_X_init 89 = .ok (.aload_n 0, 1) := by decide +kernel
theorem d_X_init_90 : decode b_X_init 90 = .ok (.getfield 19, 3) := by decide +kernel
theorem d_X_init_93 : decode b_X_init 93 = .ok (.iload_n 2, 1) := by decide +kernel
theorem d_X_init_94 : decode b_X_init 94 = .ok (.iconst 0, 1) := by decide +kernel
theorem d_X_init_95 : decode b_X_init 95 = .ok (.bastore, 1) := by decide +kernel
theorem d_X_init_96 : decode b_X_init 96 = .ok (.iinc 2 1, 3) := by decide +kernel
theorem d_X_init_99 : decode b_X_init 99 = .ok (.goto (-16), 3) := by decide +kernel
theorem d_X_init_102 : decode b_X_init 102 = .ok (.aload_n 0, 1) := by decide +kernel
theorem d_X_init_103 : decode b_X_init 103 = .ok (.iconst 1, 1) := by decide +kernel
theorem d_X_init_104 : decode b_X_init 104 = .ok (.putfield 34, 3) := by decide +kernel
theorem d_X_init_107 : decode b_X_init 107 = .ok (.return_, 1) := by decide +kernel
theorem d_X_times_0 : decode b_X_times 0 = .ok (.iconst 0, 1) := by decide +kernel
theorem d_X_times_1 : decode b_X_times 1 = .ok (.istore_n 3, 1) := by decide +kernel
theorem d_X_times_2 : decode b_X_times 2 = .ok (.iconst 0, 1) := by decide +kernel
theorem d_X_times_3 : decode b_X_times 3 = .ok (.istore 4, 2) := by decide +kernel
theorem d_X_times_5 : decode b_X_times 5 = .ok (.iload 4, 2) := by decide +kernel
theorem d_X_times_7 : decode b_X_times 7 = .ok (.bipush 32, 2) := by decide +kernel
theorem d_X_times_9 : decode b_X_times 9 = .ok (.if_icmp .ge 44, 3) := by decide +kernel
theorem d_X_times_12 : decode b_X_times 12 = .ok (.iload_n 1, 1) := by decide +kernel
theorem d_X_times_13 : decode b_X_times 13 = .ok (.iload 4, 2) := by decide +kernel
theorem d_X_times_15 : decode b_X_times 15 = .ok (.iushr, 1) := by decide +kernel
theorem d_X_times_16 : decode b_X_times 16 = .ok (.sipush 255, 3) := by decide +kernel
theorem d_X_times_19 : decode b_X_times 19 = .ok (.iand, 1) := by decide +kernel
theorem d_X_times_20 : decode b_X_times 20 = .ok (.istore 5, 2) := by decide +kernel
theorem d_X_times_22 : decode b_X_times 22 = .ok (.iload 5, 2) := by decide +kernel
theorem d_X_times_24 : decode b_X_times 24 = .ok (.ifCond .eq 23, 3) := by decide +kernel
theorem d_X_times_27 : decode b_X_times 27 = .ok (.iload_n 3, 1) := by decide +kernel
theorem d_X_times_28 : decode b_X_times 28 = .ok (.aload_n 0, 1) := by decide +kernel
theorem d_X_times_29 : decode b_X_times 29 = .ok (.getfield 7, 3) := by decide +kernel
theorem d_X_times_32 : decode b_X_times 32 = .ok (.aload_n 0, 1) := by decide +kernel
theorem d_X_times_33 : decode b_X_times 33 = .ok (.getfield 13, 3) := by decide +kernel
theorem d_X_times_36 : decode b_X_times 36 = .ok (.iload 5, 2) := by decide +kernel
theorem d_X_times_38 : decode b_X_times 38 = .ok (.iaload, 1) := by decide +kernel
theorem d_X_times_39 : decode b_X_times 39 = .ok (.iload_n 2, 1) := by decide +kernel
theorem d_X_times_40 : decode b_X_times 40 = .ok (.iadd, 1) := by decide +kernel
theorem d_X_times_41 : decode b_X_times 41 = .ok (.iaload, 1) := by decide +kernel
theorem d_X_times_42 : decode b_X_times 42 = .ok (.iload 4, 2) := by decide +kernel
theorem d_X_times_44 : decode b_X_times 44 = .ok (.ishl, 1) := by decide +kernel
theorem d_X_times_45 : decode b_X_times 45 = .ok (.ior, 1) := by decide +kernel
theorem d_X_times_46 : decode b_X_times 46 = .ok (.istore_n 3, 1) := by decide +kernel
theorem d_X_times_47 : decode b_X_times 47 = .ok (.iinc 4 8, 3) := by decide +kernel
theorem d_X_times_50 : decode b_X_times 50 = .ok (.goto (-45), 3) := by decide +kernel
theorem d_X_times_53 : decode b_X_times 53 = .ok (.iload_n 3, 1) := by decide +kernel
theorem d_X_times_54 : decode b_X_times 54 = .ok (.ireturn, 1) := by decide +kernel
theorem d_X_over_0 : decode b_X_over 0 = .ok (.aload_n 0, 1) := by decide +kernel
theorem d_X_over_1 : decode b_X_over 1 = .ok (.iload_n 1, 1) := by decide +kernel
theorem d_X_over_2 : decode b_X_over 2 = .ok (.sipush 255, 3) := by decide +kernel
theorem d_X_over_5 : decode b_X_over 5 = .ok (.aload_n 0, 1) := by decide +kernel
theorem d_X_over_6 : decode b_X_over 6 = .ok (.getfield 13, 3) := by decide +kernel
theorem d_X_over_9 : decode b_X_over 9 = .ok (.iload_n 2, 1) := by decide +kernel
theorem d_X_over_10 : decode b_X_over 10 = .ok (.iaload, 1) := by decide +kernel
theorem d_X_over_11 : decode b_X_over 11 = .ok (.isub, 1) := by decide +kernel
theorem d_X_over_12 : decode b_X_over 12 = .ok (.sipush 255, 3) := by decide +kernel
theorem d_X_over_15 : decode b_X_over 15 = .ok (.irem, 1) := by decide +kernel
theorem d_X_over_16 : decode b_X_over 16 = .ok (.invokevirtual 38, 3) := by decide +kernel
theorem d_X_over_19 : decode b_X_over 19 = .ok (.ireturn, 1) := by decide +kernel
theorem d_X_at_0 : decode b_X_at 0 = .ok (.bipush 40, 2) := by decide +kernel
theorem d_X_at_2 : decode b_X_at 2 = .ok (.iload_n 1, 1) := by decide +kernel
theorem d_X_at_3 : decode b_X_at 3 = .ok (.imul, 1) := by decide +kernel
theorem d_X_at_4 : decode b_X_at 4 = .ok (.iload_n 2, 1) := by decide +kernel
theorem d_X_at_5 : decode b_X_at 5 = .ok (.iadd, 1) := by decide +kernel
theorem d_X_at_6 : decode b_X_at 6 = .ok (.ireturn, 1) := by decide +kernel
theorem d_X_sumOf_0 : decode b_X_sumOf 0 = .ok (.iconst 0, 1) := by decide +kernel
theorem d_X_sumOf_1 : decode b_X_sumOf 1 = .ok (.istore 4, 2) := by decide +kernel
theorem d_X_sumOf_3 : decode b_X_sumOf 3 = .ok (.iconst 0, 1) := by decide +kernel
theorem d_X_sumOf_4 : decode b_X_sumOf 4 = .ok (.istore 5, 2) := by decide +kernel
theorem d_X_sumOf_6 : decode b_X_sumOf 6 = .ok (.iload 5, 2) := by decide +kernel
theorem d_X_sumOf_8 : decode b_X_sumOf 8 = .ok (.aload_n 0, 1) := by decide +kernel
theorem d_X_sumOf_9 : decode b_X_sumOf 9 = .ok (.getfield 27, 3) := by decide +kernel
theorem d_X_sumOf_12 : decode b_X_sumOf 12 = .ok (.if_icmp .ge 38, 3) := by decide +kernel
theorem d_X_sumOf_15 : decode b_X_sumOf 15 = .ok (.iload 5, 2) := by decide +kernel
theorem d_X_sumOf_17 : decode b_X_sumOf 17 = .ok (.iload_n 2, 1) := by decide +kernel
theorem d_X_sumOf_18 : decode b_X_sumOf 18 = .ok (.if_icmp .eq 26, 3) := by decide +kernel
theorem d_X_sumOf_21 : decode b_X_sumOf 21 = .ok (.iload 5, 2) := by decide +kernel
theorem d_X_sumOf_23 : decode b_X_sumOf 23 = .ok (.iload_n 3, 1) := by decide +kernel
theorem d_X_sumOf_24 : decode b_X_sumOf 24 = .ok (.if_icmp .eq 20, 3) := by decide +kernel
theorem d_X_sumOf_27 : decode b_X_sumOf 27 = .ok (.iload 4, 2) := by decide +kernel
theorem d_X_sumOf_29 : decode b_X_sumOf 29 = .ok (.aload_n 0, 1) := by decide +kernel
theorem d_X_sumOf_30 : decode b_X_sumOf 30 = .ok (.getfield 16, 3) := by decide +kernel
theorem d_X_sumOf_33 : decode b_X_sumOf 33 = .ok (.aload_n 0, 1) := by decide +kernel
theorem d_X_sumOf_34 : decode b_X_sumOf 34 = .ok (.iload 5, 2) := by decide +kernel
theorem d_X_sumOf_36 : decode b_X_sumOf 36 = .ok (.iload_n 1, 1) := by decide +kernel
theorem d_X_sumOf_37 : decode b_X_sumOf 37 = .ok (.invokevirtual 41, 3) := by decide +kernel
theorem d_X_sumOf_40 : decode b_X_sumOf 40 = .ok (.iaload, 1) := by decide +kernel
theorem d_X_sumOf_41 : decode b_X_sumOf 41 = .ok (.ixor, 1) := by decide +kernel
theorem d_X_sumOf_42 : decode b_X_sumOf 42 = .ok (.istore 4, 2) := by decide +kernel
theorem d_X_sumOf_44 : decode b_X_sumOf 44 = .ok (.iinc 5 1, 3) := by decide +kernel
theorem d_X_sumOf_47 : decode b_X_sumOf 47 = .ok (.goto (-41), 3) := by decide +kernel
theorem d_X_sumOf_50 : decode b_X_sumOf 50 = .ok (.iload 4, 2) := by decide +kernel
theorem d_X_sumOf_52 : decode b_X_sumOf 52 = .ok (.ireturn, 1) := by decide +kernel
theorem d_X_weightedOf_0 : decode b_X_weightedOf 0 = .ok (.iconst 0, 1) := by decide +kernel
theorem d_X_weightedOf_1 : decode b_X_weightedOf 1 = .ok (.istore 4, 2) := by decide +kernel
theorem d_X_weightedOf_3 : decode b_X_weightedOf 3 = .ok (.iconst 0, 1) := by decide +kernel
theorem d_X_weightedOf_4 : decode b_X_weightedOf 4 = .ok (.istore 5, 2) := by decide +kernel
theorem d_X_weightedOf_6 : decode b_X_weightedOf 6 = .ok (.iload 5, 2) := by decide +kernel
theorem d_X_weightedOf_8 : decode b_X_weightedOf 8 = .ok (.aload_n 0, 1) := by decide +kernel
theorem d_X_weightedOf_9 : decode b_X_weightedOf 9 = .ok (.getfield 27, 3) := by decide +kernel
theorem d_X_weightedOf_12 : decode b_X_weightedOf 12 = .ok (.if_icmp .ge 44, 3) := by decide +kernel
theorem d_X_weightedOf_15 : decode b_X_weightedOf 15 = .ok (.iload 5, 2) := by decide +kernel
theorem d_X_weightedOf_17 : decode b_X_weightedOf 17 = .ok (.iload_n 2, 1) := by decide +kernel
theorem d_X_weightedOf_18 : decode b_X_weightedOf 18 = .ok (.if_icmp .eq 32, 3) := by decide +kernel
theorem d_X_weightedOf_21 : decode b_X_weightedOf 21 = .ok (.iload 5, 2) := by decide +kernel
theorem d_X_weightedOf_23 : decode b_X_weightedOf 23 = .ok (.iload_n 3, 1) := by decide +kernel
theorem d_X_weightedOf_24 : decode b_X_weightedOf 24 = .ok (.if_icmp .eq 26, 3) := by decide +kernel
theorem d_X_weightedOf_27 : decode b_X_weightedOf 27 = .ok (.iload 4, 2) := by decide +kernel
theorem d_X_weightedOf_29 : decode b_X_weightedOf 29 = .ok (.aload_n 0, 1) := by decide +kernel
theorem d_X_weightedOf_30 : decode b_X_weightedOf 30 = .ok (.aload_n 0, 1) := by decide +kernel
theorem d_X_weightedOf_31 : decode b_X_weightedOf 31 = .ok (.getfield 16, 3) := by decide +kernel
theorem d_X_weightedOf_34 : decode b_X_weightedOf 34 = .ok (.aload_n 0, 1) := by decide +kernel
theorem d_X_weightedOf_35 : decode b_X_weightedOf 35 = .ok (.iload 5, 2) := by decide +kernel
theorem d_X_weightedOf_37 : decode b_X_weightedOf 37 = .ok (.iload_n 1, 1) := by decide +kernel
theorem d_X_weightedOf_38 : decode b_X_weightedOf 38 = .ok (.invokevirtual 41, 3) := by decide +kernel
theorem d_X_weightedOf_41 : decode b_X_weightedOf 41 = .ok (.iaload, 1) := by decide +kernel
theorem d_X_weightedOf_42 : decode b_X_weightedOf 42 = .ok (.iload 5, 2) := by decide +kernel
theorem d_X_weightedOf_44 : decode b_X_weightedOf 44 = .ok (.invokevirtual 38, 3) := by decide +kernel
theorem d_X_weightedOf_47 : decode b_X_weightedOf 47 = .ok (.ixor, 1) := by decide +kernel
theorem d_X_weightedOf_48 : decode b_X_weightedOf 48 = .ok (.istore 4, 2) := by decide +kernel
theorem d_X_weightedOf_50 : decode b_X_weightedOf 50 = .ok (.iinc 5 1, 3) := by decide +kernel
theorem d_X_weightedOf_53 : decode b_X_weightedOf 53 = .ok (.goto (-47), 3) := by decide +kernel
theorem d_X_weightedOf_56 : decode b_X_weightedOf 56 = .ok (.iload 4, 2) := by decide +kernel
theorem d_X_weightedOf_58 : decode b_X_weightedOf 58 = .ok (.ireturn, 1) := by decide +kernel
theorem d_X_otherLost_0 : decode b_X_otherLost 0 = .ok (.iconst 0, 1) := by decide +kernel
theorem d_X_otherLost_1 : decode b_X_otherLost 1 = .ok (.istore_n 2, 1) := by decide +kernel
theorem d_X_otherLost_2 : decode b_X_otherLost 2 = .ok (.iload_n 2, 1) := by decide +kernel
theorem d_X_otherLost_3 : decode b_X_otherLost 3 = .ok (.aload_n 0, 1) := by decide +kernel
theorem d_X_otherLost_4 : decode b_X_otherLost 4 = .ok (.getfield 27, 3) := by decide +kernel
theorem d_X_otherLost_7 : decode b_X_otherLost 7 = .ok (.if_icmp .ge 25, 3) := by decide +kernel
theorem d_X_otherLost_10 : decode b_X_otherLost 10 = .ok (.iload_n 2, 1) := by decide +kernel
theorem d_X_otherLost_11 : decode b_X_otherLost 11 = .ok (.iload_n 1, 1) := by decide +kernel
theorem d_X_otherLost_12 : decode b_X_otherLost 12 = .ok (.if_icmp .eq 14, 3) := by decide +kernel
theorem d_X_otherLost_15 : decode b_X_otherLost 15 = .ok (.aload_n 0, 1) := by decide +kernel
theorem d_X_otherLost_16 : decode b_X_otherLost 16 = .ok (.getfield 19, 3) := by decide +kernel
theorem d_X_otherLost_19 : decode b_X_otherLost 19 = .ok (.iload_n 2, 1) := by decide +kernel
theorem d_X_otherLost_20 : decode b_X_otherLost 20 = .ok (.baload, 1) := by decide +kernel
theorem d_X_otherLost_21 : decode b_X_otherLost 21 = .ok (.ifCond .eq 5, 3) := by decide +kernel
theorem d_X_otherLost_24 : decode b_X_otherLost 24 = .ok (.iload_n 2, 1) := by decide +kernel
theorem d_X_otherLost_25 : decode b_X_otherLost 25 = .ok (.ireturn, 1) := by decide +kernel
theorem d_X_otherLost_26 : decode b_X_otherLost 26 = .ok (.iinc 2 1, 3) := by decide +kernel
theorem d_X_otherLost_29 : decode b_X_otherLost 29 = .ok (.goto (-27), 3) := by decide +kernel
theorem d_X_otherLost_32 : decode b_X_otherLost 32 = .ok (.iconst (-1), 1) := by decide +kernel
theorem d_X_otherLost_33 : decode b_X_otherLost 33 = .ok (.ireturn, 1) := by decide +kernel
theorem d_X_found_0 : decode b_X_found 0 = .ok (.aload_n 0, 1) := by decide +kernel
theorem d_X_found_1 : decode b_X_found 1 = .ok (.iload_n 1, 1) := by decide +kernel
theorem d_X_found_2 : decode b_X_found 2 = .ok (.invokevirtual 44, 3) := by decide +kernel
theorem d_X_found_5 : decode b_X_found 5 = .ok (.istore_n 3, 1) := by decide +kernel
theorem d_X_found_6 : decode b_X_found 6 = .ok (.iload_n 3, 1) := by decide +kernel
theorem d_X_found_7 : decode b_X_found 7 = .ok (.ifCond .ge 76, 3) := by decide +kernel
theorem d_X_found_10 : decode b_X_found 10 = .ok (.aload_n 0, 1) := by decide +kernel
theorem d_X_found_11 : decode b_X_found 11 = .ok (.getfield 19, 3) := by decide +kernel
theorem d_X_found_14 : decode b_X_found 14 = .ok (.aload_n 0, 1) := by decide +kernel
theorem d_X_found_15 : decode b_X_found 15 = .ok (.getfield 27, 3) := by decide +kernel
theorem d_X_found_18 : decode b_X_found 18 = .ok (.baload, 1) := by decide +kernel
theorem d_X_found_19 : decode b_X_found 19 = .ok (.ifCond .ne 26, 3) := by decide +kernel
theorem d_X_found_22 : decode b_X_found 22 = .ok (.aload_n 0, 1) := by decide +kernel
theorem d_X_found_23 : decode b_X_found 23 = .ok (.getfield 16, 3) := by decide +kernel
theorem d_X_found_26 : decode b_X_found 26 = .ok (.aload_n 0, 1) := by decide +kernel
theorem d_X_found_27 : decode b_X_found 27 = .ok (.aload_n 0, 1) := by decide +kernel
theorem d_X_found_28 : decode b_X_found 28 = .ok (.getfield 27, 3) := by decide +kernel
theorem d_X_found_31 : decode b_X_found 31 = .ok (.iload_n 2, 1) := by decide +kernel
theorem d_X_found_32 : decode b_X_found 32 = .ok (.invokevirtual 41, 3) := by decide +kernel
theorem d_X_found_35 : decode b_X_found 35 = .ok (.iaload, 1) := by decide +kernel
theorem d_X_found_36 : decode b_X_found 36 = .ok (.aload_n 0, 1) := by decide +kernel
theorem d_X_found_37 : decode b_X_found 37 = .ok (.iload_n 2, 1) := by decide +kernel
theorem d_X_found_38 : decode b_X_found 38 = .ok (.iload_n 1, 1) := by decide +kernel
theorem d_X_found_39 : decode b_X_found 39 = .ok (.iconst (-1), 1) := by decide +kernel
theorem d_X_found_40 : decode b_X_found 40 = .ok (.invokevirtual 48, 3) := by decide +kernel
theorem d_X_found_43 : decode b_X_found 43 = .ok (.ixor, 1) := by decide +kernel
theorem d_X_found_44 : decode b_X_found 44 = .ok (.ireturn, 1) := by decide +kernel
theorem d_X_found_45 : decode b_X_found 45 = .ok (.aload_n 0, 1) := by decide +kernel
theorem d_X_found_46 : decode b_X_found 46 = .ok (.aload_n 0, 1) := by decide +kernel
theorem d_X_found_47 : decode b_X_found 47 = .ok (.getfield 16, 3) := by decide +kernel
theorem d_X_found_50 : decode b_X_found 50 = .ok (.aload_n 0, 1) := by decide +kernel
theorem d_X_found_51 : decode b_X_found 51 = .ok (.aload_n 0, 1) := by decide +kernel
theorem d_X_found_52 : decode b_X_found 52 = .ok (.getfield 27, 3) := by decide +kernel
theorem d_X_found_55 : decode b_X_found 55 = .ok (.iconst 1, 1) := by decide +kernel
theorem d_X_found_56 : decode b_X_found 56 = .ok (.iadd, 1) := by decide +kernel
theorem d_X_found_57 : decode b_X_found 57 = .ok (.iload_n 2, 1) := by decide +kernel
theorem d_X_found_58 : decode b_X_found 58 = .ok (.invokevirtual 41, 3) := by decide +kernel
theorem d_X_found_61 : decode b_X_found 61 = .ok (.iaload, 1) := by decide +kernel
theorem d_X_found_62 : decode b_X_found 62 = .ok (.aload_n 0, 1) := by decide +kernel
theorem d_X_found_63 : decode b_X_found 63 = .ok (.iload_n 2, 1) := by decide +kernel
theorem d_X_found_64 : decode b_X_found 64 = .ok (.iload_n 1, 1) := by decide +kernel
theorem d_X_found_65 : decode b_X_found 65 = .ok (.iconst (-1), 1) := by decide +kernel
theorem d_X_found_66 : decode b_X_found 66 = .ok (.invokevirtual 52, 3) := by decide +kernel
theorem d_X_found_69 : decode b_X_found 69 = .ok (.ixor, 1) := by decide +kernel
theorem d_X_found_70 : decode b_X_found 70 = .ok (.sipush 255, 3) := by decide +kernel
theorem d_X_found_73 : decode b_X_found 73 = .ok (.iload_n 1, 1) := by decide +kernel
theorem d_X_found_74 : decode b_X_found 74 = .ok (.isub, 1) := by decide +kernel
theorem d_X_found_75 : decode b_X_found 75 = .ok (.sipush 255, 3) := by decide +kernel
theorem d_X_found_78 : decode b_X_found 78 = .ok (.irem, 1) := by decide +kernel
theorem d_X_found_79 : decode b_X_found 79 = .ok (.invokevirtual 38, 3) := by decide +kernel
theorem d_X_found_82 : decode b_X_found 82 = .ok (.ireturn, 1) := by decide +kernel
theorem d_X_found_83 : decode b_X_found 83 = .ok (.aload_n 0, 1) := by decide +kernel
theorem d_X_found_84 : decode b_X_found 84 = .ok (.getfield 16, 3) := by decide +kernel
theorem d_X_found_87 : decode b_X_found 87 = .ok (.aload_n 0, 1) := by decide +kernel
theorem d_X_found_88 : decode b_X_found 88 = .ok (.aload_n 0, 1) := by decide +kernel
theorem d_X_found_89 : decode b_X_found 89 = .ok (.getfield 27, 3) := by decide +kernel
theorem d_X_found_92 : decode b_X_found 92 = .ok (.iload_n 2, 1) := by decide +kernel
theorem d_X_found_93 : decode b_X_found 93 = .ok (.invokevirtual 41, 3) := by decide +kernel
theorem d_X_found_96 : decode b_X_found 96 = .ok (.iaload, 1) := by decide +kernel
theorem d_X_found_97 : decode b_X_found 97 = .ok (.aload_n 0, 1) := by decide +kernel
theorem d_X_found_98 : decode b_X_found 98 = .ok (.iload_n 2, 1) := by decide +kernel
theorem d_X_found_99 : decode b_X_found 99 = .ok (.iload_n 1, 1) := by decide +kernel
theorem d_X_found_100 : decode b_X_found 100 = .ok (.iload_n 3, 1) := by decide +kernel
theorem d_X_found_101 : decode b_X_found 101 = .ok (.invokevirtual 48, 3) := by decide +kernel
theorem d_X_found_104 : decode b_X_found 104 = .ok (.ixor, 1) := by decide +kernel
theorem d_X_found_105 : decode b_X_found 105 = .ok (.istore 4, 2) := by decide +kernel
theorem d_X_found_107 : decode b_X_found 107 = .ok (.aload_n 0, 1) := by decide +kernel
theorem d_X_found_108 : decode b_X_found 108 = .ok (.getfield 16, 3) := by decide +kernel
theorem d_X_found_111 : decode b_X_found 111 = .ok (.aload_n 0, 1) := by decide +kernel
theorem d_X_found_112 : decode b_X_found 112 = .ok (.aload_n 0, 1) := by decide +kernel
theorem d_X_found_113 : decode b_X_found 113 = .ok (.getfield 27, 3) := by decide +kernel
theorem d_X_found_116 : decode b_X_found 116 = .ok (.iconst 1, 1) := by decide +kernel
theorem d_X_found_117 : decode b_X_found 117 = .ok (.iadd, 1) := by decide +kernel
theorem d_X_found_118 : decode b_X_found 118 = .ok (.iload_n 2, 1) := by decide +kernel
theorem d_X_found_119 : decode b_X_found 119 = .ok (.invokevirtual 41, 3) := by decide +kernel
theorem d_X_found_122 : decode b_X_found 122 = .ok (.iaload, 1) := by decide +kernel
theorem d_X_found_123 : decode b_X_found 123 = .ok (.aload_n 0, 1) := by decide +kernel
theorem d_X_found_124 : decode b_X_found 124 = .ok (.iload_n 2, 1) := by decide +kernel
theorem d_X_found_125 : decode b_X_found 125 = .ok (.iload_n 1, 1) := by decide +kernel
theorem d_X_found_126 : decode b_X_found 126 = .ok (.iload_n 3, 1) := by decide +kernel
theorem d_X_found_127 : decode b_X_found 127 = .ok (.invokevirtual 52, 3) := by decide +kernel
theorem d_X_found_130 : decode b_X_found 130 = .ok (.ixor, 1) := by decide +kernel
theorem d_X_found_131 : decode b_X_found 131 = .ok (.istore 5, 2) := by decide +kernel
theorem d_X_found_133 : decode b_X_found 133 = .ok (.aload_n 0, 1) := by decide +kernel
theorem d_X_found_134 : decode b_X_found 134 = .ok (.iload 5, 2) := by decide +kernel
theorem d_X_found_136 : decode b_X_found 136 = .ok (.aload_n 0, 1) := by decide +kernel
theorem d_X_found_137 : decode b_X_found 137 = .ok (.iload 4, 2) := by decide +kernel
theorem d_X_found_139 : decode b_X_found 139 = .ok (.iload_n 3, 1) := by decide +kernel
theorem d_X_found_140 : decode b_X_found 140 = .ok (.invokevirtual 38, 3) := by decide +kernel
theorem d_X_found_143 : decode b_X_found 143 = .ok (.ixor, 1) := by decide +kernel
theorem d_X_found_144 : decode b_X_found 144 = .ok (.aload_n 0, 1) := by decide +kernel
theorem d_X_found_145 : decode b_X_found 145 = .ok (.getfield 7, 3) := by decide +kernel
theorem d_X_found_148 : decode b_X_found 148 = .ok (.iload_n 1, 1) := by decide +kernel
theorem d_X_found_149 : decode b_X_found 149 = .ok (.iaload, 1) := by decide +kernel
theorem d_X_found_150 : decode b_X_found 150 = .ok (.aload_n 0, 1) := by decide +kernel
theorem d_X_found_151 : decode b_X_found 151 = .ok (.getfield 7, 3) := by decide +kernel
theorem d_X_found_154 : decode b_X_found 154 = .ok (.iload_n 3, 1) := by decide +kernel
theorem d_X_found_155 : decode b_X_found 155 = .ok (.iaload, 1) := by decide +kernel
theorem d_X_found_156 : decode b_X_found 156 = .ok (.ixor, 1) := by decide +kernel
theorem d_X_found_157 : decode b_X_found 157 = .ok (.invokevirtual 55, 3) := by decide +kernel
theorem d_X_found_160 : decode b_X_found 160 = .ok (.ireturn, 1) := by decide +kernel
theorem d_X_valueOf_0 : decode b_X_valueOf 0 = .ok (.aload_n 0, 1) := by decide +kernel
theorem d_X_valueOf_1 : decode b_X_valueOf 1 = .ok (.getfield 19, 3) := by decide +kernel
theorem d_X_valueOf_4 : decode b_X_valueOf 4 = .ok (.iload_n 1, 1) := by decide +kernel
theorem d_X_valueOf_5 : decode b_X_valueOf 5 = .ok (.baload, 1) := by decide +kernel
theorem d_X_valueOf_6 : decode b_X_valueOf 6 = .ok (.ifCond .eq 12, 3) := by decide +kernel
theorem d_X_valueOf_9 : decode b_X_valueOf 9 = .ok (.aload_n 0, 1) := by decide +kernel
theorem d_X_valueOf_10 : decode b_X_valueOf 10 = .ok (.iload_n 1, 1) := by decide +kernel
theorem d_X_valueOf_11 : decode b_X_valueOf 11 = .ok (.iload_n 2, 1) := by decide +kernel
theorem d_X_valueOf_12 : decode b_X_valueOf 12 = .ok (.invokevirtual 58, 3) := by decide +kernel
theorem d_X_valueOf_15 : decode b_X_valueOf 15 = .ok (.goto 14, 3) := by decide +kernel
theorem d_X_valueOf_18 : decode b_X_valueOf 18 = .ok (.aload_n 0, 1) := by decide +kernel
theorem d_X_valueOf_19 : decode b_X_valueOf 19 = .ok (.getfield 16, 3) := by decide +kernel
theorem d_X_valueOf_22 : decode b_X_valueOf 22 = .ok (.aload_n 0, 1) := by decide +kernel
theorem d_X_valueOf_23 : decode b_X_valueOf 23 = .ok (.iload_n 1, 1) := by decide +kernel
theorem d_X_valueOf_24 : decode b_X_valueOf 24 = .ok (.iload_n 2, 1) := by decide +kernel
theorem d_X_valueOf_25 : decode b_X_valueOf 25 = .ok (.invokevirtual 41, 3) := by decide +kernel
theorem d_X_valueOf_28 : decode b_X_valueOf 28 = .ok (.iaload, 1) := by decide +kernel
theorem d_X_valueOf_29 : decode b_X_valueOf 29 = .ok (.ireturn, 1) := by decide +kernel
end
section
/-! decode rows, printed by gen_names.py -/
theorem d_X_isCell_0 : decode b_X_isCell 0 = .ok (.aload_n 0, 1) := by decide +kernel
theorem d_X_isCell_1 : decode b_X_isCell 1 = .ok (.getfield 34, 3) := by decide +kernel
theorem d_X_isCell_4 : decode b_X_isCell 4 = .ok (.ifCond .eq 28, 3) := by decide +kernel
theorem d_X_isCell_7 : decode b_X_isCell 7 = .ok (.iload_n 1, 1) := by decide +kernel
theorem d_X_isCell_8 : decode b_X_isCell 8 = .ok (.ifCond .lt 24, 3) := by decide +kernel
theorem d_X_isCell_11 : decode b_X_isCell 11 = .ok (.iload_n 1, 1) := by decide +kernel
theorem d_X_isCell_12 : decode b_X_isCell 12 = .ok (.iload_n 3, 1) := by decide +kernel
theorem d_X_isCell_13 : decode b_X_isCell 13 = .ok (.if_icmp .ge 19, 3) := by decide +kernel
theorem d_X_isCell_16 : decode b_X_isCell 16 = .ok (.iload_n 2, 1) := by decide +kernel
theorem d_X_isCell_17 : decode b_X_isCell 17 = .ok (.ifCond .lt 15, 3) := by decide +kernel
theorem d_X_isCell_20 : decode b_X_isCell 20 = .ok (.iload_n 2, 1) := by decide +kernel
theorem d_X_isCell_21 : decode b_X_isCell 21 = .ok (.aload_n 0, 1) := by decide +kernel
theorem d_X_isCell_22 : decode b_X_isCell 22 = .ok (.getfield 31, 3) := by decide +kernel
theorem d_X_isCell_25 : decode b_X_isCell 25 = .ok (.if_icmp .ge 7, 3) := by decide +kernel
theorem d_X_isCell_28 : decode b_X_isCell 28 = .ok (.iconst 1, 1) := by decide +kernel
theorem d_X_isCell_29 : decode b_X_isCell 29 = .ok (.goto 4, 3) := by decide +kernel
theorem d_X_isCell_32 : decode b_X_isCell 32 = .ok (.iconst 0, 1) := by decide +kernel
theorem d_X_isCell_33 : decode b_X_isCell 33 = .ok (.ireturn, 1) := by decide +kernel
theorem d_X_write_0 : decode b_X_write 0 = .ok (.aload_n 0, 1) := by decide +kernel
theorem d_X_write_1 : decode b_X_write 1 = .ok (.iload_n 1, 1) := by decide +kernel
theorem d_X_write_2 : decode b_X_write 2 = .ok (.iload_n 2, 1) := by decide +kernel
theorem d_X_write_3 : decode b_X_write 3 = .ok (.aload_n 0, 1) := by decide +kernel
theorem d_X_write_4 : decode b_X_write 4 = .ok (.getfield 27, 3) := by decide +kernel
theorem d_X_write_7 : decode b_X_write 7 = .ok (.invokevirtual 61, 3) := by decide +kernel
theorem d_X_write_10 : decode b_X_write 10 = .ok (.ifCond .ne 5, 3) := by decide +kernel
theorem d_X_write_13 : decode b_X_write 13 = .ok (.iconst 0, 1) := by decide +kernel
theorem d_X_write_14 : decode b_X_write 14 = .ok (.ireturn, 1) := by decide +kernel
theorem d_X_write_15 : decode b_X_write 15 = .ok (.aload_n 0, 1) := by decide +kernel
theorem d_X_write_16 : decode b_X_write 16 = .ok (.iload_n 1, 1) := by decide +kernel
theorem d_X_write_17 : decode b_X_write 17 = .ok (.iload_n 2, 1) := by decide +kernel
theorem d_X_write_18 : decode b_X_write 18 = .ok (.invokevirtual 65, 3) := by decide +kernel
theorem d_X_write_21 : decode b_X_write 21 = .ok (.iload_n 3, 1) := by decide +kernel
theorem d_X_write_22 : decode b_X_write 22 = .ok (.ixor, 1) := by decide +kernel
theorem d_X_write_23 : decode b_X_write 23 = .ok (.istore 4, 2) := by decide +kernel
theorem d_X_write_25 : decode b_X_write 25 = .ok (.aload_n 0, 1) := by decide +kernel
theorem d_X_write_26 : decode b_X_write 26 = .ok (.getfield 19, 3) := by decide +kernel
theorem d_X_write_29 : decode b_X_write 29 = .ok (.iload_n 1, 1) := by decide +kernel
theorem d_X_write_30 : decode b_X_write 30 = .ok (.baload, 1) := by decide +kernel
theorem d_X_write_31 : decode b_X_write 31 = .ok (.ifCond .ne 15, 3) := by decide +kernel
theorem d_X_write_34 : decode b_X_write 34 = .ok (.aload_n 0, 1) := by decide +kernel
theorem d_X_write_35 : decode b_X_write 35 = .ok (.getfield 16, 3) := by decide +kernel
theorem d_X_write_38 : decode b_X_write 38 = .ok (.aload_n 0, 1) := by decide +kernel
theorem d_X_write_39 : decode b_X_write 39 = .ok (.iload_n 1, 1) := by decide +kernel
theorem d_X_write_40 : decode b_X_write 40 = .ok (.iload_n 2, 1) := by decide +kernel
theorem d_X_write_41 : decode b_X_write 41 = .ok (.invokevirtual 41, 3) := by decide +kernel
theorem d_X_write_44 : decode b_X_write 44 = .ok (.iload_n 3, 1) := by decide +kernel
theorem d_X_write_45 : decode b_X_write 45 = .ok (.iastore, 1) := by decide +kernel
theorem d_X_write_46 : decode b_X_write 46 = .ok (.aload_n 0, 1) := by decide +kernel
theorem d_X_write_47 : decode b_X_write 47 = .ok (.getfield 19, 3) := by decide +kernel
theorem d_X_write_50 : decode b_X_write 50 = .ok (.aload_n 0, 1) := by decide +kernel
theorem d_X_write_51 : decode b_X_write 51 = .ok (.getfield 27, 3) := by decide +kernel
theorem d_X_write_54 : decode b_X_write 54 = .ok (.baload, 1) := by decide +kernel
theorem d_X_write_55 : decode b_X_write 55 = .ok (.ifCond .ne 22, 3) := by decide +kernel
theorem d_X_write_58 : decode b_X_write 58 = .ok (.aload_n 0, 1) := by decide +kernel
theorem d_X_write_59 : decode b_X_write 59 = .ok (.getfield 16, 3) := by decide +kernel
theorem d_X_write_62 : decode b_X_write 62 = .ok (.aload_n 0, 1) := by decide +kernel
theorem d_X_write_63 : decode b_X_write 63 = .ok (.aload_n 0, 1) := by decide +kernel
theorem d_X_write_64 : decode b_X_write 64 = .ok (.getfield 27, 3) := by decide +kernel
theorem d_X_write_67 : decode b_X_write 67 = .ok (.iload_n 2, 1) := by decide +kernel
theorem d_X_write_68 : decode b_X_write 68 = .ok (.invokevirtual 41, 3) := by decide +kernel
theorem d_X_write_71 : decode b_X_write 71 = .ok (.dup2, 1) := by decide +kernel
theorem d_X_write_72 : decode b_X_write 72 = .ok (.iaload, 1) := by decide +kernel
theorem d_X_write_73 : decode b_X_write 73 = .ok (.iload 4, 2) := by decide +kernel
theorem d_X_write_75 : decode b_X_write 75 = .ok (.ixor, 1) := by decide +kernel
theorem d_X_write_76 : decode b_X_write 76 = .ok (.iastore, 1) := by decide +kernel
theorem d_X_write_77 : decode b_X_write 77 = .ok (.aload_n 0, 1) := by decide +kernel
theorem d_X_write_78 : decode b_X_write 78 = .ok (.getfield 19, 3) := by decide +kernel
theorem d_X_write_81 : decode b_X_write 81 = .ok (.aload_n 0, 1) := by decide +kernel
theorem d_X_write_82 : decode b_X_write 82 = .ok (.getfield 27, 3) := by decide +kernel
theorem d_X_write_85 : decode b_X_write 85 = .ok (.iconst 1, 1) := by decide +kernel
theorem d_X_write_86 : decode b_X_write 86 = .ok (.iadd, 1) := by decide +kernel
theorem d_X_write_87 : decode b_X_write 87 = .ok (.baload, 1) := by decide +kernel
theorem d_X_write_88 : decode b_X_write 88 = .ok (.ifCond .ne 29, 3) := by decide +kernel
theorem d_X_write_91 : decode b_X_write 91 = .ok (.aload_n 0, 1) := by decide +kernel
theorem d_X_write_92 : decode b_X_write 92 = .ok (.getfield 16, 3) := by decide +kernel
theorem d_X_write_95 : decode b_X_write 95 = .ok (.aload_n 0, 1) := by decide +kernel
theorem d_X_write_96 : decode b_X_write 96 = .ok (.aload_n 0, 1) := by decide +kernel
theorem d_X_write_97 : decode b_X_write 97 = .ok (.getfield 27, 3) := by decide +kernel
theorem d_X_write_100 : decode b_X_write 100 = .ok (.iconst 1, 1) := by decide +kernel
theorem d_X_write_101 : decode b_X_write 101 = .ok (.iadd, 1) := by decide +kernel
theorem d_X_write_102 : decode b_X_write 102 = .ok (.iload_n 2, 1) := by decide +kernel
theorem d_X_write_103 : decode b_X_write 103 = .ok (.invokevirtual 41, 3) := by decide +kernel
theorem d_X_write_106 : decode b_X_write 106 = .ok (.dup2, 1) := by decide +kernel
theorem d_X_write_107 : decode b_X_write 107 = .ok (.iaload, 1) := by decide +kernel
theorem d_X_write_108 : decode b_X_write 108 = .ok (.aload_n 0, 1) := by decide +kernel
theorem d_X_write_109 : decode b_X_write 109 = .ok (.iload 4, 2) := by decide +kernel
theorem d_X_write_111 : decode b_X_write 111 = .ok (.iload_n 1, 1) := by decide +kernel
theorem d_X_write_112 : decode b_X_write 112 = .ok (.invokevirtual 38, 3) := by decide +kernel
theorem d_X_write_115 : decode b_X_write 115 = .ok (.ixor, 1) := by decide +kernel
theorem d_X_write_116 : decode b_X_write 116 = .ok (.iastore, 1) := by decide +kernel
theorem d_X_write_117 : decode b_X_write 117 = .ok (.iconst 1, 1) := by decide +kernel
theorem d_X_write_118 : decode b_X_write 118 = .ok (.ireturn, 1) := by decide +kernel
theorem d_X_read_0 : decode b_X_read 0 = .ok (.aload_n 0, 1) := by decide +kernel
theorem d_X_read_1 : decode b_X_read 1 = .ok (.iload_n 1, 1) := by decide +kernel
theorem d_X_read_2 : decode b_X_read 2 = .ok (.iload_n 2, 1) := by decide +kernel
theorem d_X_read_3 : decode b_X_read 3 = .ok (.aload_n 0, 1) := by decide +kernel
theorem d_X_read_4 : decode b_X_read 4 = .ok (.getfield 27, 3) := by decide +kernel
theorem d_X_read_7 : decode b_X_read 7 = .ok (.invokevirtual 61, 3) := by decide +kernel
theorem d_X_read_10 : decode b_X_read 10 = .ok (.ifCond .eq 12, 3) := by decide +kernel
theorem d_X_read_13 : decode b_X_read 13 = .ok (.aload_n 0, 1) := by decide +kernel
theorem d_X_read_14 : decode b_X_read 14 = .ok (.iload_n 1, 1) := by decide +kernel
theorem d_X_read_15 : decode b_X_read 15 = .ok (.iload_n 2, 1) := by decide +kernel
theorem d_X_read_16 : decode b_X_read 16 = .ok (.invokevirtual 65, 3) := by decide +kernel
theorem d_X_read_19 : decode b_X_read 19 = .ok (.goto 4, 3) := by decide +kernel
theorem d_X_read_22 : decode b_X_read 22 = .ok (.iconst 0, 1) := by decide +kernel
theorem d_X_read_23 : decode b_X_read 23 = .ok (.ireturn, 1) := by decide +kernel
theorem d_X_lost_0 : decode b_X_lost 0 = .ok (.iconst 0, 1) := by decide +kernel
theorem d_X_lost_1 : decode b_X_lost 1 = .ok (.istore_n 1, 1) := by decide +kernel
theorem d_X_lost_2 : decode b_X_lost 2 = .ok (.iconst 0, 1) := by decide +kernel
theorem d_X_lost_3 : decode b_X_lost 3 = .ok (.istore_n 2, 1) := by decide +kernel
theorem d_X_lost_4 : decode b_X_lost 4 = .ok (.iload_n 2, 1) := by decide +kernel
theorem d_X_lost_5 : decode b_X_lost 5 = .ok (.aload_n 0, 1) := by decide +kernel
theorem d_X_lost_6 : decode b_X_lost 6 = .ok (.getfield 27, 3) := by decide +kernel
theorem d_X_lost_9 : decode b_X_lost 9 = .ok (.iconst 2, 1) := by decide +kernel
theorem d_X_lost_10 : decode b_X_lost 10 = .ok (.iadd, 1) := by decide +kernel
theorem d_X_lost_11 : decode b_X_lost 11 = .ok (.if_icmp .ge 21, 3) := by decide +kernel
theorem d_X_lost_14 : decode b_X_lost 14 = .ok (.aload_n 0, 1) := by decide +kernel
theorem d_X_lost_15 : decode b_X_lost 15 = .ok (.getfield 19, 3) := by decide +kernel
theorem d_X_lost_18 : decode b_X_lost 18 = .ok (.iload_n 2, 1) := by decide +kernel
theorem d_X_lost_19 : decode b_X_lost 19 = .ok (.baload, 1) := by decide +kernel
theorem d_X_lost_20 : decode b_X_lost 20 = .ok (.ifCond .eq 6, 3) := by decide +kernel
theorem d_X_lost_23 : decode b_X_lost 23 = .ok (.iinc 1 1, 3) := by decide +kernel
theorem d_X_lost_26 : decode b_X_lost 26 = .ok (.iinc 2 1, 3) := by decide +kernel
theorem d_X_lost_29 : decode b_X_lost 29 = .ok (.goto (-25), 3) := by decide +kernel
theorem d_X_lost_32 : decode b_X_lost 32 = .ok (.iload_n 1, 1) := by decide +kernel
theorem d_X_lost_33 : decode b_X_lost 33 = .ok (.ireturn, 1) := by decide +kernel
theorem d_X_fail_0 : decode b_X_fail 0 = .ok (.aload_n 0, 1) := by decide +kernel
theorem d_X_fail_1 : decode b_X_fail 1 = .ok (.iload_n 1, 1) := by decide +kernel
theorem d_X_fail_2 : decode b_X_fail 2 = .ok (.invokevirtual 68, 3) := by decide +kernel
theorem d_X_fail_5 : decode b_X_fail 5 = .ok (.ifCond .eq 11, 3) := by decide +kernel
theorem d_X_fail_8 : decode b_X_fail 8 = .ok (.aload_n 0, 1) := by decide +kernel
theorem d_X_fail_9 : decode b_X_fail 9 = .ok (.invokevirtual 72, 3) := by decide +kernel
theorem d_X_fail_12 : decode b_X_fail 12 = .ok (.iconst 2, 1) := by decide +kernel
theorem d_X_fail_13 : decode b_X_fail 13 = .ok (.if_icmp .ne 5, 3) := by decide +kernel
theorem d_X_fail_16 : decode b_X_fail 16 = .ok (.iconst 0, 1) := by decide +kernel
theorem d_X_fail_17 : decode b_X_fail 17 = .ok (.ireturn, 1) := by decide +kernel
theorem d_X_fail_18 : decode b_X_fail 18 = .ok (.aload_n 0, 1) := by decide +kernel
theorem d_X_fail_19 : decode b_X_fail 19 = .ok (.getfield 19, 3) := by decide +kernel
theorem d_X_fail_22 : decode b_X_fail 22 = .ok (.iload_n 1, 1) := by decide +kernel
theorem d_X_fail_23 : decode b_X_fail 23 = .ok (.iconst 1, 1) := by decide +kernel
theorem d_X_fail_24 : decode b_X_fail 24 = .ok (.bastore, 1) := by decide +kernel
theorem d_X_fail_25 : decode b_X_fail 25 = .ok (.iconst 1, 1) := by decide +kernel
theorem d_X_fail_26 : decode b_X_fail 26 = .ok (.ireturn, 1) := by decide +kernel
theorem d_X_smash_0 : decode b_X_smash 0 = .ok (.aload_n 0, 1) := by decide +kernel
theorem d_X_smash_1 : decode b_X_smash 1 = .ok (.iload_n 1, 1) := by decide +kernel
theorem d_X_smash_2 : decode b_X_smash 2 = .ok (.iload_n 2, 1) := by decide +kernel
theorem d_X_smash_3 : decode b_X_smash 3 = .ok (.aload_n 0, 1) := by decide +kernel
theorem d_X_smash_4 : decode b_X_smash 4 = .ok (.getfield 27, 3) := by decide +kernel
theorem d_X_smash_7 : decode b_X_smash 7 = .ok (.iconst 2, 1) := by decide +kernel
theorem d_X_smash_8 : decode b_X_smash 8 = .ok (.iadd, 1) := by decide +kernel
theorem d_X_smash_9 : decode b_X_smash 9 = .ok (.invokevirtual 61, 3) := by decide +kernel
theorem d_X_smash_12 : decode b_X_smash 12 = .ok (.ifCond .eq 12, 3) := by decide +kernel
theorem d_X_smash_15 : decode b_X_smash 15 = .ok (.aload_n 0, 1) := by decide +kernel
theorem d_X_smash_16 : decode b_X_smash 16 = .ok (.getfield 19, 3) := by decide +kernel
theorem d_X_smash_19 : decode b_X_smash 19 = .ok (.iload_n 1, 1) := by decide +kernel
theorem d_X_smash_20 : decode b_X_smash 20 = .ok (.baload, 1) := by decide +kernel
theorem d_X_smash_21 : decode b_X_smash 21 = .ok (.ifCond .ne 5, 3) := by decide +kernel
theorem d_X_smash_24 : decode b_X_smash 24 = .ok (.iconst 0, 1) := by decide +kernel
theorem d_X_smash_25 : decode b_X_smash 25 = .ok (.ireturn, 1) := by decide +kernel
theorem d_X_smash_26 : decode b_X_smash 26 = .ok (.aload_n 0, 1) := by decide +kernel
theorem d_X_smash_27 : decode b_X_smash 27 = .ok (.getfield 16, 3) := by decide +kernel
theorem d_X_smash_30 : decode b_X_smash 30 = .ok (.aload_n 0, 1) := by decide +kernel
theorem d_X_smash_31 : decode b_X_smash 31 = .ok (.iload_n 1, 1) := by decide +kernel
theorem d_X_smash_32 : decode b_X_smash 32 = .ok (.iload_n 2, 1) := by decide +kernel
theorem d_X_smash_33 : decode b_X_smash 33 = .ok (.invokevirtual 41, 3) := by decide +kernel
theorem d_X_smash_36 : decode b_X_smash 36 = .ok (.iload_n 3, 1) := by decide +kernel
theorem d_X_smash_37 : decode b_X_smash 37 = .ok (.iastore, 1) := by decide +kernel
theorem d_X_smash_38 : decode b_X_smash 38 = .ok (.iconst 1, 1) := by decide +kernel
theorem d_X_smash_39 : decode b_X_smash 39 = .ok (.ireturn, 1) := by decide +kernel
theorem d_X_raw_0 : decode b_X_raw 0 = .ok (.aload_n 0, 1) := by decide +kernel
theorem d_X_raw_1 : decode b_X_raw 1 = .ok (.iload_n 1, 1) := by decide +kernel
theorem d_X_raw_2 : decode b_X_raw 2 = .ok (.iload_n 2, 1) := by decide +kernel
theorem d_X_raw_3 : decode b_X_raw 3 = .ok (.aload_n 0, 1) := by decide +kernel
theorem d_X_raw_4 : decode b_X_raw 4 = .ok (.getfield 27, 3) := by decide +kernel
theorem d_X_raw_7 : decode b_X_raw 7 = .ok (.iconst 2, 1) := by decide +kernel
theorem d_X_raw_8 : decode b_X_raw 8 = .ok (.iadd, 1) := by decide +kernel
theorem d_X_raw_9 : decode b_X_raw 9 = .ok (.invokevirtual 61, 3) := by decide +kernel
theorem d_X_raw_12 : decode b_X_raw 12 = .ok (.ifCond .eq 17, 3) := by decide +kernel
theorem d_X_raw_15 : decode b_X_raw 15 = .ok (.aload_n 0, 1) := by decide +kernel
theorem d_X_raw_16 : decode b_X_raw 16 = .ok (.getfield 16, 3) := by decide +kernel
theorem d_X_raw_19 : decode b_X_raw 19 = .ok (.aload_n 0, 1) := by decide +kernel
theorem d_X_raw_20 : decode b_X_raw 20 = .ok (.iload_n 1, 1) := by decide +kernel
theorem d_X_raw_21 : decode b_X_raw 21 = .ok (.iload_n 2, 1) := by decide +kernel
theorem d_X_raw_22 : decode b_X_raw 22 = .ok (.invokevirtual 41, 3) := by decide +kernel
theorem d_X_raw_25 : decode b_X_raw 25 = .ok (.iaload, 1) := by decide +kernel
theorem d_X_raw_26 : decode b_X_raw 26 = .ok (.goto 4, 3) := by decide +kernel
theorem d_X_raw_29 : decode b_X_raw 29 = .ok (.iconst 0, 1) := by decide +kernel
theorem d_X_raw_30 : decode b_X_raw 30 = .ok (.ireturn, 1) := by decide +kernel
theorem d_X_restore_0 : decode b_X_restore 0 = .ok (.iconst (-1), 1) := by decide +kernel
theorem d_X_restore_1 : decode b_X_restore 1 = .ok (.istore_n 2, 1) := by decide +kernel
theorem d_X_restore_2 : decode b_X_restore 2 = .ok (.iconst (-1), 1) := by decide +kernel
theorem d_X_restore_3 : decode b_X_restore 3 = .ok (.istore_n 3, 1) := by decide +kernel
theorem d_X_restore_4 : decode b_X_restore 4 = .ok (.iconst 0, 1) := by decide +kernel
theorem d_X_restore_5 : decode b_X_restore 5 = .ok (.istore 4, 2) := by decide +kernel
theorem d_X_restore_7 : decode b_X_restore 7 = .ok (.iload 4, 2) := by decide +kernel
theorem d_X_restore_9 : decode b_X_restore 9 = .ok (.aload_n 0, 1) := by decide +kernel
theorem d_X_restore_10 : decode b_X_restore 10 = .ok (.getfield 27, 3) := by decide +kernel
theorem d_X_restore_13 : decode b_X_restore 13 = .ok (.if_icmp .ge 35, 3) := by decide +kernel
theorem d_X_restore_16 : decode b_X_restore 16 = .ok (.aload_n 0, 1) := by decide +kernel
theorem d_X_restore_17 : decode b_X_restore 17 = .ok (.getfield 19, 3) := by decide +kernel
theorem d_X_restore_20 : decode b_X_restore 20 = .ok (.iload 4, 2) := by decide +kernel
theorem d_X_restore_22 : decode b_X_restore 22 = .ok (.baload, 1) := by decide +kernel
theorem d_X_restore_23 : decode b_X_restore 23 = .ok (.ifCond .ne 6, 3) := by decide +kernel
theorem d_X_restore_26 : decode b_X_restore 26 = .ok (.goto 16, 3) := by decide +kernel
theorem d_X_restore_29 : decode b_X_restore 29 = .ok (.iload_n 2, 1) := by decide +kernel
theorem d_X_restore_30 : decode b_X_restore 30 = .ok (.ifCond .ge 9, 3) := by decide +kernel
theorem d_X_restore_33 : decode b_X_restore 33 = .ok (.iload 4, 2) := by decide +kernel
theorem d_X_restore_35 : decode b_X_restore 35 = .ok (.istore_n 2, 1) := by decide +kernel
theorem d_X_restore_36 : decode b_X_restore 36 = .ok (.goto 6, 3) := by decide +kernel
theorem d_X_restore_39 : decode b_X_restore 39 = .ok (.iload 4, 2) := by decide +kernel
theorem d_X_restore_41 : decode b_X_restore 41 = .ok (.istore_n 3, 1) := by decide +kernel
theorem d_X_restore_42 : decode b_X_restore 42 = .ok (.iinc 4 1, 3) := by decide +kernel
theorem d_X_restore_45 : decode b_X_restore 45 = .ok (.goto (-38), 3) := by decide +kernel
theorem d_X_restore_48 : decode b_X_restore 48 = .ok (.iload_n 2, 1) := by decide +kernel
theorem d_X_restore_49 : decode b_X_restore 49 = .ok (.ifCond .ge 7, 3) := by decide +kernel
theorem d_X_restore_52 : decode b_X_restore 52 = .ok (.iconst 0, 1) := by decide +kernel
theorem d_X_restore_53 : decode b_X_restore 53 = .ok (.goto 9, 3) := by decide +kernel
theorem d_X_restore_56 : decode b_X_restore 56 = .ok (.aload_n 0, 1) := by decide +kernel
theorem d_X_restore_57 : decode b_X_restore 57 = .ok (.iload_n 2, 1) := by decide +kernel
theorem d_X_restore_58 : decode b_X_restore 58 = .ok (.iload_n 1, 1) := by decide +kernel
theorem d_X_restore_59 : decode b_X_restore 59 = .ok (.invokevirtual 58, 3) := by decide +kernel
theorem d_X_restore_62 : decode b_X_restore 62 = .ok (.istore 4, 2) := by decide +kernel
theorem d_X_restore_64 : decode b_X_restore 64 = .ok (.iload_n 3, 1) := by decide +kernel
theorem d_X_restore_65 : decode b_X_restore 65 = .ok (.ifCond .ge 7, 3) := by decide +kernel
theorem d_X_restore_68 : decode b_X_restore 68 = .ok (.iconst 0, 1) := by decide +kernel
theorem d_X_restore_69 : decode b_X_restore 69 = .ok (.goto 9, 3) := by decide +kernel
theorem d_X_restore_72 : decode b_X_restore 72 = .ok (.aload_n 0, 1) := by decide +kernel
theorem d_X_restore_73 : decode b_X_restore 73 = .ok (.iload_n 3, 1) := by decide +kernel
theorem d_X_restore_74 : decode b_X_restore 74 = .ok (.iload_n 1, 1) := by decide +kernel
theorem d_X_restore_75 : decode b_X_restore 75 = .ok (.invokevirtual 58, 3) := by decide +kernel
theorem d_X_restore_78 : decode b_X_restore 78 = .ok (.istore 5, 2) := by decide +kernel
theorem d_X_restore_80 : decode b_X_restore 80 = .ok (.iload_n 2, 1) := by decide +kernel
theorem d_X_restore_81 : decode b_X_restore 81 = .ok (.ifCond .lt 16, 3) := by decide +kernel
theorem d_X_restore_84 : decode b_X_restore 84 = .ok (.aload_n 0, 1) := by decide +kernel
theorem d_X_restore_85 : decode b_X_restore 85 = .ok (.getfield 16, 3) := by decide +kernel
theorem d_X_restore_88 : decode b_X_restore 88 = .ok (.aload_n 0, 1) := by decide +kernel
theorem d_X_restore_89 : decode b_X_restore 89 = .ok (.iload_n 2, 1) := by decide +kernel
theorem d_X_restore_90 : decode b_X_restore 90 = .ok (.iload_n 1, 1) := by decide +kernel
theorem d_X_restore_91 : decode b_X_restore 91 = .ok (.invokevirtual 41, 3) := by decide +kernel
theorem d_X_restore_94 : decode b_X_restore 94 = .ok (.iload 4, 2) := by decide +kernel
theorem d_X_restore_96 : decode b_X_restore 96 = .ok (.iastore, 1) := by decide +kernel
theorem d_X_restore_97 : decode b_X_restore 97 = .ok (.iload_n 3, 1) := by decide +kernel
theorem d_X_restore_98 : decode b_X_restore 98 = .ok (.ifCond .lt 16, 3) := by decide +kernel
theorem d_X_restore_101 : decode b_X_restore 101 = .ok (.aload_n 0, 1) := by decide +kernel
theorem d_X_restore_102 : decode b_X_restore 102 = .ok (.getfield 16, 3) := by decide +kernel
theorem d_X_restore_105 : decode b_X_restore 105 = .ok (.aload_n 0, 1) := by decide +kernel
theorem d_X_restore_106 : decode b_X_restore 106 = .ok (.iload_n 3, 1) := by decide +kernel
theorem d_X_restore_107 : decode b_X_restore 107 = .ok (.iload_n 1, 1) := by decide +kernel
theorem d_X_restore_108 : decode b_X_restore 108 = .ok (.invokevirtual 41, 3) := by decide +kernel
theorem d_X_restore_111 : decode b_X_restore 111 = .ok (.iload 5, 2) := by decide +kernel
theorem d_X_restore_113 : decode b_X_restore 113 = .ok (.iastore, 1) := by decide +kernel
theorem d_X_restore_114 : decode b_X_restore 114 = .ok (.aload_n 0, 1) := by decide +kernel
theorem d_X_restore_115 : decode b_X_restore 115 = .ok (.getfield 16, 3) := by decide +kernel
theorem d_X_restore_118 : decode b_X_restore 118 = .ok (.aload_n 0, 1) := by decide +kernel
theorem d_X_restore_119 : decode b_X_restore 119 = .ok (.aload_n 0, 1) := by decide +kernel
theorem d_X_restore_120 : decode b_X_restore 120 = .ok (.getfield 27, 3) := by decide +kernel
theorem d_X_restore_123 : decode b_X_restore 123 = .ok (.iload_n 1, 1) := by decide +kernel
theorem d_X_restore_124 : decode b_X_restore 124 = .ok (.invokevirtual 41, 3) := by decide +kernel
theorem d_X_restore_127 : decode b_X_restore 127 = .ok (.aload_n 0, 1) := by decide +kernel
theorem d_X_restore_128 : decode b_X_restore 128 = .ok (.iload_n 1, 1) := by decide +kernel
theorem d_X_restore_129 : decode b_X_restore 129 = .ok (.iconst (-1), 1) := by decide +kernel
theorem d_X_restore_130 : decode b_X_restore 130 = .ok (.iconst (-1), 1) := by decide +kernel
theorem d_X_restore_131 : decode b_X_restore 131 = .ok (.invokevirtual 48, 3) := by decide +kernel
theorem d_X_restore_134 : decode b_X_restore 134 = .ok (.iastore, 1) := by decide +kernel
theorem d_X_restore_135 : decode b_X_restore 135 = .ok (.aload_n 0, 1) := by decide +kernel
theorem d_X_restore_136 : decode b_X_restore 136 = .ok (.getfield 16, 3) := by decide +kernel
theorem d_X_restore_139 : decode b_X_restore 139 = .ok (.aload_n 0, 1) := by decide +kernel
theorem d_X_restore_140 : decode b_X_restore 140 = .ok (.aload_n 0, 1) := by decide +kernel
theorem d_X_restore_141 : decode b_X_restore 141 = .ok (.getfield 27, 3) := by decide +kernel
theorem d_X_restore_144 : decode b_X_restore 144 = .ok (.iconst 1, 1) := by decide +kernel
theorem d_X_restore_145 : decode b_X_restore 145 = .ok (.iadd, 1) := by decide +kernel
theorem d_X_restore_146 : decode b_X_restore 146 = .ok (.iload_n 1, 1) := by decide +kernel
theorem d_X_restore_147 : decode b_X_restore 147 = .ok (.invokevirtual 41, 3) := by decide +kernel
theorem d_X_restore_150 : decode b_X_restore 150 = .ok (.aload_n 0, 1) := by decide +kernel
theorem d_X_restore_151 : decode b_X_restore 151 = .ok (.iload_n 1, 1) := by decide +kernel
theorem d_X_restore_152 : decode b_X_restore 152 = .ok (.iconst (-1), 1) := by decide +kernel
theorem d_X_restore_153 : decode b_X_restore 153 = .ok (.iconst (-1), 1) := by decide +kernel
theorem d_X_restore_154 : decode b_X_restore 154 = .ok (.invokevirtual 52, 3) := by decide +kernel
theorem d_X_restore_157 : decode b_X_restore 157 = .ok (.iastore, 1) := by decide +kernel
theorem d_X_restore_158 : decode b_X_restore 158 = .ok (.return_, 1) := by decide +kernel
theorem d_X_rebuild_0 : decode b_X_rebuild 0 = .ok (.aload_n 0, 1) := by decide +kernel
theorem d_X_rebuild_1 : decode b_X_rebuild 1 = .ok (.invokevirtual 72, 3) := by decide +kernel
theorem d_X_rebuild_4 : decode b_X_rebuild 4 = .ok (.istore_n 1, 1) := by decide +kernel
theorem d_X_rebuild_5 : decode b_X_rebuild 5 = .ok (.aload_n 0, 1) := by decide +kernel
theorem d_X_rebuild_6 : decode b_X_rebuild 6 = .ok (.getfield 34, 3) := by decide +kernel
theorem d_X_rebuild_9 : decode b_X_rebuild 9 = .ok (.ifCond .eq 7, 3) := by decide +kernel
theorem d_X_rebuild_12 : decode b_X_rebuild 12 = .ok (.iload_n 1, 1) := by decide +kernel
theorem d_X_rebuild_13 : decode b_X_rebuild 13 = .ok (.ifCond .ne 5, 3) := by decide +kernel
theorem d_X_rebuild_16 : decode b_X_rebuild 16 = .ok (.iconst 0, 1) := by decide +kernel
theorem d_X_rebuild_17 : decode b_X_rebuild 17 = .ok (.ireturn, 1) := by decide +kernel
theorem d_X_rebuild_18 : decode b_X_rebuild 18 = .ok (.iconst 0, 1) := by decide +kernel
theorem d_X_rebuild_19 : decode b_X_rebuild 19 = .ok (.istore_n 2, 1) := by decide +kernel
theorem d_X_rebuild_20 : decode b_X_rebuild 20 = .ok (.iload_n 2, 1) := by decide +kernel
theorem d_X_rebuild_21 : decode b_X_rebuild 21 = .ok (.aload_n 0, 1) := by decide +kernel
theorem d_X_rebuild_22 : decode b_X_rebuild 22 = .ok (.getfield 31, 3) := by decide +kernel
theorem d_X_rebuild_25 : decode b_X_rebuild 25 = .ok (.if_icmp .ge 14, 3) := by decide +kernel
theorem d_X_rebuild_28 : decode b_X_rebuild 28 = .ok (.aload_n 0, 1) := by decide +kernel
theorem d_X_rebuild_29 : decode b_X_rebuild 29 = .ok (.iload_n 2, 1) := by decide +kernel
theorem d_X_rebuild_30 : decode b_X_rebuild 30 = .ok (.invokevirtual 76, 3) := by decide +kernel
theorem d_X_rebuild_33 : decode b_X_rebuild 33 = .ok (.iinc 2 1, 3) := by decide +kernel
theorem d_X_rebuild_36 : decode b_X_rebuild 36 = .ok (.goto (-16), 3) := by decide +kernel
theorem d_X_rebuild_39 : decode b_X_rebuild 39 = .ok (.iconst 0, 1) := by decide +kernel
theorem d_X_rebuild_40 : decode b_X_rebuild 40 = .ok (.istore_n 2, 1) := by decide +kernel
theorem d_X_rebuild_41 : decode b_X_rebuild 41 = .ok (.iload_n 2, 1) := by decide +kernel
theorem d_X_rebuild_42 : decode b_X_rebuild 42 = .ok (.aload_n 0, 1) := by decide +kernel
theorem d_X_rebuild_43 : decode b_X_rebuild 43 = .ok (.getfield 27, 3) := by decide +kernel
theorem d_X_rebuild_46 : decode b_X_rebuild 46 = .ok (.iconst 2, 1) := by decide +kernel
theorem d_X_rebuild_47 : decode b_X_rebuild 47 = .ok (.iadd, 1) := by decide +kernel
theorem d_X_rebuild_48 : decode b_X_rebuild 48 = .ok (.if_icmp .ge 16, 3) := by decide +kernel
theorem d_X_rebuild_51 : decode b_X_rebuild 51 = .ok (.aload_n 0, 1) := by decide +kernel
theorem d_X_rebuild_52 : decode b_X_rebuild 52 = .ok (.getfield 19, 3) := by decide +kernel
theorem d_X_rebuild_55 : decode b_X_rebuild 55 = .ok (.iload_n 2, 1) := by decide +kernel
theorem d_X_rebuild_56 : decode b_X_rebuild 56 = .ok (.iconst 0, 1) := by decide +kernel
theorem d_X_rebuild_57 : decode b_X_rebuild 57 = .ok (.bastore, 1) := by decide +kernel
theorem d_X_rebuild_58 : decode b_X_rebuild 58 = .ok (.iinc 2 1, 3) := by decide +kernel
theorem d_X_rebuild_61 : decode b_X_rebuild 61 = .ok (.goto (-20), 3) := by decide +kernel
theorem d_X_rebuild_64 : decode b_X_rebuild 64 = .ok (.iload_n 1, 1) := by decide +kernel
theorem d_X_rebuild_65 : decode b_X_rebuild 65 = .ok (.ireturn, 1) := by decide +kernel
theorem d_X_alive_0 : decode b_X_alive 0 = .ok (.aload_n 0, 1) := by decide +kernel
theorem d_X_alive_1 : decode b_X_alive 1 = .ok (.getfield 34, 3) := by decide +kernel
theorem d_X_alive_4 : decode b_X_alive 4 = .ok (.ifCond .eq 30, 3) := by decide +kernel
theorem d_X_alive_7 : decode b_X_alive 7 = .ok (.iload_n 1, 1) := by decide +kernel
theorem d_X_alive_8 : decode b_X_alive 8 = .ok (.ifCond .lt 26, 3) := by decide +kernel
theorem d_X_alive_11 : decode b_X_alive 11 = .ok (.iload_n 1, 1) := by decide +kernel
theorem d_X_alive_12 : decode b_X_alive 12 = .ok (.aload_n 0, 1) := by decide +kernel
theorem d_X_alive_13 : decode b_X_alive 13 = .ok (.getfield 27, 3) := by decide +kernel
theorem d_X_alive_16 : decode b_X_alive 16 = .ok (.iconst 2, 1) := by decide +kernel
theorem d_X_alive_17 : decode b_X_alive 17 = .ok (.iadd, 1) := by decide +kernel
theorem d_X_alive_18 : decode b_X_alive 18 = .ok (.if_icmp .ge 16, 3) := by decide +kernel
theorem d_X_alive_21 : decode b_X_alive 21 = .ok (.aload_n 0, 1) := by decide +kernel
theorem d_X_alive_22 : decode b_X_alive 22 = .ok (.getfield 19, 3) := by decide +kernel
theorem d_X_alive_25 : decode b_X_alive 25 = .ok (.iload_n 1, 1) := by decide +kernel
theorem d_X_alive_26 : decode b_X_alive 26 = .ok (.baload, 1) := by decide +kernel
theorem d_X_alive_27 : decode b_X_alive 27 = .ok (.ifCond .ne 7, 3) := by decide +kernel
theorem d_X_alive_30 : decode b_X_alive 30 = .ok (.iconst 1, 1) := by decide +kernel
theorem d_X_alive_31 : decode b_X_alive 31 = .ok (.goto 4, 3) := by decide +kernel
theorem d_X_alive_34 : decode b_X_alive 34 = .ok (.iconst 0, 1) := by decide +kernel
theorem d_X_alive_35 : decode b_X_alive 35 = .ok (.ireturn, 1) := by decide +kernel
theorem d_X_isSound_0 : decode b_X_isSound 0 = .ok (.iconst 0, 1) := by decide +kernel
theorem d_X_isSound_1 : decode b_X_isSound 1 = .ok (.istore_n 2, 1) := by decide +kernel
theorem d_X_isSound_2 : decode b_X_isSound 2 = .ok (.iconst 0, 1) := by decide +kernel
theorem d_X_isSound_3 : decode b_X_isSound 3 = .ok (.istore_n 3, 1) := by decide +kernel
theorem d_X_isSound_4 : decode b_X_isSound 4 = .ok (.iconst 0, 1) := by decide +kernel
theorem d_X_isSound_5 : decode b_X_isSound 5 = .ok (.istore 4, 2) := by decide +kernel
theorem d_X_isSound_7 : decode b_X_isSound 7 = .ok (.iload 4, 2) := by decide +kernel
theorem d_X_isSound_9 : decode b_X_isSound 9 = .ok (.aload_n 0, 1) := by decide +kernel
theorem d_X_isSound_10 : decode b_X_isSound 10 = .ok (.getfield 27, 3) := by decide +kernel
theorem d_X_isSound_13 : decode b_X_isSound 13 = .ok (.if_icmp .ge 34, 3) := by decide +kernel
theorem d_X_isSound_16 : decode b_X_isSound 16 = .ok (.aload_n 0, 1) := by decide +kernel
theorem d_X_isSound_17 : decode b_X_isSound 17 = .ok (.iload 4, 2) := by decide +kernel
theorem d_X_isSound_19 : decode b_X_isSound 19 = .ok (.iload_n 1, 1) := by decide +kernel
theorem d_X_isSound_20 : decode b_X_isSound 20 = .ok (.invokevirtual 65, 3) := by decide +kernel
theorem d_X_isSound_23 : decode b_X_isSound 23 = .ok (.istore 5, 2) := by decide +kernel
theorem d_X_isSound_25 : decode b_X_isSound 25 = .ok (.iload_n 2, 1) := by decide +kernel
theorem d_X_isSound_26 : decode b_X_isSound 26 = .ok (.iload 5, 2) := by decide +kernel
theorem d_X_isSound_28 : decode b_X_isSound 28 = .ok (.ixor, 1) := by decide +kernel
theorem d_X_isSound_29 : decode b_X_isSound 29 = .ok (.istore_n 2, 1) := by decide +kernel
theorem d_X_isSound_30 : decode b_X_isSound 30 = .ok (.iload_n 3, 1) := by decide +kernel
theorem d_X_isSound_31 : decode b_X_isSound 31 = .ok (.aload_n 0, 1) := by decide +kernel
theorem d_X_isSound_32 : decode b_X_isSound 32 = .ok (.iload 5, 2) := by decide +kernel
theorem d_X_isSound_34 : decode b_X_isSound 34 = .ok (.iload 4, 2) := by decide +kernel
theorem d_X_isSound_36 : decode b_X_isSound 36 = .ok (.invokevirtual 38, 3) := by decide +kernel
theorem d_X_isSound_39 : decode b_X_isSound 39 = .ok (.ixor, 1) := by decide +kernel
theorem d_X_isSound_40 : decode b_X_isSound 40 = .ok (.istore_n 3, 1) := by decide +kernel
theorem d_X_isSound_41 : decode b_X_isSound 41 = .ok (.iinc 4 1, 3) := by decide +kernel
theorem d_X_isSound_44 : decode b_X_isSound 44 = .ok (.goto (-37), 3) := by decide +kernel
theorem d_X_isSound_47 : decode b_X_isSound 47 = .ok (.aload_n 0, 1) := by decide +kernel
theorem d_X_isSound_48 : decode b_X_isSound 48 = .ok (.getfield 19, 3) := by decide +kernel
theorem d_X_isSound_51 : decode b_X_isSound 51 = .ok (.aload_n 0, 1) := by decide +kernel
theorem d_X_isSound_52 : decode b_X_isSound 52 = .ok (.getfield 27, 3) := by decide +kernel
theorem d_X_isSound_55 : decode b_X_isSound 55 = .ok (.baload, 1) := by decide +kernel
theorem d_X_isSound_56 : decode b_X_isSound 56 = .ok (.ifCond .ne 21, 3) := by decide +kernel
theorem d_X_isSound_59 : decode b_X_isSound 59 = .ok (.aload_n 0, 1) := by decide +kernel
theorem d_X_isSound_60 : decode b_X_isSound 60 = .ok (.getfield 16, 3) := by decide +kernel
theorem d_X_isSound_63 : decode b_X_isSound 63 = .ok (.aload_n 0, 1) := by decide +kernel
theorem d_X_isSound_64 : decode b_X_isSound 64 = .ok (.aload_n 0, 1) := by decide +kernel
theorem d_X_isSound_65 : decode b_X_isSound 65 = .ok (.getfield 27, 3) := by decide +kernel
theorem d_X_isSound_68 : decode b_X_isSound 68 = .ok (.iload_n 1, 1) := by decide +kernel
theorem d_X_isSound_69 : decode b_X_isSound 69 = .ok (.invokevirtual 41, 3) := by decide +kernel
theorem d_X_isSound_72 : decode b_X_isSound 72 = .ok (.iaload, 1) := by decide +kernel
theorem d_X_isSound_73 : decode b_X_isSound 73 = .ok (.iload_n 2, 1) := by decide +kernel
theorem d_X_isSound_74 : decode b_X_isSound 74 = .ok (.if_icmp .ne 41, 3) := by decide +kernel
theorem d_X_isSound_77 : decode b_X_isSound 77 = .ok (.aload_n 0, 1) := by decide +kernel
theorem d_X_isSound_78 : decode b_X_isSound 78 = .ok (.getfield 19, 3) := by decide +kernel
theorem d_X_isSound_81 : decode b_X_isSound 81 = .ok (.aload_n 0, 1) := by decide +kernel
theorem d_X_isSound_82 : decode b_X_isSound 82 = .ok (.getfield 27, 3) := by decide +kernel
theorem d_X_isSound_85 : decode b_X_isSound 85 = .ok (.iconst 1, 1) := by decide +kernel
theorem d_X_isSound_86 : decode b_X_isSound 86 = .ok (.iadd, 1) := by decide +kernel
theorem d_X_isSound_87 : decode b_X_isSound 87 = .ok (.baload, 1) := by decide +kernel
theorem d_X_isSound_88 : decode b_X_isSound 88 = .ok (.ifCond .ne 23, 3) := by decide +kernel
theorem d_X_isSound_91 : decode b_X_isSound 91 = .ok (.aload_n 0, 1) := by decide +kernel
theorem d_X_isSound_92 : decode b_X_isSound 92 = .ok (.getfield 16, 3) := by decide +kernel
theorem d_X_isSound_95 : decode b_X_isSound 95 = .ok (.aload_n 0, 1) := by decide +kernel
theorem d_X_isSound_96 : decode b_X_isSound 96 = .ok (.aload_n 0, 1) := by decide +kernel
theorem d_X_isSound_97 : decode b_X_isSound 97 = .ok (.getfield 27, 3) := by decide +kernel
theorem d_X_isSound_100 : decode b_X_isSound 100 = .ok (.iconst 1, 1) := by decide +kernel
theorem d_X_isSound_101 : decode b_X_isSound 101 = .ok (.iadd, 1) := by decide +kernel
theorem d_X_isSound_102 : decode b_X_isSound 102 = .ok (.iload_n 1, 1) := by decide +kernel
theorem d_X_isSound_103 : decode b_X_isSound 103 = .ok (.invokevirtual 41, 3) := by decide +kernel
theorem d_X_isSound_106 : decode b_X_isSound 106 = .ok (.iaload, 1) := by decide +kernel
theorem d_X_isSound_107 : decode b_X_isSound 107 = .ok (.iload_n 3, 1) := by decide +kernel
theorem d_X_isSound_108 : decode b_X_isSound 108 = .ok (.if_icmp .ne 7, 3) := by decide +kernel
theorem d_X_isSound_111 : decode b_X_isSound 111 = .ok (.iconst 1, 1) := by decide +kernel
theorem d_X_isSound_112 : decode b_X_isSound 112 = .ok (.goto 4, 3) := by decide +kernel
theorem d_X_isSound_115 : decode b_X_isSound 115 = .ok (.iconst 0, 1) := by decide +kernel
theorem d_X_isSound_116 : decode b_X_isSound 116 = .ok (.ireturn, 1) := by decide +kernel
theorem d_X_scrub_0 : decode b_X_scrub 0 = .ok (.aload_n 0, 1) := by decide +kernel
theorem d_X_scrub_1 : decode b_X_scrub 1 = .ok (.getfield 34, 3) := by decide +kernel
theorem d_X_scrub_4 : decode b_X_scrub 4 = .ok (.ifCond .ne 5, 3) := by decide +kernel
theorem d_X_scrub_7 : decode b_X_scrub 7 = .ok (.iconst 0, 1) := by decide +kernel
theorem d_X_scrub_8 : decode b_X_scrub 8 = .ok (.ireturn, 1) := by decide +kernel
theorem d_X_scrub_9 : decode b_X_scrub 9 = .ok (.iconst 0, 1) := by decide +kernel
theorem d_X_scrub_10 : decode b_X_scrub 10 = .ok (.istore_n 1, 1) := by decide +kernel
theorem d_X_scrub_11 : decode b_X_scrub 11 = .ok (.iconst 0, 1) := by decide +kernel
theorem d_X_scrub_12 : decode b_X_scrub 12 = .ok (.istore_n 2, 1) := by decide +kernel
theorem d_X_scrub_13 : decode b_X_scrub 13 = .ok (.iload_n 2, 1) := by decide +kernel
theorem d_X_scrub_14 : decode b_X_scrub 14 = .ok (.aload_n 0, 1) := by decide +kernel
theorem d_X_scrub_15 : decode b_X_scrub 15 = .ok (.getfield 31, 3) := by decide +kernel
theorem d_X_scrub_18 : decode b_X_scrub 18 = .ok (.if_icmp .ge 20, 3) := by decide +kernel
theorem d_X_scrub_21 : decode b_X_scrub 21 = .ok (.aload_n 0, 1) := by decide +kernel
theorem d_X_scrub_22 : decode b_X_scrub 22 = .ok (.iload_n 2, 1) := by decide +kernel
theorem d_X_scrub_23 : decode b_X_scrub 23 = .ok (.invokevirtual 80, 3) := by decide +kernel
theorem d_X_scrub_26 : decode b_X_scrub 26 = .ok (.ifCond .ne 6, 3) := by decide +kernel
theorem d_X_scrub_29 : decode b_X_scrub 29 = .ok (.iinc 1 1, 3) := by decide +kernel
theorem d_X_scrub_32 : decode b_X_scrub 32 = .ok (.iinc 2 1, 3) := by decide +kernel
theorem d_X_scrub_35 : decode b_X_scrub 35 = .ok (.goto (-22), 3) := by decide +kernel
theorem d_X_scrub_38 : decode b_X_scrub 38 = .ok (.iload_n 1, 1) := by decide +kernel
theorem d_X_scrub_39 : decode b_X_scrub 39 = .ok (.ireturn, 1) := by decide +kernel
end
section
/-! decode rows, printed by gen_names.py -/
theorem d_M_ctor_0 : decode b_M_ctor 0 = .ok (.aload_n 0, 1) := by decide +kernel
theorem d_M_ctor_1 : decode b_M_ctor 1 = .ok (.invokespecial 1, 3) := by decide +kernel
theorem d_M_ctor_4 : decode b_M_ctor 4 = .ok (.aload_n 0, 1) := by decide +kernel
theorem d_M_ctor_5 : decode b_M_ctor 5 = .ok (.sipush 800, 3) := by decide +kernel
theorem d_M_ctor_8 : decode b_M_ctor 8 = .ok (.newarray .int, 2) := by decide +kernel
theorem d_M_ctor_10 : decode b_M_ctor 10 = .ok (.putfield 7, 3) := by decide +kernel
theorem d_M_ctor_13 : decode b_M_ctor 13 = .ok (.aload_n 0, 1) := by decide +kernel
theorem d_M_ctor_14 : decode b_M_ctor 14 = .ok (.sipush 880, 3) := by decide +kernel
theorem d_M_ctor_17 : decode b_M_ctor 17 = .ok (.newarray .int, 2) := by decide +kernel
theorem d_M_ctor_19 : decode b_M_ctor 19 = .ok (.putfield 13, 3) := by decide +kernel
theorem d_M_ctor_22 : decode b_M_ctor 22 = .ok (.aload_n 0, 1) := by decide +kernel
theorem d_M_ctor_23 : decode b_M_ctor 23 = .ok (.bipush 22, 2) := by decide +kernel
theorem d_M_ctor_25 : decode b_M_ctor 25 = .ok (.newarray .boolean, 2) := by decide +kernel
theorem d_M_ctor_27 : decode b_M_ctor 27 = .ok (.putfield 16, 3) := by decide +kernel
theorem d_M_ctor_30 : decode b_M_ctor 30 = .ok (.aload_n 0, 1) := by decide +kernel
theorem d_M_ctor_31 : decode b_M_ctor 31 = .ok (.iload_n 1, 1) := by decide +kernel
theorem d_M_ctor_32 : decode b_M_ctor 32 = .ok (.iconst 1, 1) := by decide +kernel
theorem d_M_ctor_33 : decode b_M_ctor 33 = .ok (.if_icmp .ge 7, 3) := by decide +kernel
theorem d_M_ctor_36 : decode b_M_ctor 36 = .ok (.iconst 1, 1) := by decide +kernel
theorem d_M_ctor_37 : decode b_M_ctor 37 = .ok (.goto 15, 3) := by decide +kernel
theorem d_M_ctor_40 : decode b_M_ctor 40 = .ok (.iload_n 1, 1) := by decide +kernel
theorem d_M_ctor_41 : decode b_M_ctor 41 = .ok (.bipush 20, 2) := by decide +kernel
theorem d_M_ctor_43 : decode b_M_ctor 43 = .ok (.if_icmp .le 8, 3) := by decide +kernel
theorem d_M_ctor_46 : decode b_M_ctor 46 = .ok (.bipush 20, 2) := by decide +kernel
theorem d_M_ctor_48 : decode b_M_ctor 48 = .ok (.goto 4, 3) := by decide +kernel
theorem d_M_ctor_51 : decode b_M_ctor 51 = .ok (.iload_n 1, 1) := by decide +kernel
theorem d_M_ctor_52 : decode b_M_ctor 52 = .ok (.putfield 20, 3) := by decide +kernel
theorem d_M_ctor_55 : decode b_M_ctor 55 = .ok (.aload_n 0, 1) := by decide +kernel
theorem d_M_ctor_56 : decode b_M_ctor 56 = .ok (.iload_n 2, 1) := by decide +kernel
theorem d_M_ctor_57 : decode b_M_ctor 57 = .ok (.iconst 1, 1) := by decide +kernel
theorem d_M_ctor_58 : decode b_M_ctor 58 = .ok (.if_icmp .ge 7, 3) := by decide +kernel
theorem d_M_ctor_61 : decode b_M_ctor 61 = .ok (.iconst 1, 1) := by decide +kernel
theorem d_M_ctor_62 : decode b_M_ctor 62 = .ok (.goto 15, 3) := by decide +kernel
theorem d_M_ctor_65 : decode b_M_ctor 65 = .ok (.iload_n 2, 1) := by decide +kernel
theorem d_M_ctor_66 : decode b_M_ctor 66 = .ok (.bipush 40, 2) := by decide +kernel
theorem d_M_ctor_68 : decode b_M_ctor 68 = .ok (.if_icmp .le 8, 3) := by decide +kernel
theorem d_M_ctor_71 : decode b_M_ctor 71 = .ok (.bipush 40, 2) := by decide +kernel
theorem d_M_ctor_73 : decode b_M_ctor 73 = .ok (.goto 4, 3) := by decide +kernel
theorem d_M_ctor_76 : decode b_M_ctor 76 = .ok (.iload_n 2, 1) := by decide +kernel
theorem d_M_ctor_77 : decode b_M_ctor 77 = .ok (.putfield 24, 3) := by decide +kernel
theorem d_M_ctor_80 : decode b_M_ctor 80 = .ok (.return_, 1) := by decide +kernel
theorem d_M_init_0 : decode b_M_init 0 = .ok (.aload_n 0, 1) := by decide +kernel
theorem d_M_init_1 : decode b_M_init 1 = .ok (.iconst 1, 1) := by decide +kernel
theorem d_M_init_2 : decode b_M_init 2 = .ok (.putfield 27, 3) := by decide +kernel
theorem d_M_init_5 : decode b_M_init 5 = .ok (.iconst 0, 1) := by decide +kernel
theorem d_M_init_6 : decode b_M_init 6 = .ok (.istore_n 1, 1) := by decide +kernel
theorem d_M_init_7 : decode b_M_init 7 = .ok (.iload_n 1, 1) := by decide +kernel
theorem d_M_init_8 : decode b_M_init 8 = .ok (.sipush 800, 3) := by decide +kernel
theorem d_M_init_11 : decode b_M_init 11 = .ok (.if_icmp .ge 16, 3) := by decide +kernel
theorem d_M_init_14 : decode b_M_init 14 = .ok (.aload_n 0, 1) := by decide +kernel
theorem d_M_init_15 : decode b_M_init 15 = .ok (.getfield 7, 3) := by decide +kernel
theorem d_M_init_18 : decode b_M_init 18 = .ok (.iload_n 1, 1) := by decide +kernel
theorem d_M_init_19 : decode b_M_init 19 = .ok (.iconst 0, 1) := by decide +kernel
theorem d_M_init_20 : decode b_M_init 20 = .ok (.iastore, 1) := by decide +kernel
theorem d_M_init_21 : decode b_M_init 21 = .ok (.iinc 1 1, 3) := by decide +kernel
theorem d_M_init_24 : decode b_M_init 24 = .ok (.goto (-17), 3) := by decide +kernel
theorem d_M_init_27 : decode b_M_init 27 = .ok (.iconst 0, 1) := by decide +kernel
theorem d_M_init_28 : decode b_M_init 28 = .ok (.istore_n 1, 1) := by decide +kernel
theorem d_M_init_29 : decode b_M_init 29 = .ok (.iload_n 1, 1) := by decide +kernel
theorem d_M_init_30 : decode b_M_init 30 = .ok (.bipush 22, 2) := by decide +kernel
theorem d_M_init_32 : decode b_M_init 32 = .ok (.if_icmp .ge 16, 3) := by decide +kernel
theorem d_M_init_35 : decode b_M_init 35 = .ok (.aload_n 0, 1) := by decide +kernel
theorem d_M_init_36 : decode b_M_init 36 = .ok (.getfield 16, 3) := by decide +kernel
theorem d_M_init_39 : decode b_M_init 39 = .ok (.iload_n 1, 1) := by decide +kernel
theorem d_M_init_40 : decode b_M_init 40 = .ok (.iconst 0, 1) := by decide +kernel
theorem d_M_init_41 : decode b_M_init 41 = .ok (.bastore, 1) := by decide +kernel
theorem d_M_init_42 : decode b_M_init 42 = .ok (.iinc 1 1, 3) := by decide +kernel
theorem d_M_init_45 : decode b_M_init 45 = .ok (.goto (-16), 3) := by decide +kernel
theorem d_M_init_48 : decode b_M_init 48 = .ok (.return_, 1) := by decide +kernel
theorem d_M_isDisk_0 : decode b_M_isDisk 0 = .ok (.aload_n 0, 1) := by decide +kernel
theorem d_M_isDisk_1 : decode b_M_isDisk 1 = .ok (.getfield 27, 3) := by decide +kernel
theorem d_M_isDisk_4 : decode b_M_isDisk 4 = .ok (.ifCond .eq 21, 3) := by decide +kernel
theorem d_M_isDisk_7 : decode b_M_isDisk 7 = .ok (.iload_n 1, 1) := by decide +kernel
theorem d_M_isDisk_8 : decode b_M_isDisk 8 = .ok (.ifCond .lt 17, 3) := by decide +kernel
theorem d_M_isDisk_11 : decode b_M_isDisk 11 = .ok (.iload_n 1, 1) := by decide +kernel
theorem d_M_isDisk_12 : decode b_M_isDisk 12 = .ok (.aload_n 0, 1) := by decide +kernel
theorem d_M_isDisk_13 : decode b_M_isDisk 13 = .ok (.getfield 20, 3) := by decide +kernel
theorem d_M_isDisk_16 : decode b_M_isDisk 16 = .ok (.iconst 2, 1) := by decide +kernel
theorem d_M_isDisk_17 : decode b_M_isDisk 17 = .ok (.iadd, 1) := by decide +kernel
theorem d_M_isDisk_18 : decode b_M_isDisk 18 = .ok (.if_icmp .ge 7, 3) := by decide +kernel
theorem d_M_isDisk_21 : decode b_M_isDisk 21 = .ok (.iconst 1, 1) := by decide +kernel
theorem d_M_isDisk_22 : decode b_M_isDisk 22 = .ok (.goto 4, 3) := by decide +kernel
theorem d_M_isDisk_25 : decode b_M_isDisk 25 = .ok (.iconst 0, 1) := by decide +kernel
theorem d_M_isDisk_26 : decode b_M_isDisk 26 = .ok (.ireturn, 1) := by decide +kernel
theorem d_M_isPlace_0 : decode b_M_isPlace 0 = .ok (.iload_n 1, 1) := by decide +kernel
theorem d_M_isPlace_1 : decode b_M_isPlace 1 = .ok (.ifCond .lt 15, 3) := by decide +kernel
theorem d_M_isPlace_4 : decode b_M_isPlace 4 = .ok (.iload_n 1, 1) := by decide +kernel
theorem d_M_isPlace_5 : decode b_M_isPlace 5 = .ok (.aload_n 0, 1) := by decide +kernel
theorem d_M_isPlace_6 : decode b_M_isPlace 6 = .ok (.getfield 24, 3) := by decide +kernel
theorem d_M_isPlace_9 : decode b_M_isPlace 9 = .ok (.if_icmp .ge 7, 3) := by decide +kernel
theorem d_M_isPlace_12 : decode b_M_isPlace 12 = .ok (.iconst 1, 1) := by decide +kernel
theorem d_M_isPlace_13 : decode b_M_isPlace 13 = .ok (.goto 4, 3) := by decide +kernel
theorem d_M_isPlace_16 : decode b_M_isPlace 16 = .ok (.iconst 0, 1) := by decide +kernel
theorem d_M_isPlace_17 : decode b_M_isPlace 17 = .ok (.ireturn, 1) := by decide +kernel
theorem d_M_isData_0 : decode b_M_isData 0 = .ok (.aload_n 0, 1) := by decide +kernel
theorem d_M_isData_1 : decode b_M_isData 1 = .ok (.getfield 27, 3) := by decide +kernel
theorem d_M_isData_4 : decode b_M_isData 4 = .ok (.ifCond .eq 27, 3) := by decide +kernel
theorem d_M_isData_7 : decode b_M_isData 7 = .ok (.iload_n 1, 1) := by decide +kernel
theorem d_M_isData_8 : decode b_M_isData 8 = .ok (.ifCond .lt 23, 3) := by decide +kernel
theorem d_M_isData_11 : decode b_M_isData 11 = .ok (.iload_n 1, 1) := by decide +kernel
theorem d_M_isData_12 : decode b_M_isData 12 = .ok (.aload_n 0, 1) := by decide +kernel
theorem d_M_isData_13 : decode b_M_isData 13 = .ok (.getfield 20, 3) := by decide +kernel
theorem d_M_isData_16 : decode b_M_isData 16 = .ok (.if_icmp .ge 15, 3) := by decide +kernel
theorem d_M_isData_19 : decode b_M_isData 19 = .ok (.aload_n 0, 1) := by decide +kernel
theorem d_M_isData_20 : decode b_M_isData 20 = .ok (.iload_n 2, 1) := by decide +kernel
theorem d_M_isData_21 : decode b_M_isData 21 = .ok (.invokevirtual 31, 3) := by decide +kernel
theorem d_M_isData_24 : decode b_M_isData 24 = .ok (.ifCond .eq 7, 3) := by decide +kernel
theorem d_M_isData_27 : decode b_M_isData 27 = .ok (.iconst 1, 1) := by decide +kernel
theorem d_M_isData_28 : decode b_M_isData 28 = .ok (.goto 4, 3) := by decide +kernel
theorem d_M_isData_31 : decode b_M_isData 31 = .ok (.iconst 0, 1) := by decide +kernel
theorem d_M_isData_32 : decode b_M_isData 32 = .ok (.ireturn, 1) := by decide +kernel
theorem d_M_write_0 : decode b_M_write 0 = .ok (.aload_n 0, 1) := by decide +kernel
theorem d_M_write_1 : decode b_M_write 1 = .ok (.iload_n 1, 1) := by decide +kernel
theorem d_M_write_2 : decode b_M_write 2 = .ok (.iload_n 2, 1) := by decide +kernel
theorem d_M_write_3 : decode b_M_write 3 = .ok (.invokevirtual 35, 3) := by decide +kernel
theorem d_M_write_6 : decode b_M_write 6 = .ok (.ifCond .ne 5, 3) := by decide +kernel
theorem d_M_write_9 : decode b_M_write 9 = .ok (.iconst 0, 1) := by decide +kernel
theorem d_M_write_10 : decode b_M_write 10 = .ok (.ireturn, 1) := by decide +kernel
theorem d_M_write_11 : decode b_M_write 11 = .ok (.aload_n 0, 1) := by decide +kernel
theorem d_M_write_12 : decode b_M_write 12 = .ok (.getfield 7, 3) := by decide +kernel
theorem d_M_write_15 : decode b_M_write 15 = .ok (.bipush 40, 2) := by decide +kernel
theorem d_M_write_17 : decode b_M_write 17 = .ok (.iload_n 1, 1) := by decide +kernel
theorem d_M_write_18 : decode b_M_write 18 = .ok (.imul, 1) := by decide +kernel
theorem d_M_write_19 : decode b_M_write 19 = .ok (.iload_n 2, 1) := by decide +kernel
theorem d_M_write_20 : decode b_M_write 20 = .ok (.iadd, 1) := by decide +kernel
theorem d_M_write_21 : decode b_M_write 21 = .ok (.iload_n 3, 1) := by decide +kernel
theorem d_M_write_22 : decode b_M_write 22 = .ok (.iastore, 1) := by decide +kernel
theorem d_M_write_23 : decode b_M_write 23 = .ok (.iconst 1, 1) := by decide +kernel
theorem d_M_write_24 : decode b_M_write 24 = .ok (.ireturn, 1) := by decide +kernel
theorem d_M_read_0 : decode b_M_read 0 = .ok (.aload_n 0, 1) := by decide +kernel
theorem d_M_read_1 : decode b_M_read 1 = .ok (.iload_n 1, 1) := by decide +kernel
theorem d_M_read_2 : decode b_M_read 2 = .ok (.iload_n 2, 1) := by decide +kernel
theorem d_M_read_3 : decode b_M_read 3 = .ok (.invokevirtual 35, 3) := by decide +kernel
theorem d_M_read_6 : decode b_M_read 6 = .ok (.ifCond .eq 17, 3) := by decide +kernel
theorem d_M_read_9 : decode b_M_read 9 = .ok (.aload_n 0, 1) := by decide +kernel
theorem d_M_read_10 : decode b_M_read 10 = .ok (.getfield 7, 3) := by decide +kernel
theorem d_M_read_13 : decode b_M_read 13 = .ok (.bipush 40, 2) := by decide +kernel
theorem d_M_read_15 : decode b_M_read 15 = .ok (.iload_n 1, 1) := by decide +kernel
theorem d_M_read_16 : decode b_M_read 16 = .ok (.imul, 1) := by decide +kernel
theorem d_M_read_17 : decode b_M_read 17 = .ok (.iload_n 2, 1) := by decide +kernel
theorem d_M_read_18 : decode b_M_read 18 = .ok (.iadd, 1) := by decide +kernel
theorem d_M_read_19 : decode b_M_read 19 = .ok (.iaload, 1) := by decide +kernel
theorem d_M_read_20 : decode b_M_read 20 = .ok (.goto 4, 3) := by decide +kernel
theorem d_M_read_23 : decode b_M_read 23 = .ok (.iconst 0, 1) := by decide +kernel
theorem d_M_read_24 : decode b_M_read 24 = .ok (.ireturn, 1) := by decide +kernel
theorem d_M_timesX_0 : decode b_M_timesX 0 = .ok (.iload_n 0, 1) := by decide +kernel
theorem d_M_timesX_1 : decode b_M_timesX 1 = .ok (.ldc 39, 2) := by decide +kernel
theorem d_M_timesX_3 : decode b_M_timesX 3 = .ok (.iand, 1) := by decide +kernel
theorem d_M_timesX_4 : decode b_M_timesX 4 = .ok (.iconst 1, 1) := by decide +kernel
theorem d_M_timesX_5 : decode b_M_timesX 5 = .ok (.ishl, 1) := by decide +kernel
theorem d_M_timesX_6 : decode b_M_timesX 6 = .ok (.istore_n 1, 1) := by decide +kernel
theorem d_M_timesX_7 : decode b_M_timesX 7 = .ok (.iload_n 0, 1) := by decide +kernel
theorem d_M_timesX_8 : decode b_M_timesX 8 = .ok (.bipush 7, 2) := by decide +kernel
theorem d_M_timesX_10 : decode b_M_timesX 10 = .ok (.iushr, 1) := by decide +kernel
theorem d_M_timesX_11 : decode b_M_timesX 11 = .ok (.ldc 40, 2) := by decide +kernel
theorem d_M_timesX_13 : decode b_M_timesX 13 = .ok (.iand, 1) := by decide +kernel
theorem d_M_timesX_14 : decode b_M_timesX 14 = .ok (.istore_n 2, 1) := by decide +kernel
theorem d_M_timesX_15 : decode b_M_timesX 15 = .ok (.iload_n 1, 1) := by decide +kernel
theorem d_M_timesX_16 : decode b_M_timesX 16 = .ok (.iload_n 2, 1) := by decide +kernel
theorem d_M_timesX_17 : decode b_M_timesX 17 = .ok (.ixor, 1) := by decide +kernel
theorem d_M_timesX_18 : decode b_M_timesX 18 = .ok (.iload_n 2, 1) := by decide +kernel
theorem d_M_timesX_19 : decode b_M_timesX 19 = .ok (.iconst 2, 1) := by decide +kernel
theorem d_M_timesX_20 : decode b_M_timesX 20 = .ok (.ishl, 1) := by decide +kernel
theorem d_M_timesX_21 : decode b_M_timesX 21 = .ok (.ixor, 1) := by decide +kernel
theorem d_M_timesX_22 : decode b_M_timesX 22 = .ok (.iload_n 2, 1) := by decide +kernel
theorem d_M_timesX_23 : decode b_M_timesX 23 = .ok (.iconst 3, 1) := by decide +kernel
theorem d_M_timesX_24 : decode b_M_timesX 24 = .ok (.ishl, 1) := by decide +kernel
theorem d_M_timesX_25 : decode b_M_timesX 25 = .ok (.ixor, 1) := by decide +kernel
theorem d_M_timesX_26 : decode b_M_timesX 26 = .ok (.iload_n 2, 1) := by decide +kernel
theorem d_M_timesX_27 : decode b_M_timesX 27 = .ok (.iconst 4, 1) := by decide +kernel
theorem d_M_timesX_28 : decode b_M_timesX 28 = .ok (.ishl, 1) := by decide +kernel
theorem d_M_timesX_29 : decode b_M_timesX 29 = .ok (.ixor, 1) := by decide +kernel
theorem d_M_timesX_30 : decode b_M_timesX 30 = .ok (.ireturn, 1) := by decide +kernel
theorem d_M_due_0 : decode b_M_due 0 = .ok (.iload_n 1, 1) := by decide +kernel
theorem d_M_due_1 : decode b_M_due 1 = .ok (.aload_n 0, 1) := by decide +kernel
theorem d_M_due_2 : decode b_M_due 2 = .ok (.getfield 20, 3) := by decide +kernel
theorem d_M_due_5 : decode b_M_due 5 = .ok (.if_icmp .ge 15, 3) := by decide +kernel
theorem d_M_due_8 : decode b_M_due 8 = .ok (.aload_n 0, 1) := by decide +kernel
theorem d_M_due_9 : decode b_M_due 9 = .ok (.getfield 7, 3) := by decide +kernel
theorem d_M_due_12 : decode b_M_due 12 = .ok (.bipush 40, 2) := by decide +kernel
theorem d_M_due_14 : decode b_M_due 14 = .ok (.iload_n 1, 1) := by decide +kernel
theorem d_M_due_15 : decode b_M_due 15 = .ok (.imul, 1) := by decide +kernel
theorem d_M_due_16 : decode b_M_due 16 = .ok (.iload_n 2, 1) := by decide +kernel
theorem d_M_due_17 : decode b_M_due 17 = .ok (.iadd, 1) := by decide +kernel
theorem d_M_due_18 : decode b_M_due 18 = .ok (.iaload, 1) := by decide +kernel
theorem d_M_due_19 : decode b_M_due 19 = .ok (.ireturn, 1) := by decide +kernel
theorem d_M_due_20 : decode b_M_due 20 = .ok (.iconst 0, 1) := by decide +kernel
theorem d_M_due_21 : decode b_M_due 21 = .ok (.istore_n 3, 1) := by decide +kernel
theorem d_M_due_22 : decode b_M_due 22 = .ok (.aload_n 0, 1) := by decide +kernel
theorem d_M_due_23 : decode b_M_due 23 = .ok (.getfield 20, 3) := by decide +kernel
theorem d_M_due_26 : decode b_M_due 26 = .ok (.iconst 1, 1) := by decide +kernel
theorem d_M_due_27 : decode b_M_due 27 = .ok (.isub, 1) := by decide +kernel
theorem d_M_due_28 : decode b_M_due 28 = .ok (.istore 4, 2) := by decide +kernel
theorem d_M_due_30 : decode b_M_due 30 = .ok (.iload 4, 2) := by decide +kernel
theorem d_M_due_32 : decode b_M_due 32 = .ok (.ifCond .lt 39, 3) := by decide +kernel
theorem d_M_due_35 : decode b_M_due 35 = .ok (.iload_n 1, 1) := by decide +kernel
theorem d_M_due_36 : decode b_M_due 36 = .ok (.aload_n 0, 1) := by decide +kernel
theorem d_M_due_37 : decode b_M_due 37 = .ok (.getfield 20, 3) := by decide +kernel
theorem d_M_due_40 : decode b_M_due 40 = .ok (.if_icmp .ne 7, 3) := by decide +kernel
theorem d_M_due_43 : decode b_M_due 43 = .ok (.iload_n 3, 1) := by decide +kernel
theorem d_M_due_44 : decode b_M_due 44 = .ok (.goto 7, 3) := by decide +kernel
theorem d_M_due_47 : decode b_M_due 47 = .ok (.iload_n 3, 1) := by decide +kernel
theorem d_M_due_48 : decode b_M_due 48 = .ok (.invokestatic 41, 3) := by decide +kernel
theorem d_M_due_51 : decode b_M_due 51 = .ok (.aload_n 0, 1) := by decide +kernel
theorem d_M_due_52 : decode b_M_due 52 = .ok (.getfield 7, 3) := by decide +kernel
theorem d_M_due_55 : decode b_M_due 55 = .ok (.bipush 40, 2) := by decide +kernel
theorem d_M_due_57 : decode b_M_due 57 = .ok (.iload 4, 2) := by decide +kernel
theorem d_M_due_59 : decode b_M_due 59 = .ok (.imul, 1) := by decide +kernel
theorem d_M_due_60 : decode b_M_due 60 = .ok (.iload_n 2, 1) := by decide +kernel
theorem d_M_due_61 : decode b_M_due 61 = .ok (.iadd, 1) := by decide +kernel
theorem d_M_due_62 : decode b_M_due 62 = .ok (.iaload, 1) := by decide +kernel
theorem d_M_due_63 : decode b_M_due 63 = .ok (.ixor, 1) := by decide +kernel
theorem d_M_due_64 : decode b_M_due 64 = .ok (.istore_n 3, 1) := by decide +kernel
theorem d_M_due_65 : decode b_M_due 65 = .ok (.iinc 4 (-1), 3) := by decide +kernel
theorem d_M_due_68 : decode b_M_due 68 = .ok (.goto (-38), 3) := by decide +kernel
theorem d_M_due_71 : decode b_M_due 71 = .ok (.iload_n 3, 1) := by decide +kernel
theorem d_M_due_72 : decode b_M_due 72 = .ok (.ireturn, 1) := by decide +kernel
theorem d_M_fail_0 : decode b_M_fail 0 = .ok (.aload_n 0, 1) := by decide +kernel
theorem d_M_fail_1 : decode b_M_fail 1 = .ok (.iload_n 1, 1) := by decide +kernel
theorem d_M_fail_2 : decode b_M_fail 2 = .ok (.invokevirtual 45, 3) := by decide +kernel
theorem d_M_fail_5 : decode b_M_fail 5 = .ok (.ifCond .eq 20, 3) := by decide +kernel
theorem d_M_fail_8 : decode b_M_fail 8 = .ok (.aload_n 0, 1) := by decide +kernel
theorem d_M_fail_9 : decode b_M_fail 9 = .ok (.getfield 16, 3) := by decide +kernel
theorem d_M_fail_12 : decode b_M_fail 12 = .ok (.iload_n 1, 1) := by decide +kernel
theorem d_M_fail_13 : decode b_M_fail 13 = .ok (.baload, 1) := by decide +kernel
theorem d_M_fail_14 : decode b_M_fail 14 = .ok (.ifCond .ne 11, 3) := by decide +kernel
theorem d_M_fail_17 : decode b_M_fail 17 = .ok (.aload_n 0, 1) := by decide +kernel
theorem d_M_fail_18 : decode b_M_fail 18 = .ok (.invokevirtual 48, 3) := by decide +kernel
theorem d_M_fail_21 : decode b_M_fail 21 = .ok (.iconst 2, 1) := by decide +kernel
theorem d_M_fail_22 : decode b_M_fail 22 = .ok (.if_icmp .ne 5, 3) := by decide +kernel
theorem d_M_fail_25 : decode b_M_fail 25 = .ok (.iconst 0, 1) := by decide +kernel
theorem d_M_fail_26 : decode b_M_fail 26 = .ok (.ireturn, 1) := by decide +kernel
theorem d_M_fail_27 : decode b_M_fail 27 = .ok (.iconst 0, 1) := by decide +kernel
theorem d_M_fail_28 : decode b_M_fail 28 = .ok (.istore_n 2, 1) := by decide +kernel
theorem d_M_fail_29 : decode b_M_fail 29 = .ok (.iload_n 2, 1) := by decide +kernel
theorem d_M_fail_30 : decode b_M_fail 30 = .ok (.aload_n 0, 1) := by decide +kernel
theorem d_M_fail_31 : decode b_M_fail 31 = .ok (.getfield 24, 3) := by decide +kernel
theorem d_M_fail_34 : decode b_M_fail 34 = .ok (.if_icmp .ge 26, 3) := by decide +kernel
theorem d_M_fail_37 : decode b_M_fail 37 = .ok (.aload_n 0, 1) := by decide +kernel
theorem d_M_fail_38 : decode b_M_fail 38 = .ok (.getfield 13, 3) := by decide +kernel
theorem d_M_fail_41 : decode b_M_fail 41 = .ok (.bipush 40, 2) := by decide +kernel
theorem d_M_fail_43 : decode b_M_fail 43 = .ok (.iload_n 1, 1) := by decide +kernel
theorem d_M_fail_44 : decode b_M_fail 44 = .ok (.imul, 1) := by decide +kernel
theorem d_M_fail_45 : decode b_M_fail 45 = .ok (.iload_n 2, 1) := by decide +kernel
theorem d_M_fail_46 : decode b_M_fail 46 = .ok (.iadd, 1) := by decide +kernel
theorem d_M_fail_47 : decode b_M_fail 47 = .ok (.aload_n 0, 1) := by decide +kernel
theorem d_M_fail_48 : decode b_M_fail 48 = .ok (.iload_n 1, 1) := by decide +kernel
theorem d_M_fail_49 : decode b_M_fail 49 = .ok (.iload_n 2, 1) := by decide +kernel
theorem d_M_fail_50 : decode b_M_fail 50 = .ok (.invokevirtual 52, 3) := by decide +kernel
theorem d_M_fail_53 : decode b_M_fail 53 = .ok (.iastore, 1) := by decide +kernel
theorem d_M_fail_54 : decode b_M_fail 54 = .ok (.iinc 2 1, 3) := by decide +kernel
theorem d_M_fail_57 : decode b_M_fail 57 = .ok (.goto (-28), 3) := by decide +kernel
theorem d_M_fail_60 : decode b_M_fail 60 = .ok (.aload_n 0, 1) := by decide +kernel
theorem d_M_fail_61 : decode b_M_fail 61 = .ok (.getfield 16, 3) := by decide +kernel
theorem d_M_fail_64 : decode b_M_fail 64 = .ok (.iload_n 1, 1) := by decide +kernel
theorem d_M_fail_65 : decode b_M_fail 65 = .ok (.iconst 1, 1) := by decide +kernel
theorem d_M_fail_66 : decode b_M_fail 66 = .ok (.bastore, 1) := by decide +kernel
theorem d_M_fail_67 : decode b_M_fail 67 = .ok (.iconst 1, 1) := by decide +kernel
theorem d_M_fail_68 : decode b_M_fail 68 = .ok (.ireturn, 1) := by decide +kernel
theorem d_M_smash_0 : decode b_M_smash 0 = .ok (.aload_n 0, 1) := by decide +kernel
theorem d_M_smash_1 : decode b_M_smash 1 = .ok (.iload_n 1, 1) := by decide +kernel
theorem d_M_smash_2 : decode b_M_smash 2 = .ok (.invokevirtual 45, 3) := by decide +kernel
theorem d_M_smash_5 : decode b_M_smash 5 = .ok (.ifCond .eq 20, 3) := by decide +kernel
theorem d_M_smash_8 : decode b_M_smash 8 = .ok (.aload_n 0, 1) := by decide +kernel
theorem d_M_smash_9 : decode b_M_smash 9 = .ok (.iload_n 2, 1) := by decide +kernel
theorem d_M_smash_10 : decode b_M_smash 10 = .ok (.invokevirtual 31, 3) := by decide +kernel
theorem d_M_smash_13 : decode b_M_smash 13 = .ok (.ifCond .eq 12, 3) := by decide +kernel
theorem d_M_smash_16 : decode b_M_smash 16 = .ok (.aload_n 0, 1) := by decide +kernel
theorem d_M_smash_17 : decode b_M_smash 17 = .ok (.getfield 16, 3) := by decide +kernel
theorem d_M_smash_20 : decode b_M_smash 20 = .ok (.iload_n 1, 1) := by decide +kernel
theorem d_M_smash_21 : decode b_M_smash 21 = .ok (.baload, 1) := by decide +kernel
theorem d_M_smash_22 : decode b_M_smash 22 = .ok (.ifCond .ne 5, 3) := by decide +kernel
theorem d_M_smash_25 : decode b_M_smash 25 = .ok (.iconst 0, 1) := by decide +kernel
theorem d_M_smash_26 : decode b_M_smash 26 = .ok (.ireturn, 1) := by decide +kernel
theorem d_M_smash_27 : decode b_M_smash 27 = .ok (.aload_n 0, 1) := by decide +kernel
theorem d_M_smash_28 : decode b_M_smash 28 = .ok (.getfield 13, 3) := by decide +kernel
theorem d_M_smash_31 : decode b_M_smash 31 = .ok (.bipush 40, 2) := by decide +kernel
theorem d_M_smash_33 : decode b_M_smash 33 = .ok (.iload_n 1, 1) := by decide +kernel
theorem d_M_smash_34 : decode b_M_smash 34 = .ok (.imul, 1) := by decide +kernel
theorem d_M_smash_35 : decode b_M_smash 35 = .ok (.iload_n 2, 1) := by decide +kernel
theorem d_M_smash_36 : decode b_M_smash 36 = .ok (.iadd, 1) := by decide +kernel
theorem d_M_smash_37 : decode b_M_smash 37 = .ok (.iload_n 3, 1) := by decide +kernel
theorem d_M_smash_38 : decode b_M_smash 38 = .ok (.iastore, 1) := by decide +kernel
theorem d_M_smash_39 : decode b_M_smash 39 = .ok (.iconst 1, 1) := by decide +kernel
theorem d_M_smash_40 : decode b_M_smash 40 = .ok (.ireturn, 1) := by decide +kernel
theorem d_M_raw_0 : decode b_M_raw 0 = .ok (.aload_n 0, 1) := by decide +kernel
theorem d_M_raw_1 : decode b_M_raw 1 = .ok (.iload_n 1, 1) := by decide +kernel
theorem d_M_raw_2 : decode b_M_raw 2 = .ok (.invokevirtual 45, 3) := by decide +kernel
theorem d_M_raw_5 : decode b_M_raw 5 = .ok (.ifCond .eq 11, 3) := by decide +kernel
theorem d_M_raw_8 : decode b_M_raw 8 = .ok (.aload_n 0, 1) := by decide +kernel
theorem d_M_raw_9 : decode b_M_raw 9 = .ok (.iload_n 2, 1) := by decide +kernel
theorem d_M_raw_10 : decode b_M_raw 10 = .ok (.invokevirtual 31, 3) := by decide +kernel
theorem d_M_raw_13 : decode b_M_raw 13 = .ok (.ifCond .ne 5, 3) := by decide +kernel
theorem d_M_raw_16 : decode b_M_raw 16 = .ok (.iconst 0, 1) := by decide +kernel
theorem d_M_raw_17 : decode b_M_raw 17 = .ok (.ireturn, 1) := by decide +kernel
theorem d_M_raw_18 : decode b_M_raw 18 = .ok (.aload_n 0, 1) := by decide +kernel
theorem d_M_raw_19 : decode b_M_raw 19 = .ok (.getfield 16, 3) := by decide +kernel
theorem d_M_raw_22 : decode b_M_raw 22 = .ok (.iload_n 1, 1) := by decide +kernel
theorem d_M_raw_23 : decode b_M_raw 23 = .ok (.baload, 1) := by decide +kernel
theorem d_M_raw_24 : decode b_M_raw 24 = .ok (.ifCond .eq 17, 3) := by decide +kernel
theorem d_M_raw_27 : decode b_M_raw 27 = .ok (.aload_n 0, 1) := by decide +kernel
theorem d_M_raw_28 : decode b_M_raw 28 = .ok (.getfield 13, 3) := by decide +kernel
theorem d_M_raw_31 : decode b_M_raw 31 = .ok (.bipush 40, 2) := by decide +kernel
theorem d_M_raw_33 : decode b_M_raw 33 = .ok (.iload_n 1, 1) := by decide +kernel
theorem d_M_raw_34 : decode b_M_raw 34 = .ok (.imul, 1) := by decide +kernel
theorem d_M_raw_35 : decode b_M_raw 35 = .ok (.iload_n 2, 1) := by decide +kernel
theorem d_M_raw_36 : decode b_M_raw 36 = .ok (.iadd, 1) := by decide +kernel
theorem d_M_raw_37 : decode b_M_raw 37 = .ok (.iaload, 1) := by decide +kernel
theorem d_M_raw_38 : decode b_M_raw 38 = .ok (.goto 9, 3) := by decide +kernel
theorem d_M_raw_41 : decode b_M_raw 41 = .ok (.aload_n 0, 1) := by decide +kernel
theorem d_M_raw_42 : decode b_M_raw 42 = .ok (.iload_n 1, 1) := by decide +kernel
theorem d_M_raw_43 : decode b_M_raw 43 = .ok (.iload_n 2, 1) := by decide +kernel
theorem d_M_raw_44 : decode b_M_raw 44 = .ok (.invokevirtual 52, 3) := by decide +kernel
theorem d_M_raw_47 : decode b_M_raw 47 = .ok (.ireturn, 1) := by decide +kernel
theorem d_M_rebuild_0 : decode b_M_rebuild 0 = .ok (.aload_n 0, 1) := by decide +kernel
theorem d_M_rebuild_1 : decode b_M_rebuild 1 = .ok (.invokevirtual 48, 3) := by decide +kernel
theorem d_M_rebuild_4 : decode b_M_rebuild 4 = .ok (.istore_n 1, 1) := by decide +kernel
theorem d_M_rebuild_5 : decode b_M_rebuild 5 = .ok (.iconst 0, 1) := by decide +kernel
theorem d_M_rebuild_6 : decode b_M_rebuild 6 = .ok (.istore_n 2, 1) := by decide +kernel
theorem d_M_rebuild_7 : decode b_M_rebuild 7 = .ok (.iload_n 2, 1) := by decide +kernel
theorem d_M_rebuild_8 : decode b_M_rebuild 8 = .ok (.bipush 22, 2) := by decide +kernel
theorem d_M_rebuild_10 : decode b_M_rebuild 10 = .ok (.if_icmp .ge 16, 3) := by decide +kernel
theorem d_M_rebuild_13 : decode b_M_rebuild 13 = .ok (.aload_n 0, 1) := by decide +kernel
theorem d_M_rebuild_14 : decode b_M_rebuild 14 = .ok (.getfield 16, 3) := by decide +kernel
theorem d_M_rebuild_17 : decode b_M_rebuild 17 = .ok (.iload_n 2, 1) := by decide +kernel
theorem d_M_rebuild_18 : decode b_M_rebuild 18 = .ok (.iconst 0, 1) := by decide +kernel
theorem d_M_rebuild_19 : decode b_M_rebuild 19 = .ok (.bastore, 1) := by decide +kernel
theorem d_M_rebuild_20 : decode b_M_rebuild 20 = .ok (.iinc 2 1, 3) := by decide +kernel
theorem d_M_rebuild_23 : decode b_M_rebuild 23 = .ok (.goto (-16), 3) := by decide +kernel
theorem d_M_rebuild_26 : decode b_M_rebuild 26 = .ok (.iload_n 1, 1) := by decide +kernel
theorem d_M_rebuild_27 : decode b_M_rebuild 27 = .ok (.ireturn, 1) := by decide +kernel
theorem d_M_alive_0 : decode b_M_alive 0 = .ok (.aload_n 0, 1) := by decide +kernel
theorem d_M_alive_1 : decode b_M_alive 1 = .ok (.iload_n 1, 1) := by decide +kernel
theorem d_M_alive_2 : decode b_M_alive 2 = .ok (.invokevirtual 45, 3) := by decide +kernel
theorem d_M_alive_5 : decode b_M_alive 5 = .ok (.ifCond .eq 16, 3) := by decide +kernel
theorem d_M_alive_8 : decode b_M_alive 8 = .ok (.aload_n 0, 1) := by decide +kernel
theorem d_M_alive_9 : decode b_M_alive 9 = .ok (.getfield 16, 3) := by decide +kernel
theorem d_M_alive_12 : decode b_M_alive 12 = .ok (.iload_n 1, 1) := by decide +kernel
theorem d_M_alive_13 : decode b_M_alive 13 = .ok (.baload, 1) := by decide +kernel
theorem d_M_alive_14 : decode b_M_alive 14 = .ok (.ifCond .ne 7, 3) := by decide +kernel
theorem d_M_alive_17 : decode b_M_alive 17 = .ok (.iconst 1, 1) := by decide +kernel
theorem d_M_alive_18 : decode b_M_alive 18 = .ok (.goto 4, 3) := by decide +kernel
theorem d_M_alive_21 : decode b_M_alive 21 = .ok (.iconst 0, 1) := by decide +kernel
theorem d_M_alive_22 : decode b_M_alive 22 = .ok (.ireturn, 1) := by decide +kernel
theorem d_M_scrub_0 : decode b_M_scrub 0 = .ok (.iconst 0, 1) := by decide +kernel
theorem d_M_scrub_1 : decode b_M_scrub 1 = .ok (.istore_n 1, 1) := by decide +kernel
theorem d_M_scrub_2 : decode b_M_scrub 2 = .ok (.iconst 0, 1) := by decide +kernel
theorem d_M_scrub_3 : decode b_M_scrub 3 = .ok (.istore_n 2, 1) := by decide +kernel
theorem d_M_scrub_4 : decode b_M_scrub 4 = .ok (.iload_n 2, 1) := by decide +kernel
theorem d_M_scrub_5 : decode b_M_scrub 5 = .ok (.aload_n 0, 1) := by decide +kernel
theorem d_M_scrub_6 : decode b_M_scrub 6 = .ok (.getfield 24, 3) := by decide +kernel
theorem d_M_scrub_9 : decode b_M_scrub 9 = .ok (.if_icmp .ge 118, 3) := by decide +kernel
theorem d_M_scrub_12 : decode b_M_scrub 12 = .ok (.aload_n 0, 1) := by decide +kernel
theorem d_M_scrub_13 : decode b_M_scrub 13 = .ok (.getfield 27, 3) := by decide +kernel
theorem d_M_scrub_16 : decode b_M_scrub 16 = .ok (.ifCond .eq 111, 3) := by decide +kernel
theorem d_M_scrub_19 : decode b_M_scrub 19 = .ok (.aload_n 0, 1) := by decide +kernel
theorem d_M_scrub_20 : decode b_M_scrub 20 = .ok (.getfield 16, 3) := by decide +kernel
theorem d_M_scrub_23 : decode b_M_scrub 23 = .ok (.aload_n 0, 1) := by decide +kernel
theorem d_M_scrub_24 : decode b_M_scrub 24 = .ok (.getfield 20, 3) := by decide +kernel
theorem d_M_scrub_27 : decode b_M_scrub 27 = .ok (.baload, 1) := by decide +kernel
theorem d_M_scrub_28 : decode b_M_scrub 28 = .ok (.ifCond .ne 24, 3) := by decide +kernel
theorem d_M_scrub_31 : decode b_M_scrub 31 = .ok (.aload_n 0, 1) := by decide +kernel
theorem d_M_scrub_32 : decode b_M_scrub 32 = .ok (.aload_n 0, 1) := by decide +kernel
theorem d_M_scrub_33 : decode b_M_scrub 33 = .ok (.getfield 20, 3) := by decide +kernel
theorem d_M_scrub_36 : decode b_M_scrub 36 = .ok (.iload_n 2, 1) := by decide +kernel
theorem d_M_scrub_37 : decode b_M_scrub 37 = .ok (.invokevirtual 56, 3) := by decide +kernel
theorem d_M_scrub_40 : decode b_M_scrub 40 = .ok (.aload_n 0, 1) := by decide +kernel
theorem d_M_scrub_41 : decode b_M_scrub 41 = .ok (.aload_n 0, 1) := by decide +kernel
theorem d_M_scrub_42 : decode b_M_scrub 42 = .ok (.getfield 20, 3) := by decide +kernel
theorem d_M_scrub_45 : decode b_M_scrub 45 = .ok (.iload_n 2, 1) := by decide +kernel
theorem d_M_scrub_46 : decode b_M_scrub 46 = .ok (.invokevirtual 52, 3) := by decide +kernel
theorem d_M_scrub_49 : decode b_M_scrub 49 = .ok (.if_icmp .ne 7, 3) := by decide +kernel
theorem d_M_scrub_52 : decode b_M_scrub 52 = .ok (.iconst 1, 1) := by decide +kernel
theorem d_M_scrub_53 : decode b_M_scrub 53 = .ok (.goto 4, 3) := by decide +kernel
theorem d_M_scrub_56 : decode b_M_scrub 56 = .ok (.iconst 0, 1) := by decide +kernel
theorem d_M_scrub_57 : decode b_M_scrub 57 = .ok (.istore_n 3, 1) := by decide +kernel
theorem d_M_scrub_58 : decode b_M_scrub 58 = .ok (.aload_n 0, 1) := by decide +kernel
theorem d_M_scrub_59 : decode b_M_scrub 59 = .ok (.getfield 16, 3) := by decide +kernel
theorem d_M_scrub_62 : decode b_M_scrub 62 = .ok (.aload_n 0, 1) := by decide +kernel
theorem d_M_scrub_63 : decode b_M_scrub 63 = .ok (.getfield 20, 3) := by decide +kernel
theorem d_M_scrub_66 : decode b_M_scrub 66 = .ok (.iconst 1, 1) := by decide +kernel
theorem d_M_scrub_67 : decode b_M_scrub 67 = .ok (.iadd, 1) := by decide +kernel
theorem d_M_scrub_68 : decode b_M_scrub 68 = .ok (.baload, 1) := by decide +kernel
theorem d_M_scrub_69 : decode b_M_scrub 69 = .ok (.ifCond .ne 28, 3) := by decide +kernel
theorem d_M_scrub_72 : decode b_M_scrub 72 = .ok (.aload_n 0, 1) := by decide +kernel
theorem d_M_scrub_73 : decode b_M_scrub 73 = .ok (.aload_n 0, 1) := by decide +kernel
theorem d_M_scrub_74 : decode b_M_scrub 74 = .ok (.getfield 20, 3) := by decide +kernel
theorem d_M_scrub_77 : decode b_M_scrub 77 = .ok (.iconst 1, 1) := by decide +kernel
theorem d_M_scrub_78 : decode b_M_scrub 78 = .ok (.iadd, 1) := by decide +kernel
theorem d_M_scrub_79 : decode b_M_scrub 79 = .ok (.iload_n 2, 1) := by decide +kernel
theorem d_M_scrub_80 : decode b_M_scrub 80 = .ok (.invokevirtual 56, 3) := by decide +kernel
theorem d_M_scrub_83 : decode b_M_scrub 83 = .ok (.aload_n 0, 1) := by decide +kernel
theorem d_M_scrub_84 : decode b_M_scrub 84 = .ok (.aload_n 0, 1) := by decide +kernel
theorem d_M_scrub_85 : decode b_M_scrub 85 = .ok (.getfield 20, 3) := by decide +kernel
theorem d_M_scrub_88 : decode b_M_scrub 88 = .ok (.iconst 1, 1) := by decide +kernel
theorem d_M_scrub_89 : decode b_M_scrub 89 = .ok (.iadd, 1) := by decide +kernel
theorem d_M_scrub_90 : decode b_M_scrub 90 = .ok (.iload_n 2, 1) := by decide +kernel
theorem d_M_scrub_91 : decode b_M_scrub 91 = .ok (.invokevirtual 52, 3) := by decide +kernel
theorem d_M_scrub_94 : decode b_M_scrub 94 = .ok (.if_icmp .ne 7, 3) := by decide +kernel
theorem d_M_scrub_97 : decode b_M_scrub 97 = .ok (.iconst 1, 1) := by decide +kernel
theorem d_M_scrub_98 : decode b_M_scrub 98 = .ok (.goto 4, 3) := by decide +kernel
theorem d_M_scrub_101 : decode b_M_scrub 101 = .ok (.iconst 0, 1) := by decide +kernel
theorem d_M_scrub_102 : decode b_M_scrub 102 = .ok (.istore 4, 2) := by decide +kernel
theorem d_M_scrub_104 : decode b_M_scrub 104 = .ok (.iload_n 3, 1) := by decide +kernel
theorem d_M_scrub_105 : decode b_M_scrub 105 = .ok (.ifCond .eq 12, 3) := by decide +kernel
theorem d_M_scrub_108 : decode b_M_scrub 108 = .ok (.iload 4, 2) := by decide +kernel
theorem d_M_scrub_110 : decode b_M_scrub 110 = .ok (.ifCond .eq 7, 3) := by decide +kernel
theorem d_M_scrub_113 : decode b_M_scrub 113 = .ok (.iload_n 1, 1) := by decide +kernel
theorem d_M_scrub_114 : decode b_M_scrub 114 = .ok (.goto 6, 3) := by decide +kernel
theorem d_M_scrub_117 : decode b_M_scrub 117 = .ok (.iload_n 1, 1) := by decide +kernel
theorem d_M_scrub_118 : decode b_M_scrub 118 = .ok (.iconst 1, 1) := by decide +kernel
theorem d_M_scrub_119 : decode b_M_scrub 119 = .ok (.iadd, 1) := by decide +kernel
theorem d_M_scrub_120 : decode b_M_scrub 120 = .ok (.istore_n 1, 1) := by decide +kernel
theorem d_M_scrub_121 : decode b_M_scrub 121 = .ok (.iinc 2 1, 3) := by decide +kernel
theorem d_M_scrub_124 : decode b_M_scrub 124 = .ok (.goto (-120), 3) := by decide +kernel
theorem d_M_scrub_127 : decode b_M_scrub 127 = .ok (.iload_n 1, 1) := by decide +kernel
theorem d_M_scrub_128 : decode b_M_scrub 128 = .ok (.ireturn, 1) := by decide +kernel
theorem d_M_lost_0 : decode b_M_lost 0 = .ok (.iconst 0, 1) := by decide +kernel
theorem d_M_lost_1 : decode b_M_lost 1 = .ok (.istore_n 1, 1) := by decide +kernel
theorem d_M_lost_2 : decode b_M_lost 2 = .ok (.iconst 0, 1) := by decide +kernel
theorem d_M_lost_3 : decode b_M_lost 3 = .ok (.istore_n 2, 1) := by decide +kernel
theorem d_M_lost_4 : decode b_M_lost 4 = .ok (.iload_n 2, 1) := by decide +kernel
theorem d_M_lost_5 : decode b_M_lost 5 = .ok (.bipush 22, 2) := by decide +kernel
theorem d_M_lost_7 : decode b_M_lost 7 = .ok (.if_icmp .ge 26, 3) := by decide +kernel
theorem d_M_lost_10 : decode b_M_lost 10 = .ok (.aload_n 0, 1) := by decide +kernel
theorem d_M_lost_11 : decode b_M_lost 11 = .ok (.getfield 16, 3) := by decide +kernel
theorem d_M_lost_14 : decode b_M_lost 14 = .ok (.iload_n 2, 1) := by decide +kernel
theorem d_M_lost_15 : decode b_M_lost 15 = .ok (.baload, 1) := by decide +kernel
theorem d_M_lost_16 : decode b_M_lost 16 = .ok (.ifCond .eq 9, 3) := by decide +kernel
theorem d_M_lost_19 : decode b_M_lost 19 = .ok (.iload_n 1, 1) := by decide +kernel
theorem d_M_lost_20 : decode b_M_lost 20 = .ok (.iconst 1, 1) := by decide +kernel
theorem d_M_lost_21 : decode b_M_lost 21 = .ok (.iadd, 1) := by decide +kernel
theorem d_M_lost_22 : decode b_M_lost 22 = .ok (.goto 4, 3) := by decide +kernel
theorem d_M_lost_25 : decode b_M_lost 25 = .ok (.iload_n 1, 1) := by decide +kernel
theorem d_M_lost_26 : decode b_M_lost 26 = .ok (.istore_n 1, 1) := by decide +kernel
theorem d_M_lost_27 : decode b_M_lost 27 = .ok (.iinc 2 1, 3) := by decide +kernel
theorem d_M_lost_30 : decode b_M_lost 30 = .ok (.goto (-26), 3) := by decide +kernel
theorem d_M_lost_33 : decode b_M_lost 33 = .ok (.iload_n 1, 1) := by decide +kernel
theorem d_M_lost_34 : decode b_M_lost 34 = .ok (.ireturn, 1) := by decide +kernel
end
section
/-! decode rows, printed by gen_names.py -/
theorem d_L_cell_0 : decode b_L_cell 0 = .ok (.iload_n 1, 1) := by decide +kernel
theorem d_L_cell_1 : decode b_L_cell 1 = .ok (.aload_n 0, 1) := by decide +kernel
theorem d_L_cell_2 : decode b_L_cell 2 = .ok (.arraylength, 1) := by decide +kernel
theorem d_L_cell_3 : decode b_L_cell 3 = .ok (.if_icmp .ge 9, 3) := by decide +kernel
theorem d_L_cell_6 : decode b_L_cell 6 = .ok (.aload_n 0, 1) := by decide +kernel
theorem d_L_cell_7 : decode b_L_cell 7 = .ok (.iload_n 1, 1) := by decide +kernel
theorem d_L_cell_8 : decode b_L_cell 8 = .ok (.iaload, 1) := by decide +kernel
theorem d_L_cell_9 : decode b_L_cell 9 = .ok (.goto 4, 3) := by decide +kernel
theorem d_L_cell_12 : decode b_L_cell 12 = .ok (.iconst 0, 1) := by decide +kernel
theorem d_L_cell_13 : decode b_L_cell 13 = .ok (.ireturn, 1) := by decide +kernel
theorem d_L_law_0 : decode code 0 = .ok (.new 7, 3) := by decide +kernel
theorem d_L_law_3 : decode code 3 = .ok (.dup, 1) := by decide +kernel
theorem d_L_law_4 : decode code 4 = .ok (.aload_n 0, 1) := by decide +kernel
theorem d_L_law_5 : decode code 5 = .ok (.iconst 0, 1) := by decide +kernel
theorem d_L_law_6 : decode code 6 = .ok (.invokestatic 9, 3) := by decide +kernel
theorem d_L_law_9 : decode code 9 = .ok (.aload_n 0, 1) := by decide +kernel
theorem d_L_law_10 : decode code 10 = .ok (.iconst 1, 1) := by decide +kernel
theorem d_L_law_11 : decode code 11 = .ok (.invokestatic 9, 3) := by decide +kernel
theorem d_L_law_14 : decode code 14 = .ok (.invokespecial 15, 3) := by decide +kernel
theorem d_L_law_17 : decode code 17 = .ok (.astore_n 1, 1) := by decide +kernel
theorem d_L_law_18 : decode code 18 = .ok (.new 18, 3) := by decide +kernel
theorem d_L_law_21 : decode code 21 = .ok (.dup, 1) := by decide +kernel
theorem d_L_law_22 : decode code 22 = .ok (.aload_n 0, 1) := by decide +kernel
theorem d_L_law_23 : decode code 23 = .ok (.iconst 0, 1) := by decide +kernel
theorem d_L_law_24 : decode code 24 = .ok (.invokestatic 9, 3) := by decide +kernel
theorem d_L_law_27 : decode code 27 = .ok (.aload_n 0, 1) := by decide +kernel
theorem d_L_law_28 : decode code 28 = .ok (.iconst 1, 1) := by decide +kernel
theorem d_L_law_29 : decode code 29 = .ok (.invokestatic 9, 3) := by decide +kernel
theorem d_L_law_32 : decode code 32 = .ok (.invokespecial 20, 3) := by decide +kernel
theorem d_L_law_35 : decode code 35 = .ok (.astore_n 2, 1) := by decide +kernel
theorem d_L_law_36 : decode code 36 = .ok (.iconst 2, 1) := by decide +kernel
theorem d_L_law_37 : decode code 37 = .ok (.istore_n 3, 1) := by decide +kernel
theorem d_L_law_38 : decode code 38 = .ok (.iload_n 3, 1) := by decide +kernel
theorem d_L_law_39 : decode code 39 = .ok (.aload_n 0, 1) := by decide +kernel
theorem d_L_law_40 : decode code 40 = .ok (.arraylength, 1) := by decide +kernel
theorem d_L_law_41 : decode code 41 = .ok (.iconst 4, 1) := by decide +kernel
theorem d_L_law_42 : decode code 42 = .ok (.isub, 1) := by decide +kernel
theorem d_L_law_43 : decode code 43 = .ok (.if_icmp .gt 319, 3) := by decide +kernel
theorem d_L_law_46 : decode code 46 = .ok (.aload_n 0, 1) := by decide +kernel
theorem d_L_law_47 : decode code 47 = .ok (.iload_n 3, 1) := by decide +kernel
theorem d_L_law_48 : decode code 48 = .ok (.iaload, 1) := by decide +kernel
theorem d_L_law_49 : decode code 49 = .ok (.bipush 15, 2) := by decide +kernel
theorem d_L_law_51 : decode code 51 = .ok (.iand, 1) := by decide +kernel
theorem d_L_law_52 : decode code 52 = .ok (.tableswitch 304 0 9 #[56, 67, 110, 143, 166, 209, 242, 255, 278, 291], 56) := by decide +kernel
theorem d_L_law_108 : decode code 108 = .ok (.aload_n 1, 1) := by decide +kernel
theorem d_L_law_109 : decode code 109 = .ok (.invokevirtual 21, 3) := by decide +kernel
theorem d_L_law_112 : decode code 112 = .ok (.aload_n 2, 1) := by decide +kernel
theorem d_L_law_113 : decode code 113 = .ok (.invokevirtual 24, 3) := by decide +kernel
theorem d_L_law_116 : decode code 116 = .ok (.goto 240, 3) := by decide +kernel
theorem d_L_law_119 : decode code 119 = .ok (.aload_n 1, 1) := by decide +kernel
theorem d_L_law_120 : decode code 120 = .ok (.aload_n 0, 1) := by decide +kernel
theorem d_L_law_121 : decode code 121 = .ok (.iload_n 3, 1) := by decide +kernel
theorem d_L_law_122 : decode code 122 = .ok (.iconst 1, 1) := by decide +kernel
theorem d_L_law_123 : decode code 123 = .ok (.iadd, 1) := by decide +kernel
theorem d_L_law_124 : decode code 124 = .ok (.iaload, 1) := by decide +kernel
theorem d_L_law_125 : decode code 125 = .ok (.aload_n 0, 1) := by decide +kernel
theorem d_L_law_126 : decode code 126 = .ok (.iload_n 3, 1) := by decide +kernel
theorem d_L_law_127 : decode code 127 = .ok (.iconst 2, 1) := by decide +kernel
theorem d_L_law_128 : decode code 128 = .ok (.iadd, 1) := by decide +kernel
theorem d_L_law_129 : decode code 129 = .ok (.iaload, 1) := by decide +kernel
theorem d_L_law_130 : decode code 130 = .ok (.aload_n 0, 1) := by decide +kernel
theorem d_L_law_131 : decode code 131 = .ok (.iload_n 3, 1) := by decide +kernel
theorem d_L_law_132 : decode code 132 = .ok (.iconst 3, 1) := by decide +kernel
theorem d_L_law_133 : decode code 133 = .ok (.iadd, 1) := by decide +kernel
theorem d_L_law_134 : decode code 134 = .ok (.iaload, 1) := by decide +kernel
theorem d_L_law_135 : decode code 135 = .ok (.invokevirtual 25, 3) := by decide +kernel
theorem d_L_law_138 : decode code 138 = .ok (.aload_n 2, 1) := by decide +kernel
theorem d_L_law_139 : decode code 139 = .ok (.aload_n 0, 1) := by decide +kernel
theorem d_L_law_140 : decode code 140 = .ok (.iload_n 3, 1) := by decide +kernel
theorem d_L_law_141 : decode code 141 = .ok (.iconst 1, 1) := by decide +kernel
theorem d_L_law_142 : decode code 142 = .ok (.iadd, 1) := by decide +kernel
theorem d_L_law_143 : decode code 143 = .ok (.iaload, 1) := by decide +kernel
theorem d_L_law_144 : decode code 144 = .ok (.aload_n 0, 1) := by decide +kernel
theorem d_L_law_145 : decode code 145 = .ok (.iload_n 3, 1) := by decide +kernel
theorem d_L_law_146 : decode code 146 = .ok (.iconst 2, 1) := by decide +kernel
theorem d_L_law_147 : decode code 147 = .ok (.iadd, 1) := by decide +kernel
theorem d_L_law_148 : decode code 148 = .ok (.iaload, 1) := by decide +kernel
theorem d_L_law_149 : decode code 149 = .ok (.aload_n 0, 1) := by decide +kernel
theorem d_L_law_150 : decode code 150 = .ok (.iload_n 3, 1) := by decide +kernel
theorem d_L_law_151 : decode code 151 = .ok (.iconst 3, 1) := by decide +kernel
theorem d_L_law_152 : decode code 152 = .ok (.iadd, 1) := by decide +kernel
theorem d_L_law_153 : decode code 153 = .ok (.iaload, 1) := by decide +kernel
theorem d_L_law_154 : decode code 154 = .ok (.invokevirtual 29, 3) := by decide +kernel
theorem d_L_law_157 : decode code 157 = .ok (.if_icmp .eq 199, 3) := by decide +kernel
theorem d_L_law_160 : decode code 160 = .ok (.iconst 0, 1) := by decide +kernel
theorem d_L_law_161 : decode code 161 = .ok (.ireturn, 1) := by decide +kernel
theorem d_L_law_162 : decode code 162 = .ok (.aload_n 1, 1) := by decide +kernel
theorem d_L_law_163 : decode code 163 = .ok (.aload_n 0, 1) := by decide +kernel
theorem d_L_law_164 : decode code 164 = .ok (.iload_n 3, 1) := by decide +kernel
theorem d_L_law_165 : decode code 165 = .ok (.iconst 1, 1) := by decide +kernel
theorem d_L_law_166 : decode code 166 = .ok (.iadd, 1) := by decide +kernel
theorem d_L_law_167 : decode code 167 = .ok (.iaload, 1) := by decide +kernel
theorem d_L_law_168 : decode code 168 = .ok (.aload_n 0, 1) := by decide +kernel
theorem d_L_law_169 : decode code 169 = .ok (.iload_n 3, 1) := by decide +kernel
theorem d_L_law_170 : decode code 170 = .ok (.iconst 2, 1) := by decide +kernel
theorem d_L_law_171 : decode code 171 = .ok (.iadd, 1) := by decide +kernel
theorem d_L_law_172 : decode code 172 = .ok (.iaload, 1) := by decide +kernel
theorem d_L_law_173 : decode code 173 = .ok (.invokevirtual 30, 3) := by decide +kernel
theorem d_L_law_176 : decode code 176 = .ok (.aload_n 2, 1) := by decide +kernel
theorem d_L_law_177 : decode code 177 = .ok (.aload_n 0, 1) := by decide +kernel
theorem d_L_law_178 : decode code 178 = .ok (.iload_n 3, 1) := by decide +kernel
theorem d_L_law_179 : decode code 179 = .ok (.iconst 1, 1) := by decide +kernel
theorem d_L_law_180 : decode code 180 = .ok (.iadd, 1) := by decide +kernel
theorem d_L_law_181 : decode code 181 = .ok (.iaload, 1) := by decide +kernel
theorem d_L_law_182 : decode code 182 = .ok (.aload_n 0, 1) := by decide +kernel
theorem d_L_law_183 : decode code 183 = .ok (.iload_n 3, 1) := by decide +kernel
theorem d_L_law_184 : decode code 184 = .ok (.iconst 2, 1) := by decide +kernel
theorem d_L_law_185 : decode code 185 = .ok (.iadd, 1) := by decide +kernel
theorem d_L_law_186 : decode code 186 = .ok (.iaload, 1) := by decide +kernel
theorem d_L_law_187 : decode code 187 = .ok (.invokevirtual 34, 3) := by decide +kernel
theorem d_L_law_190 : decode code 190 = .ok (.if_icmp .eq 166, 3) := by decide +kernel
theorem d_L_law_193 : decode code 193 = .ok (.iconst 0, 1) := by decide +kernel
theorem d_L_law_194 : decode code 194 = .ok (.ireturn, 1) := by decide +kernel
theorem d_L_law_195 : decode code 195 = .ok (.aload_n 1, 1) := by decide +kernel
theorem d_L_law_196 : decode code 196 = .ok (.aload_n 0, 1) := by decide +kernel
theorem d_L_law_197 : decode code 197 = .ok (.iload_n 3, 1) := by decide +kernel
theorem d_L_law_198 : decode code 198 = .ok (.iconst 1, 1) := by decide +kernel
theorem d_L_law_199 : decode code 199 = .ok (.iadd, 1) := by decide +kernel
theorem d_L_law_200 : decode code 200 = .ok (.iaload, 1) := by decide +kernel
theorem d_L_law_201 : decode code 201 = .ok (.invokevirtual 35, 3) := by decide +kernel
theorem d_L_law_204 : decode code 204 = .ok (.aload_n 2, 1) := by decide +kernel
theorem d_L_law_205 : decode code 205 = .ok (.aload_n 0, 1) := by decide +kernel
theorem d_L_law_206 : decode code 206 = .ok (.iload_n 3, 1) := by decide +kernel
theorem d_L_law_207 : decode code 207 = .ok (.iconst 1, 1) := by decide +kernel
theorem d_L_law_208 : decode code 208 = .ok (.iadd, 1) := by decide +kernel
theorem d_L_law_209 : decode code 209 = .ok (.iaload, 1) := by decide +kernel
theorem d_L_law_210 : decode code 210 = .ok (.invokevirtual 39, 3) := by decide +kernel
theorem d_L_law_213 : decode code 213 = .ok (.if_icmp .eq 143, 3) := by decide +kernel
theorem d_L_law_216 : decode code 216 = .ok (.iconst 0, 1) := by decide +kernel
theorem d_L_law_217 : decode code 217 = .ok (.ireturn, 1) := by decide +kernel
theorem d_L_law_218 : decode code 218 = .ok (.aload_n 1, 1) := by decide +kernel
theorem d_L_law_219 : decode code 219 = .ok (.aload_n 0, 1) := by decide +kernel
theorem d_L_law_220 : decode code 220 = .ok (.iload_n 3, 1) := by decide +kernel
theorem d_L_law_221 : decode code 221 = .ok (.iconst 1, 1) := by decide +kernel
theorem d_L_law_222 : decode code 222 = .ok (.iadd, 1) := by decide +kernel
theorem d_L_law_223 : decode code 223 = .ok (.iaload, 1) := by decide +kernel
theorem d_L_law_224 : decode code 224 = .ok (.aload_n 0, 1) := by decide +kernel
theorem d_L_law_225 : decode code 225 = .ok (.iload_n 3, 1) := by decide +kernel
theorem d_L_law_226 : decode code 226 = .ok (.iconst 2, 1) := by decide +kernel
theorem d_L_law_227 : decode code 227 = .ok (.iadd, 1) := by decide +kernel
theorem d_L_law_228 : decode code 228 = .ok (.iaload, 1) := by decide +kernel
theorem d_L_law_229 : decode code 229 = .ok (.aload_n 0, 1) := by decide +kernel
theorem d_L_law_230 : decode code 230 = .ok (.iload_n 3, 1) := by decide +kernel
theorem d_L_law_231 : decode code 231 = .ok (.iconst 3, 1) := by decide +kernel
theorem d_L_law_232 : decode code 232 = .ok (.iadd, 1) := by decide +kernel
theorem d_L_law_233 : decode code 233 = .ok (.iaload, 1) := by decide +kernel
theorem d_L_law_234 : decode code 234 = .ok (.invokevirtual 40, 3) := by decide +kernel
theorem d_L_law_237 : decode code 237 = .ok (.aload_n 2, 1) := by decide +kernel
theorem d_L_law_238 : decode code 238 = .ok (.aload_n 0, 1) := by decide +kernel
theorem d_L_law_239 : decode code 239 = .ok (.iload_n 3, 1) := by decide +kernel
theorem d_L_law_240 : decode code 240 = .ok (.iconst 1, 1) := by decide +kernel
theorem d_L_law_241 : decode code 241 = .ok (.iadd, 1) := by decide +kernel
theorem d_L_law_242 : decode code 242 = .ok (.iaload, 1) := by decide +kernel
theorem d_L_law_243 : decode code 243 = .ok (.aload_n 0, 1) := by decide +kernel
theorem d_L_law_244 : decode code 244 = .ok (.iload_n 3, 1) := by decide +kernel
theorem d_L_law_245 : decode code 245 = .ok (.iconst 2, 1) := by decide +kernel
theorem d_L_law_246 : decode code 246 = .ok (.iadd, 1) := by decide +kernel
theorem d_L_law_247 : decode code 247 = .ok (.iaload, 1) := by decide +kernel
theorem d_L_law_248 : decode code 248 = .ok (.aload_n 0, 1) := by decide +kernel
theorem d_L_law_249 : decode code 249 = .ok (.iload_n 3, 1) := by decide +kernel
theorem d_L_law_250 : decode code 250 = .ok (.iconst 3, 1) := by decide +kernel
theorem d_L_law_251 : decode code 251 = .ok (.iadd, 1) := by decide +kernel
theorem d_L_law_252 : decode code 252 = .ok (.iaload, 1) := by decide +kernel
theorem d_L_law_253 : decode code 253 = .ok (.invokevirtual 43, 3) := by decide +kernel
theorem d_L_law_256 : decode code 256 = .ok (.if_icmp .eq 100, 3) := by decide +kernel
theorem d_L_law_259 : decode code 259 = .ok (.iconst 0, 1) := by decide +kernel
theorem d_L_law_260 : decode code 260 = .ok (.ireturn, 1) := by decide +kernel
theorem d_L_law_261 : decode code 261 = .ok (.aload_n 1, 1) := by decide +kernel
theorem d_L_law_262 : decode code 262 = .ok (.aload_n 0, 1) := by decide +kernel
theorem d_L_law_263 : decode code 263 = .ok (.iload_n 3, 1) := by decide +kernel
theorem d_L_law_264 : decode code 264 = .ok (.iconst 1, 1) := by decide +kernel
theorem d_L_law_265 : decode code 265 = .ok (.iadd, 1) := by decide +kernel
theorem d_L_law_266 : decode code 266 = .ok (.iaload, 1) := by decide +kernel
theorem d_L_law_267 : decode code 267 = .ok (.aload_n 0, 1) := by decide +kernel
theorem d_L_law_268 : decode code 268 = .ok (.iload_n 3, 1) := by decide +kernel
theorem d_L_law_269 : decode code 269 = .ok (.iconst 2, 1) := by decide +kernel
theorem d_L_law_270 : decode code 270 = .ok (.iadd, 1) := by decide +kernel
theorem d_L_law_271 : decode code 271 = .ok (.iaload, 1) := by decide +kernel
theorem d_L_law_272 : decode code 272 = .ok (.invokevirtual 44, 3) := by decide +kernel
theorem d_L_law_275 : decode code 275 = .ok (.aload_n 2, 1) := by decide +kernel
theorem d_L_law_276 : decode code 276 = .ok (.aload_n 0, 1) := by decide +kernel
theorem d_L_law_277 : decode code 277 = .ok (.iload_n 3, 1) := by decide +kernel
theorem d_L_law_278 : decode code 278 = .ok (.iconst 1, 1) := by decide +kernel
theorem d_L_law_279 : decode code 279 = .ok (.iadd, 1) := by decide +kernel
theorem d_L_law_280 : decode code 280 = .ok (.iaload, 1) := by decide +kernel
theorem d_L_law_281 : decode code 281 = .ok (.aload_n 0, 1) := by decide +kernel
theorem d_L_law_282 : decode code 282 = .ok (.iload_n 3, 1) := by decide +kernel
theorem d_L_law_283 : decode code 283 = .ok (.iconst 2, 1) := by decide +kernel
theorem d_L_law_284 : decode code 284 = .ok (.iadd, 1) := by decide +kernel
theorem d_L_law_285 : decode code 285 = .ok (.iaload, 1) := by decide +kernel
theorem d_L_law_286 : decode code 286 = .ok (.invokevirtual 47, 3) := by decide +kernel
theorem d_L_law_289 : decode code 289 = .ok (.if_icmp .eq 67, 3) := by decide +kernel
theorem d_L_law_292 : decode code 292 = .ok (.iconst 0, 1) := by decide +kernel
theorem d_L_law_293 : decode code 293 = .ok (.ireturn, 1) := by decide +kernel
theorem d_L_law_294 : decode code 294 = .ok (.aload_n 1, 1) := by decide +kernel
theorem d_L_law_295 : decode code 295 = .ok (.invokevirtual 48, 3) := by decide +kernel
theorem d_L_law_298 : decode code 298 = .ok (.aload_n 2, 1) := by decide +kernel
theorem d_L_law_299 : decode code 299 = .ok (.invokevirtual 52, 3) := by decide +kernel
theorem d_L_law_302 : decode code 302 = .ok (.if_icmp .eq 54, 3) := by decide +kernel
theorem d_L_law_305 : decode code 305 = .ok (.iconst 0, 1) := by decide +kernel
theorem d_L_law_306 : decode code 306 = .ok (.ireturn, 1) := by decide +kernel
theorem d_L_law_307 : decode code 307 = .ok (.aload_n 1, 1) := by decide +kernel
theorem d_L_law_308 : decode code 308 = .ok (.aload_n 0, 1) := by decide +kernel
theorem d_L_law_309 : decode code 309 = .ok (.iload_n 3, 1) := by decide +kernel
theorem d_L_law_310 : decode code 310 = .ok (.iconst 1, 1) := by decide +kernel
theorem d_L_law_311 : decode code 311 = .ok (.iadd, 1) := by decide +kernel
theorem d_L_law_312 : decode code 312 = .ok (.iaload, 1) := by decide +kernel
theorem d_L_law_313 : decode code 313 = .ok (.invokevirtual 53, 3) := by decide +kernel
theorem d_L_law_316 : decode code 316 = .ok (.aload_n 2, 1) := by decide +kernel
theorem d_L_law_317 : decode code 317 = .ok (.aload_n 0, 1) := by decide +kernel
theorem d_L_law_318 : decode code 318 = .ok (.iload_n 3, 1) := by decide +kernel
theorem d_L_law_319 : decode code 319 = .ok (.iconst 1, 1) := by decide +kernel
theorem d_L_law_320 : decode code 320 = .ok (.iadd, 1) := by decide +kernel
theorem d_L_law_321 : decode code 321 = .ok (.iaload, 1) := by decide +kernel
theorem d_L_law_322 : decode code 322 = .ok (.invokevirtual 56, 3) := by decide +kernel
theorem d_L_law_325 : decode code 325 = .ok (.if_icmp .eq 31, 3) := by decide +kernel
theorem d_L_law_328 : decode code 328 = .ok (.iconst 0, 1) := by decide +kernel
theorem d_L_law_329 : decode code 329 = .ok (.ireturn, 1) := by decide +kernel
theorem d_L_law_330 : decode code 330 = .ok (.aload_n 1, 1) := by decide +kernel
theorem d_L_law_331 : decode code 331 = .ok (.invokevirtual 57, 3) := by decide +kernel
theorem d_L_law_334 : decode code 334 = .ok (.aload_n 2, 1) := by decide +kernel
theorem d_L_law_335 : decode code 335 = .ok (.invokevirtual 60, 3) := by decide +kernel
theorem d_L_law_338 : decode code 338 = .ok (.if_icmp .eq 18, 3) := by decide +kernel
theorem d_L_law_341 : decode code 341 = .ok (.iconst 0, 1) := by decide +kernel
theorem d_L_law_342 : decode code 342 = .ok (.ireturn, 1) := by decide +kernel
theorem d_L_law_343 : decode code 343 = .ok (.aload_n 1, 1) := by decide +kernel
theorem d_L_law_344 : decode code 344 = .ok (.invokevirtual 61, 3) := by decide +kernel
theorem d_L_law_347 : decode code 347 = .ok (.aload_n 2, 1) := by decide +kernel
theorem d_L_law_348 : decode code 348 = .ok (.invokevirtual 64, 3) := by decide +kernel
theorem d_L_law_351 : decode code 351 = .ok (.if_icmp .eq 5, 3) := by decide +kernel
theorem d_L_law_354 : decode code 354 = .ok (.iconst 0, 1) := by decide +kernel
theorem d_L_law_355 : decode code 355 = .ok (.ireturn, 1) := by decide +kernel
theorem d_L_law_356 : decode code 356 = .ok (.iinc 3 4, 3) := by decide +kernel
theorem d_L_law_359 : decode code 359 = .ok (.goto (-321), 3) := by decide +kernel
theorem d_L_law_362 : decode code 362 = .ok (.iconst 1, 1) := by decide +kernel
theorem d_L_law_363 : decode code 363 = .ok (.ireturn, 1) := by decide +kernel
end
section
/-! PART 08: rules: one instruction each, numbers as nI n; entry and call of a method (printed by gen_rules.py) -/
abbrev wX (q k : Nat → Nat) (d bl : Nat) (rd : Int32) (ex lg ce de : Nat → Int32) : va_W := [(q 0, .inr (0, [.int (nI d), .int (nI bl), .ref (q 1), .ref (q 2), .ref (q 3), .ref (q 4), .int rd])), (q 1, .inl (k 1, 510, .inl ex)), (q 2, .inl (k 2, 256, .inl lg)), (q 3, .inl (k 3, 880, .inl ce)), (q 4, .inl (k 4, 22, .inl de))]
abbrev kX (k : Nat → Nat) : List (ClassId × FieldType) := [(k 1, .int), (k 2, .int), (k 3, .int), (k 4, .boolean)]
abbrev wM (q k : Nat → Nat) (d bl : Nat) (rd : Int32) (mp kp fl : Nat → Int32) : va_W := [(q 0, .inr (1, [.int (nI d), .int (nI bl), .int rd, .ref (q 1), .ref (q 2), .ref (q 3)])), (q 1, .inl (k 1, 800, .inl mp)), (q 2, .inl (k 2, 880, .inl kp)), (q 3, .inl (k 3, 22, .inl fl))]
abbrev kM (k : Nat → Nat) : List (ClassId × FieldType) := [(k 1, .int), (k 2, .int), (k 3, .boolean)]
abbrev rmL (n mc ms : Nat) : Room := { frames := n, cells := mc, slots := ms, locals := 25 * n }
section R8
variable {p : Program} {l : Launch} {e : Env} {R : Room} {s : State} {m : MethodId} {args : Array Value} {below : List Frame} {meth : Method} {c : Code} {H H0 : Heap} {locs : List Loc} {cells slots nL : Nat} {Q : State → Prop}
variable {cc : ByteArray} {pc : Nat} {ls : Array Slot} {rest : List Value} {D : va_G} {A : Nat → Prop} {own : String}
variable {q k : Nat → Nat} {d bl : Nat} {rd : Int32} {ex lg ce de mp kp fl : Nat → Int32}
theorem lv_eq {x y : Int32} (h : x = y) (kk : W p l e R s m args below meth c H locs cells slots Q (F0 m pc ls (.int y :: rest))) : W p l e R s m args below meth c H locs cells slots Q (F0 m pc ls (.int x :: rest)) := by subst h; exact kk
theorem bn_ge (C : CallFix p m c cc nL s args tb own) {a b : Nat} {off : Int} {tgt : Nat} (hdg : decode cc pc = .ok (.if_icmp .ge off, 3)) (ht : (pc : Int) + off = (tgt : Int)) (ha : a < 2 ^ 31) (hb : b < 2 ^ 31) (kt : b ≤ a → W p l e R s m args below meth c H locs cells slots Q (F0 m tgt ls rest)) (kf : a < b → W p l e R s m args below meth c H locs cells slots Q (F0 m (pc + 3) ls rest)) : W p l e R s m args below meth c H locs cells slots Q (F0 m pc ls (.int (nI b) :: .int (nI a) :: rest)) := lv_icmp_ge C.1 C.2.1 hdg ht (fun h => kt ((nI_leI hb ha).mp h)) (fun h => kf (Nat.lt_of_not_le (fun z => h ((nI_leI hb ha).mpr z))))
theorem bn_le (C : CallFix p m c cc nL s args tb own) {a b : Nat} {off : Int} {tgt : Nat} (hdg : decode cc pc = .ok (.if_icmp .le off, 3)) (ht : (pc : Int) + off = (tgt : Int)) (ha : a < 2 ^ 31) (hb : b < 2 ^ 31) (kt : a ≤ b → W p l e R s m args below meth c H locs cells slots Q (F0 m tgt ls rest)) (kf : b < a → W p l e R s m args below meth c H locs cells slots Q (F0 m (pc + 3) ls rest)) : W p l e R s m args below meth c H locs cells slots Q (F0 m pc ls (.int (nI b) :: .int (nI a) :: rest)) := lv_icmp_le C.1 C.2.1 hdg ht (fun h => kt ((nI_leI ha hb).mp h)) (fun h => kf (Nat.lt_of_not_le (fun z => h ((nI_leI ha hb).mpr z))))
theorem bn_gt (C : CallFix p m c cc nL s args tb own) {a b : Nat} {off : Int} {tgt : Nat} (hdg : decode cc pc = .ok (.if_icmp .gt off, 3)) (ht : (pc : Int) + off = (tgt : Int)) (ha : a < 2 ^ 31) (hb : b < 2 ^ 31) (kt : b < a → W p l e R s m args below meth c H locs cells slots Q (F0 m tgt ls rest)) (kf : a ≤ b → W p l e R s m args below meth c H locs cells slots Q (F0 m (pc + 3) ls rest)) : W p l e R s m args below meth c H locs cells slots Q (F0 m pc ls (.int (nI b) :: .int (nI a) :: rest)) := lv_icmp_gt C.1 C.2.1 hdg ht (fun h => kt ((nI_ltI hb ha).mp h)) (fun h => kf (Nat.le_of_not_lt (fun z => h ((nI_ltI hb ha).mpr z))))
theorem bn_eq (C : CallFix p m c cc nL s args tb own) {a b : Nat} {off : Int} {tgt : Nat} (hdg : decode cc pc = .ok (.if_icmp .eq off, 3)) (ht : (pc : Int) + off = (tgt : Int)) (ha : a < 2 ^ 31) (hb : b < 2 ^ 31) (kt : a = b → W p l e R s m args below meth c H locs cells slots Q (F0 m tgt ls rest)) (kf : a ≠ b → W p l e R s m args below meth c H locs cells slots Q (F0 m (pc + 3) ls rest)) : W p l e R s m args below meth c H locs cells slots Q (F0 m pc ls (.int (nI b) :: .int (nI a) :: rest)) := lv_icmp_eq C.1 C.2.1 hdg ht (fun h => kt ((nI_eq ha hb).mp h)) (fun h => kf ((fun z => h ((nI_eq ha hb).mpr z))))
theorem bn_ne (C : CallFix p m c cc nL s args tb own) {a b : Nat} {off : Int} {tgt : Nat} (hdg : decode cc pc = .ok (.if_icmp .ne off, 3)) (ht : (pc : Int) + off = (tgt : Int)) (ha : a < 2 ^ 31) (hb : b < 2 ^ 31) (kt : a ≠ b → W p l e R s m args below meth c H locs cells slots Q (F0 m tgt ls rest)) (kf : a = b → W p l e R s m args below meth c H locs cells slots Q (F0 m (pc + 3) ls rest)) : W p l e R s m args below meth c H locs cells slots Q (F0 m pc ls (.int (nI b) :: .int (nI a) :: rest)) := lv_icmp_ne C.1 C.2.1 hdg ht (fun h => kt ((fun z => h ((nI_eq ha hb).mpr z)))) (fun h => kf ((nI_eq ha hb).mp h))
theorem gx_d (C : CallFix p m c cc nL s args tb "TwoLost") (hK : va_K D classes (kX k) s) (hP : va_P D classes (wX q k d bl rd ex lg ce de) H) (hdg : decode cc pc = .ok (.getfield 27, 3)) (kk : W p l e R s m args below meth c H locs cells slots Q (F0 m (pc + 3) ls (.int (nI d) :: rest))) : W p l e R s m args below meth c H locs cells slots Q (F0 m pc ls (.ref (q 0) :: rest)) := va_get (ci := 0) (C := R_X) (T := F_X) (N := 7) C.1 C.2.1 C.2.2.2.2 i_X C.2.2.2.1 hK hP 0 rfl rfl 0 (by decide) (C.2.2.2.2 _ k_14) (fun _ h => h) rfl hdg kk
theorem gx_bl (C : CallFix p m c cc nL s args tb "TwoLost") (hK : va_K D classes (kX k) s) (hP : va_P D classes (wX q k d bl rd ex lg ce de) H) (hdg : decode cc pc = .ok (.getfield 31, 3)) (kk : W p l e R s m args below meth c H locs cells slots Q (F0 m (pc + 3) ls (.int (nI bl) :: rest))) : W p l e R s m args below meth c H locs cells slots Q (F0 m pc ls (.ref (q 0) :: rest)) := va_get (ci := 0) (C := R_X) (T := F_X) (N := 7) C.1 C.2.1 C.2.2.2.2 i_X C.2.2.2.1 hK hP 0 rfl rfl 1 (by decide) (C.2.2.2.2 _ k_15) (fun _ h => h) rfl hdg kk
theorem gx_ex (C : CallFix p m c cc nL s args tb "TwoLost") (hK : va_K D classes (kX k) s) (hP : va_P D classes (wX q k d bl rd ex lg ce de) H) (hdg : decode cc pc = .ok (.getfield 7, 3)) (kk : W p l e R s m args below meth c H locs cells slots Q (F0 m (pc + 3) ls (.ref (q 1) :: rest))) : W p l e R s m args below meth c H locs cells slots Q (F0 m pc ls (.ref (q 0) :: rest)) := va_get (ci := 0) (C := R_X) (T := F_X) (N := 7) C.1 C.2.1 C.2.2.2.2 i_X C.2.2.2.1 hK hP 0 rfl rfl 2 (by decide) (C.2.2.2.2 _ k_16) (fun _ h => h) rfl hdg kk
theorem gx_lg (C : CallFix p m c cc nL s args tb "TwoLost") (hK : va_K D classes (kX k) s) (hP : va_P D classes (wX q k d bl rd ex lg ce de) H) (hdg : decode cc pc = .ok (.getfield 13, 3)) (kk : W p l e R s m args below meth c H locs cells slots Q (F0 m (pc + 3) ls (.ref (q 2) :: rest))) : W p l e R s m args below meth c H locs cells slots Q (F0 m pc ls (.ref (q 0) :: rest)) := va_get (ci := 0) (C := R_X) (T := F_X) (N := 7) C.1 C.2.1 C.2.2.2.2 i_X C.2.2.2.1 hK hP 0 rfl rfl 3 (by decide) (C.2.2.2.2 _ k_17) (fun _ h => h) rfl hdg kk
theorem gx_ce (C : CallFix p m c cc nL s args tb "TwoLost") (hK : va_K D classes (kX k) s) (hP : va_P D classes (wX q k d bl rd ex lg ce de) H) (hdg : decode cc pc = .ok (.getfield 16, 3)) (kk : W p l e R s m args below meth c H locs cells slots Q (F0 m (pc + 3) ls (.ref (q 3) :: rest))) : W p l e R s m args below meth c H locs cells slots Q (F0 m pc ls (.ref (q 0) :: rest)) := va_get (ci := 0) (C := R_X) (T := F_X) (N := 7) C.1 C.2.1 C.2.2.2.2 i_X C.2.2.2.1 hK hP 0 rfl rfl 4 (by decide) (C.2.2.2.2 _ k_18) (fun _ h => h) rfl hdg kk
theorem gx_de (C : CallFix p m c cc nL s args tb "TwoLost") (hK : va_K D classes (kX k) s) (hP : va_P D classes (wX q k d bl rd ex lg ce de) H) (hdg : decode cc pc = .ok (.getfield 19, 3)) (kk : W p l e R s m args below meth c H locs cells slots Q (F0 m (pc + 3) ls (.ref (q 4) :: rest))) : W p l e R s m args below meth c H locs cells slots Q (F0 m pc ls (.ref (q 0) :: rest)) := va_get (ci := 0) (C := R_X) (T := F_X) (N := 7) C.1 C.2.1 C.2.2.2.2 i_X C.2.2.2.1 hK hP 0 rfl rfl 5 (by decide) (C.2.2.2.2 _ k_19) (fun _ h => h) rfl hdg kk
theorem gx_rd (C : CallFix p m c cc nL s args tb "TwoLost") (hK : va_K D classes (kX k) s) (hP : va_P D classes (wX q k d bl rd ex lg ce de) H) (hdg : decode cc pc = .ok (.getfield 34, 3)) (kk : W p l e R s m args below meth c H locs cells slots Q (F0 m (pc + 3) ls (.int rd :: rest))) : W p l e R s m args below meth c H locs cells slots Q (F0 m pc ls (.ref (q 0) :: rest)) := va_get (ci := 0) (C := R_X) (T := F_X) (N := 7) C.1 C.2.1 C.2.2.2.2 i_X C.2.2.2.1 hK hP 0 rfl rfl 6 (by decide) (C.2.2.2.2 _ k_20) (fun _ h => h) rfl hdg kk
theorem gm_d (C : CallFix p m c cc nL s args tb "TwoLostModel") (hK : va_K D classes (kM k) s) (hP : va_P D classes (wM q k d bl rd mp kp fl) H) (hdg : decode cc pc = .ok (.getfield 20, 3)) (kk : W p l e R s m args below meth c H locs cells slots Q (F0 m (pc + 3) ls (.int (nI d) :: rest))) : W p l e R s m args below meth c H locs cells slots Q (F0 m pc ls (.ref (q 0) :: rest)) := va_get (ci := 1) (C := R_M) (T := F_M) (N := 6) C.1 C.2.1 C.2.2.2.2 i_M C.2.2.2.1 hK hP 0 rfl rfl 0 (by decide) (C.2.2.2.2 _ k_133) (fun _ h => h) rfl hdg kk
theorem gm_bl (C : CallFix p m c cc nL s args tb "TwoLostModel") (hK : va_K D classes (kM k) s) (hP : va_P D classes (wM q k d bl rd mp kp fl) H) (hdg : decode cc pc = .ok (.getfield 24, 3)) (kk : W p l e R s m args below meth c H locs cells slots Q (F0 m (pc + 3) ls (.int (nI bl) :: rest))) : W p l e R s m args below meth c H locs cells slots Q (F0 m pc ls (.ref (q 0) :: rest)) := va_get (ci := 1) (C := R_M) (T := F_M) (N := 6) C.1 C.2.1 C.2.2.2.2 i_M C.2.2.2.1 hK hP 0 rfl rfl 1 (by decide) (C.2.2.2.2 _ k_134) (fun _ h => h) rfl hdg kk
theorem gm_rd (C : CallFix p m c cc nL s args tb "TwoLostModel") (hK : va_K D classes (kM k) s) (hP : va_P D classes (wM q k d bl rd mp kp fl) H) (hdg : decode cc pc = .ok (.getfield 27, 3)) (kk : W p l e R s m args below meth c H locs cells slots Q (F0 m (pc + 3) ls (.int rd :: rest))) : W p l e R s m args below meth c H locs cells slots Q (F0 m pc ls (.ref (q 0) :: rest)) := va_get (ci := 1) (C := R_M) (T := F_M) (N := 6) C.1 C.2.1 C.2.2.2.2 i_M C.2.2.2.1 hK hP 0 rfl rfl 2 (by decide) (C.2.2.2.2 _ k_135) (fun _ h => h) rfl hdg kk
theorem gm_mp (C : CallFix p m c cc nL s args tb "TwoLostModel") (hK : va_K D classes (kM k) s) (hP : va_P D classes (wM q k d bl rd mp kp fl) H) (hdg : decode cc pc = .ok (.getfield 7, 3)) (kk : W p l e R s m args below meth c H locs cells slots Q (F0 m (pc + 3) ls (.ref (q 1) :: rest))) : W p l e R s m args below meth c H locs cells slots Q (F0 m pc ls (.ref (q 0) :: rest)) := va_get (ci := 1) (C := R_M) (T := F_M) (N := 6) C.1 C.2.1 C.2.2.2.2 i_M C.2.2.2.1 hK hP 0 rfl rfl 3 (by decide) (C.2.2.2.2 _ k_136) (fun _ h => h) rfl hdg kk
theorem gm_kp (C : CallFix p m c cc nL s args tb "TwoLostModel") (hK : va_K D classes (kM k) s) (hP : va_P D classes (wM q k d bl rd mp kp fl) H) (hdg : decode cc pc = .ok (.getfield 13, 3)) (kk : W p l e R s m args below meth c H locs cells slots Q (F0 m (pc + 3) ls (.ref (q 2) :: rest))) : W p l e R s m args below meth c H locs cells slots Q (F0 m pc ls (.ref (q 0) :: rest)) := va_get (ci := 1) (C := R_M) (T := F_M) (N := 6) C.1 C.2.1 C.2.2.2.2 i_M C.2.2.2.1 hK hP 0 rfl rfl 4 (by decide) (C.2.2.2.2 _ k_137) (fun _ h => h) rfl hdg kk
theorem gm_fl (C : CallFix p m c cc nL s args tb "TwoLostModel") (hK : va_K D classes (kM k) s) (hP : va_P D classes (wM q k d bl rd mp kp fl) H) (hdg : decode cc pc = .ok (.getfield 16, 3)) (kk : W p l e R s m args below meth c H locs cells slots Q (F0 m (pc + 3) ls (.ref (q 3) :: rest))) : W p l e R s m args below meth c H locs cells slots Q (F0 m pc ls (.ref (q 0) :: rest)) := va_get (ci := 1) (C := R_M) (T := F_M) (N := 6) C.1 C.2.1 C.2.2.2.2 i_M C.2.2.2.1 hK hP 0 rfl rfl 5 (by decide) (C.2.2.2.2 _ k_138) (fun _ h => h) rfl hdg kk
theorem xl_ex (C : CallFix p m c cc nL s args tb own) (hK : va_K D classes (kX k) s) (hP : va_P D classes (wX q k d bl rd ex lg ce de) H) {j : Nat} (hj : j < 510) (hdg : decode cc pc = .ok (.iaload, 1)) (kk : W p l e R s m args below meth c H locs cells slots Q (F0 m (pc + 1) ls (.int (ex j) :: rest))) : W p l e R s m args below meth c H locs cells slots Q (F0 m pc ls (.int (nI j) :: .ref (q 1) :: rest)) := va_iald C.1 C.2.1 hK hP 1 0 rfl rfl (vp_in_nI hj (by omega)) hdg (by rw [nI_clamp (by omega)]; exact kk)
theorem xl_lg (C : CallFix p m c cc nL s args tb own) (hK : va_K D classes (kX k) s) (hP : va_P D classes (wX q k d bl rd ex lg ce de) H) {j : Nat} (hj : j < 256) (hdg : decode cc pc = .ok (.iaload, 1)) (kk : W p l e R s m args below meth c H locs cells slots Q (F0 m (pc + 1) ls (.int (lg j) :: rest))) : W p l e R s m args below meth c H locs cells slots Q (F0 m pc ls (.int (nI j) :: .ref (q 2) :: rest)) := va_iald C.1 C.2.1 hK hP 2 1 rfl rfl (vp_in_nI hj (by omega)) hdg (by rw [nI_clamp (by omega)]; exact kk)
theorem xl_ce (C : CallFix p m c cc nL s args tb own) (hK : va_K D classes (kX k) s) (hP : va_P D classes (wX q k d bl rd ex lg ce de) H) {j : Nat} (hj : j < 880) (hdg : decode cc pc = .ok (.iaload, 1)) (kk : W p l e R s m args below meth c H locs cells slots Q (F0 m (pc + 1) ls (.int (ce j) :: rest))) : W p l e R s m args below meth c H locs cells slots Q (F0 m pc ls (.int (nI j) :: .ref (q 3) :: rest)) := va_iald C.1 C.2.1 hK hP 3 2 rfl rfl (vp_in_nI hj (by omega)) hdg (by rw [nI_clamp (by omega)]; exact kk)
theorem xl_de (C : CallFix p m c cc nL s args tb own) (hK : va_K D classes (kX k) s) (hP : va_P D classes (wX q k d bl rd ex lg ce de) H) {j : Nat} (hj : j < 22) (hdg : decode cc pc = .ok (.baload, 1)) (kk : W p l e R s m args below meth c H locs cells slots Q (F0 m (pc + 1) ls (.int (de j) :: rest))) : W p l e R s m args below meth c H locs cells slots Q (F0 m pc ls (.int (nI j) :: .ref (q 4) :: rest)) := va_zald C.1 C.2.1 hK hP 4 3 rfl rfl (vp_in_nI hj (by omega)) hdg (by rw [nI_clamp (by omega)]; exact kk)
theorem ml_mp (C : CallFix p m c cc nL s args tb own) (hK : va_K D classes (kM k) s) (hP : va_P D classes (wM q k d bl rd mp kp fl) H) {j : Nat} (hj : j < 800) (hdg : decode cc pc = .ok (.iaload, 1)) (kk : W p l e R s m args below meth c H locs cells slots Q (F0 m (pc + 1) ls (.int (mp j) :: rest))) : W p l e R s m args below meth c H locs cells slots Q (F0 m pc ls (.int (nI j) :: .ref (q 1) :: rest)) := va_iald C.1 C.2.1 hK hP 1 0 rfl rfl (vp_in_nI hj (by omega)) hdg (by rw [nI_clamp (by omega)]; exact kk)
theorem ml_kp (C : CallFix p m c cc nL s args tb own) (hK : va_K D classes (kM k) s) (hP : va_P D classes (wM q k d bl rd mp kp fl) H) {j : Nat} (hj : j < 880) (hdg : decode cc pc = .ok (.iaload, 1)) (kk : W p l e R s m args below meth c H locs cells slots Q (F0 m (pc + 1) ls (.int (kp j) :: rest))) : W p l e R s m args below meth c H locs cells slots Q (F0 m pc ls (.int (nI j) :: .ref (q 2) :: rest)) := va_iald C.1 C.2.1 hK hP 2 1 rfl rfl (vp_in_nI hj (by omega)) hdg (by rw [nI_clamp (by omega)]; exact kk)
theorem ml_fl (C : CallFix p m c cc nL s args tb own) (hK : va_K D classes (kM k) s) (hP : va_P D classes (wM q k d bl rd mp kp fl) H) {j : Nat} (hj : j < 22) (hdg : decode cc pc = .ok (.baload, 1)) (kk : W p l e R s m args below meth c H locs cells slots Q (F0 m (pc + 1) ls (.int (fl j) :: rest))) : W p l e R s m args below meth c H locs cells slots Q (F0 m pc ls (.int (nI j) :: .ref (q 3) :: rest)) := va_zald C.1 C.2.1 hK hP 3 2 rfl rfl (vp_in_nI hj (by omega)) hdg (by rw [nI_clamp (by omega)]; exact kk)
theorem xs_ex (C : CallFix p m c cc nL s args tb own) (hK : va_K D classes (kX k) s) (hP : va_P D classes (wX q k d bl rd ex lg ce de) H) (hD : va_D A (wX q k d bl rd ex lg ce de)) (hS : va_S A H0 H locs) {j : Nat} {x : Int32} (hj : j < 510) (hdg : decode cc pc = .ok (.iastore, 1)) (kk : ∀ (H1 : Heap) (locs1 : List Loc), va_P D classes (wX q k d bl rd (upd ex j x) lg ce de) H1 → va_D A (wX q k d bl rd (upd ex j x) lg ce de) → va_S A H0 H1 locs1 → W p l e R s m args below meth c H1 locs1 cells slots Q (F0 m (pc + 1) ls rest)) : W p l e R s m args below meth c H locs cells slots Q (F0 m pc ls (.int x :: .int (nI j) :: .ref (q 1) :: rest)) := va_iast C.1 C.2.1 hK hP hD hS 1 0 rfl rfl (vp_in_nI hj (by omega)) hdg (fun H1 locs1 h1 h2 h3 => by rw [nI_clamp (by omega)] at h1 h2; exact kk H1 locs1 h1 h2 h3)
theorem xs_lg (C : CallFix p m c cc nL s args tb own) (hK : va_K D classes (kX k) s) (hP : va_P D classes (wX q k d bl rd ex lg ce de) H) (hD : va_D A (wX q k d bl rd ex lg ce de)) (hS : va_S A H0 H locs) {j : Nat} {x : Int32} (hj : j < 256) (hdg : decode cc pc = .ok (.iastore, 1)) (kk : ∀ (H1 : Heap) (locs1 : List Loc), va_P D classes (wX q k d bl rd ex (upd lg j x) ce de) H1 → va_D A (wX q k d bl rd ex (upd lg j x) ce de) → va_S A H0 H1 locs1 → W p l e R s m args below meth c H1 locs1 cells slots Q (F0 m (pc + 1) ls rest)) : W p l e R s m args below meth c H locs cells slots Q (F0 m pc ls (.int x :: .int (nI j) :: .ref (q 2) :: rest)) := va_iast C.1 C.2.1 hK hP hD hS 2 1 rfl rfl (vp_in_nI hj (by omega)) hdg (fun H1 locs1 h1 h2 h3 => by rw [nI_clamp (by omega)] at h1 h2; exact kk H1 locs1 h1 h2 h3)
theorem xs_ce (C : CallFix p m c cc nL s args tb own) (hK : va_K D classes (kX k) s) (hP : va_P D classes (wX q k d bl rd ex lg ce de) H) (hD : va_D A (wX q k d bl rd ex lg ce de)) (hS : va_S A H0 H locs) {j : Nat} {x : Int32} (hj : j < 880) (hdg : decode cc pc = .ok (.iastore, 1)) (kk : ∀ (H1 : Heap) (locs1 : List Loc), va_P D classes (wX q k d bl rd ex lg (upd ce j x) de) H1 → va_D A (wX q k d bl rd ex lg (upd ce j x) de) → va_S A H0 H1 locs1 → W p l e R s m args below meth c H1 locs1 cells slots Q (F0 m (pc + 1) ls rest)) : W p l e R s m args below meth c H locs cells slots Q (F0 m pc ls (.int x :: .int (nI j) :: .ref (q 3) :: rest)) := va_iast C.1 C.2.1 hK hP hD hS 3 2 rfl rfl (vp_in_nI hj (by omega)) hdg (fun H1 locs1 h1 h2 h3 => by rw [nI_clamp (by omega)] at h1 h2; exact kk H1 locs1 h1 h2 h3)
theorem xs_de (C : CallFix p m c cc nL s args tb own) (hK : va_K D classes (kX k) s) (hP : va_P D classes (wX q k d bl rd ex lg ce de) H) (hD : va_D A (wX q k d bl rd ex lg ce de)) (hS : va_S A H0 H locs) {j : Nat} {x : Int32} (hj : j < 22) (hx : vp_nar .boolean x = x) (hdg : decode cc pc = .ok (.bastore, 1)) (kk : ∀ (H1 : Heap) (locs1 : List Loc), va_P D classes (wX q k d bl rd ex lg ce (upd de j x)) H1 → va_D A (wX q k d bl rd ex lg ce (upd de j x)) → va_S A H0 H1 locs1 → W p l e R s m args below meth c H1 locs1 cells slots Q (F0 m (pc + 1) ls rest)) : W p l e R s m args below meth c H locs cells slots Q (F0 m pc ls (.int x :: .int (nI j) :: .ref (q 4) :: rest)) := va_zast C.1 C.2.1 hK hP hD hS 4 3 rfl rfl (vp_in_nI hj (by omega)) hdg (fun H1 locs1 h1 h2 h3 => by rw [nI_clamp (by omega), hx] at h1 h2; exact kk H1 locs1 h1 h2 h3)
theorem ms_mp (C : CallFix p m c cc nL s args tb own) (hK : va_K D classes (kM k) s) (hP : va_P D classes (wM q k d bl rd mp kp fl) H) (hD : va_D A (wM q k d bl rd mp kp fl)) (hS : va_S A H0 H locs) {j : Nat} {x : Int32} (hj : j < 800) (hdg : decode cc pc = .ok (.iastore, 1)) (kk : ∀ (H1 : Heap) (locs1 : List Loc), va_P D classes (wM q k d bl rd (upd mp j x) kp fl) H1 → va_D A (wM q k d bl rd (upd mp j x) kp fl) → va_S A H0 H1 locs1 → W p l e R s m args below meth c H1 locs1 cells slots Q (F0 m (pc + 1) ls rest)) : W p l e R s m args below meth c H locs cells slots Q (F0 m pc ls (.int x :: .int (nI j) :: .ref (q 1) :: rest)) := va_iast C.1 C.2.1 hK hP hD hS 1 0 rfl rfl (vp_in_nI hj (by omega)) hdg (fun H1 locs1 h1 h2 h3 => by rw [nI_clamp (by omega)] at h1 h2; exact kk H1 locs1 h1 h2 h3)
theorem ms_kp (C : CallFix p m c cc nL s args tb own) (hK : va_K D classes (kM k) s) (hP : va_P D classes (wM q k d bl rd mp kp fl) H) (hD : va_D A (wM q k d bl rd mp kp fl)) (hS : va_S A H0 H locs) {j : Nat} {x : Int32} (hj : j < 880) (hdg : decode cc pc = .ok (.iastore, 1)) (kk : ∀ (H1 : Heap) (locs1 : List Loc), va_P D classes (wM q k d bl rd mp (upd kp j x) fl) H1 → va_D A (wM q k d bl rd mp (upd kp j x) fl) → va_S A H0 H1 locs1 → W p l e R s m args below meth c H1 locs1 cells slots Q (F0 m (pc + 1) ls rest)) : W p l e R s m args below meth c H locs cells slots Q (F0 m pc ls (.int x :: .int (nI j) :: .ref (q 2) :: rest)) := va_iast C.1 C.2.1 hK hP hD hS 2 1 rfl rfl (vp_in_nI hj (by omega)) hdg (fun H1 locs1 h1 h2 h3 => by rw [nI_clamp (by omega)] at h1 h2; exact kk H1 locs1 h1 h2 h3)
theorem ms_fl (C : CallFix p m c cc nL s args tb own) (hK : va_K D classes (kM k) s) (hP : va_P D classes (wM q k d bl rd mp kp fl) H) (hD : va_D A (wM q k d bl rd mp kp fl)) (hS : va_S A H0 H locs) {j : Nat} {x : Int32} (hj : j < 22) (hx : vp_nar .boolean x = x) (hdg : decode cc pc = .ok (.bastore, 1)) (kk : ∀ (H1 : Heap) (locs1 : List Loc), va_P D classes (wM q k d bl rd mp kp (upd fl j x)) H1 → va_D A (wM q k d bl rd mp kp (upd fl j x)) → va_S A H0 H1 locs1 → W p l e R s m args below meth c H1 locs1 cells slots Q (F0 m (pc + 1) ls rest)) : W p l e R s m args below meth c H locs cells slots Q (F0 m pc ls (.int x :: .int (nI j) :: .ref (q 3) :: rest)) := va_zast C.1 C.2.1 hK hP hD hS 3 2 rfl rfl (vp_in_nI hj (by omega)) hdg (fun H1 locs1 h1 h2 h3 => by rw [nI_clamp (by omega), hx] at h1 h2; exact kk H1 locs1 h1 h2 h3)
theorem xp_rd (C : CallFix p m c cc nL s args tb "TwoLost") (hK : va_K D classes (kX k) s) (hP : va_P D classes (wX q k d bl rd ex lg ce de) H) (hD : va_D A (wX q k d bl rd ex lg ce de)) (hS : va_S A H0 H locs) (hdg : decode cc pc = .ok (.putfield 34, 3)) (kk : ∀ (H1 : Heap) (locs1 : List Loc), va_P D classes (wX q k d bl (nI 1) ex lg ce de) H1 → va_D A (wX q k d bl (nI 1) ex lg ce de) → va_S A H0 H1 locs1 → W p l e R s m args below meth c H1 locs1 cells slots Q (F0 m (pc + 3) ls rest)) : W p l e R s m args below meth c H locs cells slots Q (F0 m pc ls (.int (nI 1) :: .ref (q 0) :: rest)) := va_put (ci := 0) (v := .int (nI 1)) (ty := .boolean) (C := R_X) (T := F_X) (N := 7) C.1 C.2.1 C.2.2.2.2 i_X t_X t_X_ok n_X C.2.2.2.1 hK hP hD hS 0 rfl rfl 6 (by decide) (C.2.2.2.2 _ k_20) (fun _ h => h) rfl (by decide +kernel) (by decide +kernel) (by decide +kernel) (Nat.le_of_ble_eq_true rfl) hdg (fun H1 locs1 h1 h2 h3 => kk H1 locs1 h1 h2 h3)
theorem mp_rd (C : CallFix p m c cc nL s args tb "TwoLostModel") (hK : va_K D classes (kM k) s) (hP : va_P D classes (wM q k d bl rd mp kp fl) H) (hD : va_D A (wM q k d bl rd mp kp fl)) (hS : va_S A H0 H locs) (hdg : decode cc pc = .ok (.putfield 27, 3)) (kk : ∀ (H1 : Heap) (locs1 : List Loc), va_P D classes (wM q k d bl (nI 1) mp kp fl) H1 → va_D A (wM q k d bl (nI 1) mp kp fl) → va_S A H0 H1 locs1 → W p l e R s m args below meth c H1 locs1 cells slots Q (F0 m (pc + 3) ls rest)) : W p l e R s m args below meth c H locs cells slots Q (F0 m pc ls (.int (nI 1) :: .ref (q 0) :: rest)) := va_put (ci := 1) (v := .int (nI 1)) (ty := .boolean) (C := R_M) (T := F_M) (N := 6) C.1 C.2.1 C.2.2.2.2 i_M t_M t_M_ok n_M C.2.2.2.1 hK hP hD hS 0 rfl rfl 2 (by decide) (C.2.2.2.2 _ k_135) (fun _ h => h) rfl (by decide +kernel) (by decide +kernel) (by decide +kernel) (Nat.le_of_ble_eq_true rfl) hdg (fun H1 locs1 h1 h2 h3 => kk H1 locs1 h1 h2 h3)
/-! ===== a method that only reads ===== -/
def rdM (l : Launch) (D : va_G) (ws : va_W) (tys : List (ClassId × FieldType)) (y : MethodName) (b : ByteArray) (n : Nat) (ret : Option FieldType) (lev : Nat) (av : List Value) (post : Int32 → Prop) : Prop :=
  Met l y (Cond.code y b n ret :: tb) (rmL lev 0 0) (va_Pc av (fun U => va_P D classes ws U.heap ∧ va_K D classes tys U)) (vp_Si post) 0 0 (fun _ => False)
theorem rdM.of {ws : va_W} {tys : List (ClassId × FieldType)} {y : MethodName} {b : ByteArray} {n : Nat} {ty : FieldType} {lev : Nat} {av : List Value} {post : Int32 → Prop} (hy : plainName y.cls = true) (hc : y.cls = own) (hn : (lg_sl av).length ≤ n)
    (body : ∀ (p : Program) (e : Env) (s : State) (m : MethodId) (args : Array Value) (below : List Frame) (meth : Method) (c : Code) (Q : State → Prop), CallFix p m c b n s args tb own → va_K D classes tys s → va_P D classes ws s.heap →
      (∀ {pc : Nat} {ls : Array Slot} {v : Int32}, decode b pc = .ok (.ireturn, 1) → narrow ty (.int v) = .int v → post v → W p l e (rmL lev 0 0) s m args below meth c s.heap [] 0 0 Q (F0 m pc ls [.int v])) → ∀ ls, lv_has ls n (lv_args 0 av) →
      W p l e (rmL lev 0 0) s m args below meth c s.heap [] 0 0 Q (F0 m 0 ls [])) : rdM l D ws tys y b n (some ty) lev av post := by
  refine Met.ofW (cc := b) (maxL := n) (ret := some ty) hy rfl ?_
  intro p e s m args below meth c s₁ B hml hv
  obtain ⟨rfl, hP, hK⟩ := hv
  have hts := atoms_spec (ws := Cond.code y b n (some ty) :: tb) B.pre
  have hown : s.vm.findClass own = some m.cls := by rw [← hc]; exact findClass_of_methodNamed B.named
  have hl := lv_entry av (n := n) hn
  rw [lg_entry_eq]
  exact body p e s m _ below meth c _ ⟨B.exec, B.bytes, hml, hown, fun w hw => hts w (List.mem_cons_of_mem _ hw)⟩ hK hP
    (fun {pc ls v} hdg hnr hp => W.zret B.exec B.bytes B.returns hnr (fun t ht hW => ⟨v, rfl, hp, ht⟩) (fun q h => by cases h) hdg B.notSynchronized) _ hl
theorem ni (v : Int32) : narrow .int (.int v) = .int v := rfl
theorem nz0 : narrow .boolean (.int (nI 0)) = .int (nI 0) := by decide +kernel
theorem nz1 : narrow .boolean (.int (nI 1)) = .int (nI 1) := by decide +kernel
theorem nb0 : vp_nar .boolean (nI 0) = nI 0 := by decide +kernel
theorem nb1 : vp_nar .boolean (nI 1) = nI 1 := by decide +kernel
theorem rdM.call {ws : va_W} {tys : List (ClassId × FieldType)} {y : MethodName} {b : ByteArray} {n nA : Nat} {ret : Option FieldType} {lev : Nat} {As : List Value} {post : Int32 → Prop} {a ci idx : Nat} {cq : vw_C} {fs : List Value} (hM : rdM l D ws tys y b n ret lev (.ref a :: As) post) (C : CallFix p m c cc nL s args tb own) (hK : va_K D classes tys s) (hP : va_P D classes ws H)
    (hG : GoodIn tb (wsV own idx cq.1 y (Cond.code y b n ret :: tb))) (hc : classes[ci]? = some cq) (he : ws[0]? = some (a, .inr (ci, fs))) (hd : y.cls = cq.1 ∧ y.cls ≠ "java/lang/invoke/MethodHandle" ∧ y.cls ≠ "java/lang/invoke/VarHandle" ∧ (parseMethodDescriptor y.desc).map (fun d => d.parameters.length) = some nA) (hA : As.length = nA) (hn : n ≤ 6)
    (hR : lev + 1 ≤ R.frames ∧ 25 * (lev + 1) ≤ R.locals) (hf : cells ≤ R.cells ∧ slots ≤ R.slots) (hls : ls.size = nL) (hrest : (rest.map fun v => v.category).sum ≤ 8) (hdg : decode cc pc = .ok (.invokevirtual idx, 3)) {st0 : List Value} (hst : st0 = As.reverse ++ .ref a :: rest)
    (kk : ∀ r : Int32, post r → W p l e R s m args below meth c H locs cells slots Q (F0 m (pc + 3) ls (.int r :: rest))) : W p l e R s m args below meth c H locs cells slots Q (F0 m pc ls st0) :=
  vp_callSi (W.runV C hM (cwV nA C.2.2.2.2 hG rfl rfl rfl hd ⟨hR.1, by have := hR.2; show 8 + (n + 11) + 25 * lev ≤ _; omega⟩) ⟨fun a U g mk z => ⟨z.1, z.2.1, va_K.moved (u := U) (U := U.calling g mk a) (Vm.Alike.refl U.vm) z.2.2⟩, va_recv hK hP hc he, fun U hU hW => ⟨rfl, by rw [hU]; exact hP, va_K.moved hW.alike hK⟩⟩ rfl hA hls hst (lv_room hrest) hdg hf) kk
theorem rdM.callS {ws : va_W} {tys : List (ClassId × FieldType)} {y : MethodName} {b : ByteArray} {n nA : Nat} {ret : Option FieldType} {lev : Nat} {As : List Value} {post : Int32 → Prop} {idx : Nat} (hM : rdM l D ws tys y b n ret lev As post) (C : CallFix p m c cc nL s args tb own) (hK : va_K D classes tys s) (hP : va_P D classes ws H)
    (hG : GoodIn tb (wsS own idx y (Cond.code y b n ret :: tb))) (hd : y.cls = own ∧ y.cls ≠ "java/lang/invoke/MethodHandle" ∧ y.cls ≠ "java/lang/invoke/VarHandle" ∧ (parseMethodDescriptor y.desc).map (fun d => d.parameters.length) = some nA) (hA : As.length = nA) (hn : n ≤ 6)
    (hR : lev + 1 ≤ R.frames ∧ 25 * (lev + 1) ≤ R.locals) (hf : cells ≤ R.cells ∧ slots ≤ R.slots) (hls : ls.size = nL) (hrest : (rest.map fun v => v.category).sum ≤ 8) (hdg : decode cc pc = .ok (.invokestatic idx, 3)) {st0 : List Value} (hst : st0 = As.reverse ++ rest)
    (kk : ∀ r : Int32, post r → W p l e R s m args below meth c H locs cells slots Q (F0 m (pc + 3) ls (.int r :: rest))) : W p l e R s m args below meth c H locs cells slots Q (F0 m pc ls st0) :=
  vp_callSi (W.runS C hM (cwS nA C.2.2.2.2 hG rfl rfl rfl hd ⟨hR.1, by have := hR.2; show 8 + (n + 11) + 25 * lev ≤ _; omega⟩) ⟨fun a U g mk z => ⟨z.1, z.2.1, va_K.moved (u := U) (U := U.calling g mk a) (Vm.Alike.refl U.vm) z.2.2⟩, fun U hU hW => ⟨rfl, by rw [hU]; exact hP, va_K.moved hW.alike hK⟩⟩ rfl hA hls hst (lv_room hrest) hdg hf) kk
/-! ===== a method that writes: its world ws goes to wf u, u of any type ===== -/
def wrP (D : va_G) (ws : va_W) (tys : List (ClassId × FieldType)) (sz : Nat) : State → Prop := fun U => U.heap.size = sz ∧ va_P D classes ws U.heap ∧ va_K D classes tys U ∧ va_D (fun _ => True) ws
def wrB {S : Type} (D : va_G) (wf : S → va_W) (tf : S → List (ClassId × FieldType)) (A : Nat → Prop) : S → State → Prop := fun u t => va_P D classes (wf u) t.heap ∧ va_K D classes (tf u) t ∧ va_D A (wf u)
def wrI {S : Type} (l : Launch) (D : va_G) (ws : va_W) (tys : List (ClassId × FieldType)) (wf : S → va_W) (tf : S → List (ClassId × FieldType)) (y : MethodName) (b : ByteArray) (n : Nat) (ret : Option FieldType) (lev mc ms : Nat) (av : List Value) (sz : Nat) (post : Int32 → S → Prop) : Prop :=
  Met l y (Cond.code y b n ret :: tb) (rmL lev mc ms) (va_Pc av (wrP D ws tys sz)) (va_Qi post (wrB D wf tf (va_A ws sz)) (va_A ws sz)) mc ms (va_A ws sz)
def wrV {S : Type} (l : Launch) (D : va_G) (ws : va_W) (tys : List (ClassId × FieldType)) (wf : S → va_W) (tf : S → List (ClassId × FieldType)) (y : MethodName) (b : ByteArray) (n : Nat) (lev mc ms : Nat) (av : List Value) (sz : Nat) (post : S → Prop) : Prop :=
  Met l y (Cond.code y b n none :: tb) (rmL lev mc ms) (va_Pc av (wrP D ws tys sz)) (va_Qv post (wrB D wf tf (va_A ws sz)) (va_A ws sz)) mc ms (va_A ws sz)
theorem wrI.of {S : Type} {ws : va_W} {tys : List (ClassId × FieldType)} {wf : S → va_W} {tf : S → List (ClassId × FieldType)} {y : MethodName} {b : ByteArray} {n : Nat} {ty : FieldType} {lev mc ms : Nat} {av : List Value} {sz : Nat} {post : Int32 → S → Prop} (hy : plainName y.cls = true) (hc : y.cls = own) (hn : (lg_sl av).length ≤ n)
    (body : ∀ (p : Program) (e : Env) (s : State) (m : MethodId) (args : Array Value) (below : List Frame) (meth : Method) (c : Code) (Q : State → Prop) (A : Nat → Prop), CallFix p m c b n s args tb own → va_K D classes tys s → va_P D classes ws s.heap → va_D A ws → va_S A s.heap s.heap [] → (∀ x, s.heap.size ≤ x → A x) →
      (∀ {pc : Nat} {ls : Array Slot} {v : Int32} {H : Heap} {locs : List Loc} (u : S), va_K D classes (tf u) s → va_P D classes (wf u) H → va_D A (wf u) → va_S A s.heap H locs → decode b pc = .ok (.ireturn, 1) → narrow ty (.int v) = .int v → post v u → W p l e (rmL lev mc ms) s m args below meth c H locs mc ms Q (F0 m pc ls [.int v])) → ∀ ls, lv_has ls n (lv_args 0 av) →
      W p l e (rmL lev mc ms) s m args below meth c s.heap [] 0 0 Q (F0 m 0 ls [])) : wrI l D ws tys wf tf y b n (some ty) lev mc ms av sz post := by
  refine Met.ofW (cc := b) (maxL := n) (ret := some ty) hy rfl ?_
  intro p e s m args below meth c s₁ B hml hv
  obtain ⟨rfl, hsz, hP, hK, hD0⟩ := hv
  have hts := atoms_spec (ws := Cond.code y b n (some ty) :: tb) B.pre
  have hown : s.vm.findClass own = some m.cls := by rw [← hc]; exact findClass_of_methodNamed B.named
  subst hsz
  have hD := hD0.self (sz := s.heap.size)
  generalize hAe : va_A ws s.heap.size = A at hD ⊢
  have hA : ∀ x : Nat, s.heap.size ≤ x → A x := fun x h => by rw [← hAe]; exact Or.inr h
  have hl := lv_entry av (n := n) hn
  rw [lg_entry_eq]
  exact body p e s m _ below meth c _ A ⟨B.exec, B.bytes, hml, hown, fun w hw => hts w (List.mem_cons_of_mem _ hw)⟩ hK hP hD va_S.rf hA
    (fun {pc ls v H locs} u hK hP hD hS hdg hnr hp => W.zret B.exec B.bytes B.returns hnr (fun t ht hW => ⟨⟨v, u, rfl, hp, by rw [ht]; exact hP, va_K.moved hW.alike hK, hD⟩, hS.F ht⟩) hS.2.2 hdg B.notSynchronized) _ hl
theorem wrV.of {S : Type} {ws : va_W} {tys : List (ClassId × FieldType)} {wf : S → va_W} {tf : S → List (ClassId × FieldType)} {y : MethodName} {b : ByteArray} {n : Nat} {lev mc ms : Nat} {av : List Value} {sz : Nat} {post : S → Prop} (hy : plainName y.cls = true) (hc : y.cls = own) (hn : (lg_sl av).length ≤ n)
    (body : ∀ (p : Program) (e : Env) (s : State) (m : MethodId) (args : Array Value) (below : List Frame) (meth : Method) (c : Code) (Q : State → Prop) (A : Nat → Prop), meth.name = y.name → CallFix p m c b n s args tb own → va_K D classes tys s → va_P D classes ws s.heap → va_D A ws → va_S A s.heap s.heap [] → (∀ x, s.heap.size ≤ x → A x) →
      (∀ {pc : Nat} {ls : Array Slot} {H : Heap} {locs : List Loc} (u : S), va_K D classes (tf u) s → va_P D classes (wf u) H → va_D A (wf u) → va_S A s.heap H locs → decode b pc = .ok (.return_, 1) → post u → W p l e (rmL lev mc ms) s m args below meth c H locs mc ms Q (F0 m pc ls [])) → ∀ ls, lv_has ls n (lv_args 0 av) →
      W p l e (rmL lev mc ms) s m args below meth c s.heap [] 0 0 Q (F0 m 0 ls [])) : wrV l D ws tys wf tf y b n lev mc ms av sz post := by
  refine Met.ofW (cc := b) (maxL := n) (ret := none) hy rfl ?_
  intro p e s m args below meth c s₁ B hml hv
  obtain ⟨rfl, hsz, hP, hK, hD0⟩ := hv
  have hts := atoms_spec (ws := Cond.code y b n none :: tb) B.pre
  have hown : s.vm.findClass own = some m.cls := by rw [← hc]; exact findClass_of_methodNamed B.named
  have hin : meth.name = y.name := (name_of_methodNamed B.named B.method).1
  subst hsz
  have hD := hD0.self (sz := s.heap.size)
  generalize hAe : va_A ws s.heap.size = A at hD ⊢
  have hA : ∀ x : Nat, s.heap.size ≤ x → A x := fun x h => by rw [← hAe]; exact Or.inr h
  have hl := lv_entry av (n := n) hn
  rw [lg_entry_eq]
  exact body p e s m _ below meth c _ A hin ⟨B.exec, B.bytes, hml, hown, fun w hw => hts w (List.mem_cons_of_mem _ hw)⟩ hK hP hD va_S.rf hA
    (fun {pc ls H locs} u hK hP hD hS hdg hp => W.vret B.exec B.bytes B.returns (fun t ht hW => ⟨⟨u, rfl, hp, by rw [ht]; exact hP, va_K.moved hW.alike hK, hD⟩, hS.F ht⟩) hS.2.2 hdg B.notSynchronized) _ hl
/-- a call of it: the callee's cells are those at the places isC of the caller's world, the rest (at isR) stays -/
theorem wrI.call {S : Type} {ws wc wr : va_W} {tys : List (ClassId × FieldType)} {wf : S → va_W} {tf : S → List (ClassId × FieldType)} {y : MethodName} {b : ByteArray} {n nA : Nat} {ret : Option FieldType} {lev mc ms : Nat} {As : List Value} {post : Int32 → S → Prop} {a ci idx : Nat} {cq : vw_C} {fs : List Value} (hM : wrI l D wc tys wf tf y b n ret lev mc ms (.ref a :: As) H.size post) (C : CallFix p m c cc nL s args tb own) (hK : va_K D classes tys s) (hP : va_P D classes ws H) (hD : va_D A ws) (hS : va_S A H0 H locs) (hA0 : ∀ x, H0.size ≤ x → A x) (isC isR : List Nat) (hC1 : isC.filterMap (fun i => ws[i]?) = wc) (hC : isC.map (fun i => ws[i]?) = wc.map some) (hCn : va_nd isC = true) (hR1 : isR.map (fun i => ws[i]?) = wr.map some) (hRn : va_nd isR = true) (hdis : ∀ i ∈ isR, i ∉ isC)
    (hG : GoodIn tb (wsV own idx cq.1 y (Cond.code y b n ret :: tb))) (hc : classes[ci]? = some cq) (he : wc[0]? = some (a, .inr (ci, fs))) (hd : y.cls = cq.1 ∧ y.cls ≠ "java/lang/invoke/MethodHandle" ∧ y.cls ≠ "java/lang/invoke/VarHandle" ∧ (parseMethodDescriptor y.desc).map (fun d => d.parameters.length) = some nA) (hA : As.length = nA) (hn : n ≤ 6)
    (hR : lev + 1 ≤ R.frames ∧ 25 * (lev + 1) ≤ R.locals) (hf : cells + mc ≤ R.cells ∧ slots + ms ≤ R.slots) (hls : ls.size = nL) (hrest : (rest.map fun v => v.category).sum ≤ 8) (hdg : decode cc pc = .ok (.invokevirtual idx, 3)) {st0 : List Value} (hst : st0 = As.reverse ++ .ref a :: rest)
    (kk : ∀ (r : Int32) (u : S) (H1 : Heap) (locs1 : List Loc), post r u → va_K D classes (tf u) s → va_P D classes (wr ++ wf u) H1 → va_D A (wr ++ wf u) → va_S A H0 H1 locs1 → W p l e R s m args below meth c H1 locs1 (cells + mc) (slots + ms) Q (F0 m (pc + 3) ls (.int r :: rest))) : W p l e R s m args below meth c H locs cells slots Q (F0 m pc ls st0) := by
  have hPc := hP.sub (ws' := wc) isC hC1
  have hDc := hD.sub (ws' := wc) isC hCn hC
  have hFc := va_free (wc := wc) hD hS hA0 isC hC
  refine va_calli (va_runV C hM (cwV nA C.2.2.2.2 hG rfl rfl rfl hd ⟨hR.1, by have := hR.2; show 8 + (n + 11) + 25 * lev ≤ _; omega⟩) ⟨fun a U g mk z => ⟨z.1, z.2.1, z.2.2.1, va_K.moved (u := U) (U := U.calling g mk a) (Vm.Alike.refl U.vm) z.2.2.2.1, z.2.2.2.2⟩, va_recv hK hPc hc he, fun U hU hW => ⟨rfl, by rw [hU], by rw [hU]; exact hPc, va_K.moved hW.alike hK, hDc.weaken (fun _ _ _ _ => trivial)⟩⟩ rfl hA hls hst (lv_room hrest) hdg hf) hS (fun x _ h => hFc x h) hFc (fun r u t H1 locs1 ht hvm hw hB hz1 hk1 hS1 => ?_)
  obtain ⟨hP1, hK1, hD1⟩ := hB
  rw [ht] at hP1
  obtain ⟨hP2, hD2⟩ := va_join (wr := wr) (w1 := wf u) hP hD isC isR hC hR1 hRn hdis hk1 hFc hP1 hD1
  exact kk r u H1 locs1 hw (va_K.moved hvm.symm hK1) hP2 hD2 hS1
theorem wrV.call {S : Type} {ws wc wr : va_W} {tys : List (ClassId × FieldType)} {wf : S → va_W} {tf : S → List (ClassId × FieldType)} {y : MethodName} {b : ByteArray} {n nA : Nat} {lev mc ms : Nat} {As : List Value} {post : S → Prop} {a ci idx : Nat} {cq : vw_C} {fs : List Value} (hM : wrV l D wc tys wf tf y b n lev mc ms (.ref a :: As) H.size post) (C : CallFix p m c cc nL s args tb own) (hK : va_K D classes tys s) (hP : va_P D classes ws H) (hD : va_D A ws) (hS : va_S A H0 H locs) (hA0 : ∀ x, H0.size ≤ x → A x) (isC isR : List Nat) (hC1 : isC.filterMap (fun i => ws[i]?) = wc) (hC : isC.map (fun i => ws[i]?) = wc.map some) (hCn : va_nd isC = true) (hR1 : isR.map (fun i => ws[i]?) = wr.map some) (hRn : va_nd isR = true) (hdis : ∀ i ∈ isR, i ∉ isC)
    (hG : GoodIn tb (wsV own idx cq.1 y (Cond.code y b n none :: tb))) (hc : classes[ci]? = some cq) (he : wc[0]? = some (a, .inr (ci, fs))) (hd : y.cls = cq.1 ∧ y.cls ≠ "java/lang/invoke/MethodHandle" ∧ y.cls ≠ "java/lang/invoke/VarHandle" ∧ (parseMethodDescriptor y.desc).map (fun d => d.parameters.length) = some nA) (hA : As.length = nA) (hn : n ≤ 6)
    (hR : lev + 1 ≤ R.frames ∧ 25 * (lev + 1) ≤ R.locals) (hf : cells + mc ≤ R.cells ∧ slots + ms ≤ R.slots) (hls : ls.size = nL) (hrest : (rest.map fun v => v.category).sum ≤ 8) (hdg : decode cc pc = .ok (.invokevirtual idx, 3)) {st0 : List Value} (hst : st0 = As.reverse ++ .ref a :: rest)
    (kk : ∀ (u : S) (H1 : Heap) (locs1 : List Loc), post u → va_K D classes (tf u) s → va_P D classes (wr ++ wf u) H1 → va_D A (wr ++ wf u) → va_S A H0 H1 locs1 → W p l e R s m args below meth c H1 locs1 (cells + mc) (slots + ms) Q (F0 m (pc + 3) ls rest)) : W p l e R s m args below meth c H locs cells slots Q (F0 m pc ls st0) := by
  have hPc := hP.sub (ws' := wc) isC hC1
  have hDc := hD.sub (ws' := wc) isC hCn hC
  have hFc := va_free (wc := wc) hD hS hA0 isC hC
  refine va_callv (va_runV C hM (cwV nA C.2.2.2.2 hG rfl rfl rfl hd ⟨hR.1, by have := hR.2; show 8 + (n + 11) + 25 * lev ≤ _; omega⟩) ⟨fun a U g mk z => ⟨z.1, z.2.1, z.2.2.1, va_K.moved (u := U) (U := U.calling g mk a) (Vm.Alike.refl U.vm) z.2.2.2.1, z.2.2.2.2⟩, va_recv hK hPc hc he, fun U hU hW => ⟨rfl, by rw [hU], by rw [hU]; exact hPc, va_K.moved hW.alike hK, hDc.weaken (fun _ _ _ _ => trivial)⟩⟩ rfl hA hls hst (lv_room hrest) hdg hf) hS (fun x _ h => hFc x h) hFc (fun u t H1 locs1 ht hvm hw hB hz1 hk1 hS1 => ?_)
  obtain ⟨hP1, hK1, hD1⟩ := hB
  rw [ht] at hP1
  obtain ⟨hP2, hD2⟩ := va_join (wr := wr) (w1 := wf u) hP hD isC isR hC hR1 hRn hdis hk1 hFc hP1 hD1
  exact kk u H1 locs1 hw (va_K.moved hvm.symm hK1) hP2 hD2 hS1
/-- a constructor's call -/
theorem wrV.callI {S : Type} {ws wc wr : va_W} {tys : List (ClassId × FieldType)} {wf : S → va_W} {tf : S → List (ClassId × FieldType)} {y : MethodName} {b : ByteArray} {n nA : Nat} {lev mc ms : Nat} {As : List Value} {post : S → Prop} {a idx : Nat} (hM : wrV l D wc tys wf tf y b n lev mc ms (.ref a :: As) H.size post) (C : CallFix p m c cc nL s args tb own) (hK : va_K D classes tys s) (hP : va_P D classes ws H) (hD : va_D A ws) (hS : va_S A H0 H locs) (hA0 : ∀ x, H0.size ≤ x → A x) (isC isR : List Nat) (hC1 : isC.filterMap (fun i => ws[i]?) = wc) (hC : isC.map (fun i => ws[i]?) = wc.map some) (hCn : va_nd isC = true) (hR1 : isR.map (fun i => ws[i]?) = wr.map some) (hRn : va_nd isR = true) (hdis : ∀ i ∈ isR, i ∉ isC)
    (hco : Cond.code y b n none ∈ tb) (hini : Cond.initialized y.cls ∈ tb) (hlk : Cond.methodLink own idx y ∈ tb) (hinm : Cond.instanceMethod y ∈ tb) (hnm : y.name = "<init>") (hd : y.cls ≠ "java/lang/invoke/MethodHandle" ∧ y.cls ≠ "java/lang/invoke/VarHandle" ∧ (parseMethodDescriptor y.desc).map (fun d => d.parameters.length) = some nA) (hA : As.length = nA) (hn : n ≤ 6)
    (hR : lev + 1 ≤ R.frames ∧ 25 * (lev + 1) ≤ R.locals) (hf : cells + mc ≤ R.cells ∧ slots + ms ≤ R.slots) (hls : ls.size = nL) (hrest : (rest.map fun v => v.category).sum ≤ 8) (hdg : decode cc pc = .ok (.invokespecial idx, 3)) {st0 : List Value} (hst : st0 = As.reverse ++ .ref a :: rest)
    (kk : ∀ (u : S) (H1 : Heap) (locs1 : List Loc), post u → va_K D classes (tf u) s → va_P D classes (wr ++ wf u) H1 → va_D A (wr ++ wf u) → va_S A H0 H1 locs1 → W p l e R s m args below meth c H1 locs1 (cells + mc) (slots + ms) Q (F0 m (pc + 3) ls rest)) : W p l e R s m args below meth c H locs cells slots Q (F0 m pc ls st0) := by
  have hPc := hP.sub (ws' := wc) isC hC1
  have hDc := hD.sub (ws' := wc) isC hCn hC
  have hFc := va_free (wc := wc) hD hS hA0 isC hC
  refine va_callv (va_runI C hM (cwI nA C.2.2.2.2 (gd_C hco) rfl rfl rfl (C.2.2.2.2 _ hini) (C.2.2.2.2 _ hlk) (C.2.2.2.2 _ hinm) hnm hd ⟨hR.1, by have := hR.2; show 8 + (n + 11) + 25 * lev ≤ _; omega⟩) ⟨fun a U g mk z => ⟨z.1, z.2.1, z.2.2.1, va_K.moved (u := U) (U := U.calling g mk a) (Vm.Alike.refl U.vm) z.2.2.2.1, z.2.2.2.2⟩, fun U hU hW => ⟨rfl, by rw [hU], by rw [hU]; exact hPc, va_K.moved hW.alike hK, hDc.weaken (fun _ _ _ _ => trivial)⟩⟩ rfl hA hls hst (lv_room hrest) hdg hf) hS (fun x _ h => hFc x h) hFc (fun u t H1 locs1 ht hvm hw hB hz1 hk1 hS1 => ?_)
  obtain ⟨hP1, hK1, hD1⟩ := hB
  rw [ht] at hP1
  obtain ⟨hP2, hD2⟩ := va_join (wr := wr) (w1 := wf u) hP hD isC isR hC hR1 hRn hdis hk1 hFc hP1 hD1
  exact kk u H1 locs1 hw (va_K.moved hvm.symm hK1) hP2 hD2 hS1
end R8
end
section
/-! PART 09: TwoLost, methods that only read: at, times, over, sumOf, weightedOf, otherLost (printed by gen_x1.py) -/

set_option maxHeartbeats 4000000 in
set_option maxRecDepth 100000 in
theorem c_X_at (l : Launch) (D : va_G) (q k : Nat → Nat) (d bl : Nat) (rd : Int32) (ex lg ce de : Nat → Int32) (x a : Nat) : rdM l D (wX q k d bl rd ex lg ce de) (kX k) y_X_at b_X_at 3 (some .int) 0 [.ref (q 0), .int (nI (x)), .int (nI (a))] (fun r => r = nI (40 * x + a)) := by
  refine rdM.of (own := "TwoLost") (by decide) rfl (Nat.le_of_ble_eq_true rfl) ?_
  intro p e s m args below meth c Q C hK hP hret ls hl
  have hl : lv_has ls 3 [(0, .ref (q 0)), (1, .int (nI (x))), (2, .int (nI (a)))] := hl
  refine lv_bipush (v := nI 40) C.1 C.2.1 d_X_at_0 (by decide) ?_
  refine lv_iload_n C.1 C.2.1 d_X_at_2 rfl (lv_at hl 1 rfl) ?_
  refine lv_imul C.1 C.2.1 d_X_at_3 ?_
  refine lv_eq (pk_mul _ _) ?_
  refine lv_iload_n C.1 C.2.1 d_X_at_4 rfl (lv_at hl 2 rfl) ?_
  refine lv_iadd C.1 C.2.1 d_X_at_5 ?_
  refine lv_eq (nI_add _ _) ?_
  exact hret d_X_at_6 rfl rfl

section K1
variable {p : Program} {l : Launch} {e : Env} {R : Room} {s : State} {m : MethodId} {args : Array Value} {below : List Frame} {meth : Method} {c : Code} {H H0 : Heap} {locs : List Loc} {cells slots nL : Nat} {Q : State → Prop}
variable {cc : ByteArray} {pc : Nat} {ls : Array Slot} {rest : List Value} {D : va_G} {A : Nat → Prop} {own : String}
variable {q k : Nat → Nat} {d bl : Nat} {rd : Int32} {ex lg ce de mp kp fl : Nat → Int32}

theorem k_X_at {x a : Nat} (C : CallFix p m c cc nL s args tb "TwoLost") (hK : va_K D classes (kX k) s) (hP : va_P D classes (wX q k d bl rd ex lg ce de) H) (hR : 1 ≤ R.frames ∧ 25 * 1 ≤ R.locals) (hf : cells ≤ R.cells ∧ slots ≤ R.slots) (hls : ls.size = nL) (hrest : (rest.map fun v => v.category).sum ≤ 8) (hdg : decode cc pc = .ok (.invokevirtual 41, 3)) (kk : W p l e R s m args below meth c H locs cells slots Q (F0 m (pc + 3) ls (.int (nI (40 * x + a)) :: rest))) : W p l e R s m args below meth c H locs cells slots Q (F0 m pc ls (.int (nI a) :: .int (nI x) :: .ref (q 0) :: rest)) := rdM.call (nA := 2) (ci := 0) (cq := (R_X, F_X, 7)) (c_X_at l D q k d bl rd ex lg ce de x a) C hK hP g_X_X_at rfl rfl (by decide +kernel) rfl (by decide) hR hf hls hrest hdg rfl (fun r hr => by subst hr; exact kk)

end K1

set_option maxHeartbeats 4000000 in
set_option maxRecDepth 100000 in
theorem c_X_times (l : Launch) (D : va_G) (q k : Nat → Nat) (d bl : Nat) (rd : Int32) (ex lg ce de : Nat → Int32) (w : Int32) (t : Nat) (hT : TB ex lg) (ht : t < 255) : rdM l D (wX q k d bl rd ex lg ce de) (kX k) y_X_times b_X_times 6 (some .int) 0 [.ref (q 0), .int w, .int (nI (t))] (fun r => r = tp t w) := by
  refine rdM.of (own := "TwoLost") (by decide) rfl (Nat.le_of_ble_eq_true rfl) ?_
  intro p e s m args below meth c Q C hK hP hret ls hl
  have hl : lv_has ls 6 [(0, .ref (q 0)), (1, .int w), (2, .int (nI (t)))] := hl
  refine lv_iconst (v := nI 0) C.1 C.2.1 d_X_times_0 (by decide) ?_
  refine lv_istore_n (lv' := [(3, .int (nI (0))), (0, .ref (q 0)), (1, .int w), (2, .int (nI (t)))]) C.1 C.2.1 d_X_times_1 rfl hl (by decide) rfl (fun ls hl => ?_)
  refine lv_iconst (v := nI 0) C.1 C.2.1 d_X_times_2 (by decide) ?_
  refine lv_istore (lv' := [(4, .int (nI (0))), (3, .int (nI (0))), (0, .ref (q 0)), (1, .int w), (2, .int (nI (t)))]) C.1 C.2.1 d_X_times_3 hl (by decide) rfl (fun ls hl => ?_)
  have loop : ∀ (n i : Nat) (v : Int32), i ≤ 4 → 5 ≤ i + n → v = tp t (lo i w) → (∀ j, 8 * i ≤ j → bt v j = false) → ∀ ls, lv_has ls 6 [(4, .int (nI (8 * i))), (3, .int v), (0, .ref (q 0)), (1, .int w), (2, .int (nI t))] → W p l e (rmL 0 0 0) s m args below meth c s.heap [] 0 0 Q (F0 m 5 ls []) := by
    intro n
    induction n with
    | zero => intro i v h1 h2; exact absurd h2 (by omega)
    | succ n ih =>
      intro i v hi hin ev hb ls hl
      refine lv_iload C.1 C.2.1 d_X_times_5 (lv_at hl 0 rfl) ?_
      refine lv_bipush (v := nI 32) C.1 C.2.1 d_X_times_7 (by decide) ?_
      refine bn_ge (tgt := 53) C d_X_times_9 (by decide) (by omega) (by omega) (fun h9 => ?_) (fun h9 => ?_)
      · refine lv_iload_n C.1 C.2.1 d_X_times_53 rfl (lv_at hl 1 rfl) ?_
        refine hret d_X_times_54 rfl ?_
        show v = tp t w
        rw [ev, show i = 4 by omega, lo_4]
      · obtain ⟨u, hu, eu⟩ := ln_nat i w
        refine lv_iload_n C.1 C.2.1 d_X_times_12 rfl (lv_at hl 3 rfl) ?_
        refine lv_iload C.1 C.2.1 d_X_times_13 (lv_at hl 0 rfl) ?_
        refine lv_iushr C.1 C.2.1 d_X_times_15 rfl ?_
        refine lv_sipush (v := nI 255) C.1 C.2.1 d_X_times_16 (by decide) ?_
        refine lv_iand C.1 C.2.1 d_X_times_19 ?_
        refine lv_eq (y := nI (u)) (eu) ?_
        refine lv_istore (lv' := [(5, .int (nI (u))), (4, .int (nI (8 * i))), (3, .int v), (0, .ref (q 0)), (1, .int w), (2, .int (nI (t)))]) C.1 C.2.1 d_X_times_20 hl (by decide) rfl (fun ls hl => ?_)
        refine lv_iload C.1 C.2.1 d_X_times_22 (lv_at hl 0 rfl) ?_
        refine lv_if_eq (tgt := 47) C.1 C.2.1 d_X_times_24 (by decide) (fun h24 => ?_) (fun h24 => ?_)
        · refine lv_iinc (v := nI (8 * i + 8)) (lv' := [(4, .int (nI (8 * i + 8))), (5, .int (nI (u))), (3, .int v), (0, .ref (q 0)), (1, .int w), (2, .int (nI (t)))]) C.1 C.2.1 d_X_times_47 hl (k := 1) rfl (by exact nI_add _ _) (by decide) rfl (fun ls hl => ?_)
          refine lv_goto (tgt := 5) C.1 C.2.1 d_X_times_50 (by decide) ?_
          have e0 : ln i w = 0 := by rw [eu]; exact h24
          have hs := tm_step (k := t) (by omega) ev hb
          rw [tm_0 (by omega) e0] at hs
          exact ih (i + 1) v (by omega) (by omega) hs.1 hs.2 ls (lv_sub hl [0, 2, 3, 4, 5] rfl)
        · have hu0 : 0 < u := Nat.pos_of_ne_zero (fun z => h24 (by rw [z]; rfl))
          obtain ⟨hd1, hd2⟩ := dl_in u hu hu0
          refine lv_iload_n C.1 C.2.1 d_X_times_27 rfl (lv_at hl 2 rfl) ?_
          refine lv_aload_n C.1 C.2.1 d_X_times_28 rfl (lv_at hl 3 rfl) ?_
          refine gx_ex C hK hP d_X_times_29 ?_
          refine lv_aload_n C.1 C.2.1 d_X_times_32 rfl (lv_at hl 3 rfl) ?_
          refine gx_lg C hK hP d_X_times_33 ?_
          refine lv_iload C.1 C.2.1 d_X_times_36 (lv_at hl 0 rfl) ?_
          refine xl_lg C hK hP (j := u) (by omega) d_X_times_38 ?_
          refine lv_eq (y := nI (dl u)) (hT.2 u hu hu0) ?_
          refine lv_iload_n C.1 C.2.1 d_X_times_39 rfl (lv_at hl 5 rfl) ?_
          refine lv_iadd C.1 C.2.1 d_X_times_40 ?_
          refine lv_eq (nI_add _ _) ?_
          refine xl_ex C hK hP (j := (dl u) + t) (by omega) d_X_times_41 ?_
          refine lv_eq (y := (nI (eN ((dl u + t) % 255)))) (hT.1 _ (by omega)) ?_
          refine lv_iload C.1 C.2.1 d_X_times_42 (lv_at hl 1 rfl) ?_
          refine lv_ishl C.1 C.2.1 d_X_times_44 ?_
          refine lv_ior C.1 C.2.1 d_X_times_45 ?_
          refine lv_topi (fun x e_x => ?_)
          refine lv_istore_n (lv' := [(3, .int x), (5, .int (nI (u))), (4, .int (nI (8 * i))), (0, .ref (q 0)), (1, .int w), (2, .int (nI (t)))]) C.1 C.2.1 d_X_times_46 rfl hl (by decide) rfl (fun ls hl => ?_)
          refine lv_iinc (v := nI (8 * i + 8)) (lv' := [(4, .int (nI (8 * i + 8))), (3, .int x), (5, .int (nI (u))), (0, .ref (q 0)), (1, .int w), (2, .int (nI (t)))]) C.1 C.2.1 d_X_times_47 hl (k := 2) rfl (by exact nI_add _ _) (by decide) rfl (fun ls hl => ?_)
          refine lv_goto (tgt := 5) C.1 C.2.1 d_X_times_50 (by decide) ?_
          have hs := tm_step (k := t) (by omega) ev hb
          rw [← tm_x (by omega) ht hu hu0 eu] at hs
          exact ih (i + 1) x (by omega) (by omega) (by rw [e_x]; exact hs.1) (by rw [e_x]; exact hs.2) ls (lv_sub hl [0, 1, 3, 4, 5] rfl)
  exact loop 5 0 0 (by omega) (by omega) (by rw [show lo 0 w = 0 from rfl, tp_0]) (fun j _ => b_0 j) ls (lv_sub hl [0, 1, 2, 3, 4] rfl)

section K2
variable {p : Program} {l : Launch} {e : Env} {R : Room} {s : State} {m : MethodId} {args : Array Value} {below : List Frame} {meth : Method} {c : Code} {H H0 : Heap} {locs : List Loc} {cells slots nL : Nat} {Q : State → Prop}
variable {cc : ByteArray} {pc : Nat} {ls : Array Slot} {rest : List Value} {D : va_G} {A : Nat → Prop} {own : String}
variable {q k : Nat → Nat} {d bl : Nat} {rd : Int32} {ex lg ce de mp kp fl : Nat → Int32}

theorem k_X_times {w : Int32} {t : Nat} (C : CallFix p m c cc nL s args tb "TwoLost") (hK : va_K D classes (kX k) s) (hP : va_P D classes (wX q k d bl rd ex lg ce de) H) (hT : TB ex lg) (ht : t < 255) (hR : 1 ≤ R.frames ∧ 25 * 1 ≤ R.locals) (hf : cells ≤ R.cells ∧ slots ≤ R.slots) (hls : ls.size = nL) (hrest : (rest.map fun v => v.category).sum ≤ 8) (hdg : decode cc pc = .ok (.invokevirtual 38, 3)) (kk : W p l e R s m args below meth c H locs cells slots Q (F0 m (pc + 3) ls (.int (tp t w) :: rest))) : W p l e R s m args below meth c H locs cells slots Q (F0 m pc ls (.int (nI t) :: .int w :: .ref (q 0) :: rest)) := rdM.call (nA := 2) (ci := 0) (cq := (R_X, F_X, 7)) (c_X_times l D q k d bl rd ex lg ce de w t hT ht) C hK hP g_X_X_times rfl rfl (by decide +kernel) rfl (by decide) hR hf hls hrest hdg rfl (fun r hr => by subst hr; exact kk)

end K2

set_option maxHeartbeats 4000000 in
set_option maxRecDepth 100000 in
theorem c_X_over (l : Launch) (D : va_G) (q k : Nat → Nat) (d bl : Nat) (rd : Int32) (ex lg ce de : Nat → Int32) (w : Int32) (u : Nat) (hT : TB ex lg) (hu : u < 256) (h0 : 0 < u) : rdM l D (wX q k d bl rd ex lg ce de) (kX k) y_X_over b_X_over 3 (some .int) 1 [.ref (q 0), .int w, .int (nI (u))] (fun r => r = tp ((255 - dl u) % 255) w) := by
  refine rdM.of (own := "TwoLost") (by decide) rfl (Nat.le_of_ble_eq_true rfl) ?_
  intro p e s m args below meth c Q C hK hP hret ls hl
  have hl : lv_has ls 3 [(0, .ref (q 0)), (1, .int w), (2, .int (nI (u)))] := hl
  obtain ⟨hd1, hd2⟩ := dl_in u hu h0
  refine lv_aload_n C.1 C.2.1 d_X_over_0 rfl (lv_at hl 0 rfl) ?_
  refine lv_iload_n C.1 C.2.1 d_X_over_1 rfl (lv_at hl 1 rfl) ?_
  refine lv_sipush (v := nI 255) C.1 C.2.1 d_X_over_2 (by decide) ?_
  refine lv_aload_n C.1 C.2.1 d_X_over_5 rfl (lv_at hl 0 rfl) ?_
  refine gx_lg C hK hP d_X_over_6 ?_
  refine lv_iload_n C.1 C.2.1 d_X_over_9 rfl (lv_at hl 2 rfl) ?_
  refine xl_lg C hK hP (j := u) (by omega) d_X_over_10 ?_
  refine lv_eq (y := nI (dl u)) (hT.2 u hu h0) ?_
  refine lv_isub C.1 C.2.1 d_X_over_11 ?_
  refine lv_eq (pk_sub (by omega)) ?_
  refine lv_sipush (v := nI 255) C.1 C.2.1 d_X_over_12 (by decide) ?_
  refine lv_irem C.1 C.2.1 d_X_over_15 (by decide) ?_
  refine lv_eq (pk_rem (by omega) (by omega) (by omega)) ?_
  refine k_X_times C hK hP hT (Nat.mod_lt _ (by omega)) ⟨Nat.le_of_ble_eq_true rfl, Nat.le_of_ble_eq_true rfl⟩ ⟨Nat.le_of_ble_eq_true rfl, Nat.le_of_ble_eq_true rfl⟩ hl.1 (Nat.le_of_ble_eq_true rfl) d_X_over_16 (?_)
  exact hret d_X_over_19 rfl rfl

section K3
variable {p : Program} {l : Launch} {e : Env} {R : Room} {s : State} {m : MethodId} {args : Array Value} {below : List Frame} {meth : Method} {c : Code} {H H0 : Heap} {locs : List Loc} {cells slots nL : Nat} {Q : State → Prop}
variable {cc : ByteArray} {pc : Nat} {ls : Array Slot} {rest : List Value} {D : va_G} {A : Nat → Prop} {own : String}
variable {q k : Nat → Nat} {d bl : Nat} {rd : Int32} {ex lg ce de mp kp fl : Nat → Int32}

theorem k_X_over {w : Int32} {u : Nat} (C : CallFix p m c cc nL s args tb "TwoLost") (hK : va_K D classes (kX k) s) (hP : va_P D classes (wX q k d bl rd ex lg ce de) H) (hT : TB ex lg) (hu : u < 256) (h0 : 0 < u) (hR : 2 ≤ R.frames ∧ 25 * 2 ≤ R.locals) (hf : cells ≤ R.cells ∧ slots ≤ R.slots) (hls : ls.size = nL) (hrest : (rest.map fun v => v.category).sum ≤ 8) (hdg : decode cc pc = .ok (.invokevirtual 55, 3)) (kk : W p l e R s m args below meth c H locs cells slots Q (F0 m (pc + 3) ls (.int (tp ((255 - dl u) % 255) w) :: rest))) : W p l e R s m args below meth c H locs cells slots Q (F0 m pc ls (.int (nI u) :: .int w :: .ref (q 0) :: rest)) := rdM.call (nA := 2) (ci := 0) (cq := (R_X, F_X, 7)) (c_X_over l D q k d bl rd ex lg ce de w u hT hu h0) C hK hP g_X_X_over rfl rfl (by decide +kernel) rfl (by decide) hR hf hls hrest hdg rfl (fun r hr => by subst hr; exact kk)

end K3

set_option maxHeartbeats 4000000 in
set_option maxRecDepth 100000 in
theorem c_X_sumOf (l : Launch) (D : va_G) (q k : Nat → Nat) (d bl : Nat) (rd : Int32) (ex lg ce de : Nat → Int32) (a : Nat) (b o : Int32) (hd : d ≤ 20) (ha : a < 40) : rdM l D (wX q k d bl rd ex lg ce de) (kX k) y_X_sumOf b_X_sumOf 6 (some .int) 1 [.ref (q 0), .int (nI (a)), .int b, .int o] (fun r => r = ps d (xf (fun k => ce (40 * k + a)) b o)) := by
  refine rdM.of (own := "TwoLost") (by decide) rfl (Nat.le_of_ble_eq_true rfl) ?_
  intro p e s m args below meth c Q C hK hP hret ls hl
  have hl : lv_has ls 6 [(0, .ref (q 0)), (1, .int (nI (a))), (2, .int b), (3, .int o)] := hl
  refine lv_iconst (v := nI 0) C.1 C.2.1 d_X_sumOf_0 (by decide) ?_
  refine lv_istore (lv' := [(4, .int (nI (0))), (0, .ref (q 0)), (1, .int (nI (a))), (2, .int b), (3, .int o)]) C.1 C.2.1 d_X_sumOf_1 hl (by decide) rfl (fun ls hl => ?_)
  refine lv_iconst (v := nI 0) C.1 C.2.1 d_X_sumOf_3 (by decide) ?_
  refine lv_istore (lv' := [(5, .int (nI (0))), (4, .int (nI (0))), (0, .ref (q 0)), (1, .int (nI (a))), (2, .int b), (3, .int o)]) C.1 C.2.1 d_X_sumOf_4 hl (by decide) rfl (fun ls hl => ?_)
  have loop : ∀ (n i : Nat) (v : Int32), i ≤ d → d + 1 ≤ i + n → v = ps i (xf (fun k => ce (40 * k + a)) b o) → ∀ ls, lv_has ls 6 [(5, .int (nI i)), (4, .int v), (0, .ref (q 0)), (1, .int (nI a)), (2, .int b), (3, .int o)] → W p l e (rmL 1 0 0) s m args below meth c s.heap [] 0 0 Q (F0 m 6 ls []) := by
    intro n
    induction n with
    | zero => intro i v h1 h2; exact absurd h2 (by omega)
    | succ n ih =>
      intro i v hi hin ev ls hl
      have hx := xf_step (d := i) (fun k => ce (40 * k + a)) b o
      refine lv_iload C.1 C.2.1 d_X_sumOf_6 (lv_at hl 0 rfl) ?_
      refine lv_aload_n C.1 C.2.1 d_X_sumOf_8 rfl (lv_at hl 2 rfl) ?_
      refine gx_d C hK hP d_X_sumOf_9 ?_
      refine bn_ge (tgt := 50) C d_X_sumOf_12 (by decide) (by omega) (by omega) (fun h12 => ?_) (fun h12 => ?_)
      · refine lv_iload C.1 C.2.1 d_X_sumOf_50 (lv_at hl 1 rfl) ?_
        refine hret d_X_sumOf_52 rfl ?_
        show v = _
        rw [ev, show i = d by omega]
      · refine lv_iload C.1 C.2.1 d_X_sumOf_15 (lv_at hl 0 rfl) ?_
        refine lv_iload_n C.1 C.2.1 d_X_sumOf_17 rfl (lv_at hl 4 rfl) ?_
        refine lv_icmp_eq (tgt := 44) C.1 C.2.1 d_X_sumOf_18 (by decide) (fun h18 => ?_) (fun h18 => ?_)
        · refine lv_iinc (v := nI (i + 1)) (lv' := [(5, .int (nI (i + 1))), (4, .int v), (0, .ref (q 0)), (1, .int (nI (a))), (2, .int b), (3, .int o)]) C.1 C.2.1 d_X_sumOf_44 hl (k := 0) rfl (by exact nI_add _ _) (by decide) rfl (fun ls hl => ?_)
          refine lv_goto (tgt := 6) C.1 C.2.1 d_X_sumOf_47 (by decide) ?_
          exact ih (i + 1) v (by omega) (by omega) (by rw [hx.1 (Or.inl h18), ev]) ls (lv_sub hl [0, 1, 2, 3, 4, 5] rfl)
        · refine lv_iload C.1 C.2.1 d_X_sumOf_21 (lv_at hl 0 rfl) ?_
          refine lv_iload_n C.1 C.2.1 d_X_sumOf_23 rfl (lv_at hl 5 rfl) ?_
          refine lv_icmp_eq (tgt := 44) C.1 C.2.1 d_X_sumOf_24 (by decide) (fun h24 => ?_) (fun h24 => ?_)
          · refine lv_iinc (v := nI (i + 1)) (lv' := [(5, .int (nI (i + 1))), (4, .int v), (0, .ref (q 0)), (1, .int (nI (a))), (2, .int b), (3, .int o)]) C.1 C.2.1 d_X_sumOf_44 hl (k := 0) rfl (by exact nI_add _ _) (by decide) rfl (fun ls hl => ?_)
            refine lv_goto (tgt := 6) C.1 C.2.1 d_X_sumOf_47 (by decide) ?_
            exact ih (i + 1) v (by omega) (by omega) (by rw [hx.1 (Or.inr h24), ev]) ls (lv_sub hl [0, 1, 2, 3, 4, 5] rfl)
          · refine lv_iload C.1 C.2.1 d_X_sumOf_27 (lv_at hl 1 rfl) ?_
            refine lv_aload_n C.1 C.2.1 d_X_sumOf_29 rfl (lv_at hl 2 rfl) ?_
            refine gx_ce C hK hP d_X_sumOf_30 ?_
            refine lv_aload_n C.1 C.2.1 d_X_sumOf_33 rfl (lv_at hl 2 rfl) ?_
            refine lv_iload C.1 C.2.1 d_X_sumOf_34 (lv_at hl 0 rfl) ?_
            refine lv_iload_n C.1 C.2.1 d_X_sumOf_36 rfl (lv_at hl 3 rfl) ?_
            refine k_X_at C hK hP ⟨Nat.le_of_ble_eq_true rfl, Nat.le_of_ble_eq_true rfl⟩ ⟨Nat.le_of_ble_eq_true rfl, Nat.le_of_ble_eq_true rfl⟩ hl.1 (Nat.le_of_ble_eq_true rfl) d_X_sumOf_37 (?_)
            refine xl_ce C hK hP (j := 40 * i + a) (by omega) d_X_sumOf_40 ?_
            refine lv_ixor C.1 C.2.1 d_X_sumOf_41 ?_
            refine lv_topi (fun x e_x => ?_)
            refine lv_istore (lv' := [(4, .int x), (5, .int (nI (i))), (0, .ref (q 0)), (1, .int (nI (a))), (2, .int b), (3, .int o)]) C.1 C.2.1 d_X_sumOf_42 hl (by decide) rfl (fun ls hl => ?_)
            refine lv_iinc (v := nI (i + 1)) (lv' := [(5, .int (nI (i + 1))), (4, .int x), (0, .ref (q 0)), (1, .int (nI (a))), (2, .int b), (3, .int o)]) C.1 C.2.1 d_X_sumOf_44 hl (k := 1) rfl (by exact nI_add _ _) (by decide) rfl (fun ls hl => ?_)
            refine lv_goto (tgt := 6) C.1 C.2.1 d_X_sumOf_47 (by decide) ?_
            exact ih (i + 1) x (by omega) (by omega) (by rw [hx.2 (fun z => z.elim h18 h24), e_x, ev]) ls (lv_sub hl [0, 1, 2, 3, 4, 5] rfl)
  exact loop (d + 1) 0 _ (by omega) (by omega) rfl ls (lv_sub hl [0, 1, 2, 3, 4, 5] rfl)

section K_X_sumOf
variable {p : Program} {l : Launch} {e : Env} {R : Room} {s : State} {m : MethodId} {args : Array Value} {below : List Frame} {meth : Method} {c : Code} {H H0 : Heap} {locs : List Loc} {cells slots nL : Nat} {Q : State → Prop}
variable {cc : ByteArray} {pc : Nat} {ls : Array Slot} {rest : List Value} {D : va_G} {A : Nat → Prop} {own : String}
variable {q k : Nat → Nat} {d bl : Nat} {rd : Int32} {ex lg ce de mp kp fl : Nat → Int32}

theorem k_X_sumOf {a : Nat} {b o : Int32} (C : CallFix p m c cc nL s args tb "TwoLost") (hK : va_K D classes (kX k) s) (hP : va_P D classes (wX q k d bl rd ex lg ce de) H) (hd : d ≤ 20) (ha : a < 40) (hR : 2 ≤ R.frames ∧ 25 * 2 ≤ R.locals) (hf : cells ≤ R.cells ∧ slots ≤ R.slots) (hls : ls.size = nL) (hrest : (rest.map fun v => v.category).sum ≤ 8) (hdg : decode cc pc = .ok (.invokevirtual 48, 3)) (kk : W p l e R s m args below meth c H locs cells slots Q (F0 m (pc + 3) ls (.int (ps d (xf (fun k => ce (40 * k + a)) b o)) :: rest))) : W p l e R s m args below meth c H locs cells slots Q (F0 m pc ls (.int o :: .int b :: .int (nI a) :: .ref (q 0) :: rest)) := rdM.call (nA := 3) (ci := 0) (cq := (R_X, F_X, 7)) (c_X_sumOf l D q k d bl rd ex lg ce de a b o hd ha) C hK hP g_X_X_sumOf rfl rfl (by decide +kernel) rfl (by decide) hR hf hls hrest hdg rfl (fun r hr => by subst hr; exact kk)

end K_X_sumOf

set_option maxHeartbeats 4000000 in
set_option maxRecDepth 100000 in
theorem c_X_weightedOf (l : Launch) (D : va_G) (q k : Nat → Nat) (d bl : Nat) (rd : Int32) (ex lg ce de : Nat → Int32) (a : Nat) (b o : Int32) (hT : TB ex lg) (hd : d ≤ 20) (ha : a < 40) : rdM l D (wX q k d bl rd ex lg ce de) (kX k) y_X_weightedOf b_X_weightedOf 6 (some .int) 1 [.ref (q 0), .int (nI (a)), .int b, .int o] (fun r => r = ps d (xf (fun k => tp k (ce (40 * k + a))) b o)) := by
  refine rdM.of (own := "TwoLost") (by decide) rfl (Nat.le_of_ble_eq_true rfl) ?_
  intro p e s m args below meth c Q C hK hP hret ls hl
  have hl : lv_has ls 6 [(0, .ref (q 0)), (1, .int (nI (a))), (2, .int b), (3, .int o)] := hl
  refine lv_iconst (v := nI 0) C.1 C.2.1 d_X_weightedOf_0 (by decide) ?_
  refine lv_istore (lv' := [(4, .int (nI (0))), (0, .ref (q 0)), (1, .int (nI (a))), (2, .int b), (3, .int o)]) C.1 C.2.1 d_X_weightedOf_1 hl (by decide) rfl (fun ls hl => ?_)
  refine lv_iconst (v := nI 0) C.1 C.2.1 d_X_weightedOf_3 (by decide) ?_
  refine lv_istore (lv' := [(5, .int (nI (0))), (4, .int (nI (0))), (0, .ref (q 0)), (1, .int (nI (a))), (2, .int b), (3, .int o)]) C.1 C.2.1 d_X_weightedOf_4 hl (by decide) rfl (fun ls hl => ?_)
  have loop : ∀ (n i : Nat) (v : Int32), i ≤ d → d + 1 ≤ i + n → v = ps i (xf (fun k => tp k (ce (40 * k + a))) b o) → ∀ ls, lv_has ls 6 [(5, .int (nI i)), (4, .int v), (0, .ref (q 0)), (1, .int (nI a)), (2, .int b), (3, .int o)] → W p l e (rmL 1 0 0) s m args below meth c s.heap [] 0 0 Q (F0 m 6 ls []) := by
    intro n
    induction n with
    | zero => intro i v h1 h2; exact absurd h2 (by omega)
    | succ n ih =>
      intro i v hi hin ev ls hl
      have hx := xf_step (d := i) (fun k => tp k (ce (40 * k + a))) b o
      refine lv_iload C.1 C.2.1 d_X_weightedOf_6 (lv_at hl 0 rfl) ?_
      refine lv_aload_n C.1 C.2.1 d_X_weightedOf_8 rfl (lv_at hl 2 rfl) ?_
      refine gx_d C hK hP d_X_weightedOf_9 ?_
      refine bn_ge (tgt := 56) C d_X_weightedOf_12 (by decide) (by omega) (by omega) (fun h12 => ?_) (fun h12 => ?_)
      · refine lv_iload C.1 C.2.1 d_X_weightedOf_56 (lv_at hl 1 rfl) ?_
        refine hret d_X_weightedOf_58 rfl ?_
        show v = _
        rw [ev, show i = d by omega]
      · refine lv_iload C.1 C.2.1 d_X_weightedOf_15 (lv_at hl 0 rfl) ?_
        refine lv_iload_n C.1 C.2.1 d_X_weightedOf_17 rfl (lv_at hl 4 rfl) ?_
        refine lv_icmp_eq (tgt := 50) C.1 C.2.1 d_X_weightedOf_18 (by decide) (fun h18 => ?_) (fun h18 => ?_)
        · refine lv_iinc (v := nI (i + 1)) (lv' := [(5, .int (nI (i + 1))), (4, .int v), (0, .ref (q 0)), (1, .int (nI (a))), (2, .int b), (3, .int o)]) C.1 C.2.1 d_X_weightedOf_50 hl (k := 0) rfl (by exact nI_add _ _) (by decide) rfl (fun ls hl => ?_)
          refine lv_goto (tgt := 6) C.1 C.2.1 d_X_weightedOf_53 (by decide) ?_
          exact ih (i + 1) v (by omega) (by omega) (by rw [hx.1 (Or.inl h18), ev]) ls (lv_sub hl [0, 1, 2, 3, 4, 5] rfl)
        · refine lv_iload C.1 C.2.1 d_X_weightedOf_21 (lv_at hl 0 rfl) ?_
          refine lv_iload_n C.1 C.2.1 d_X_weightedOf_23 rfl (lv_at hl 5 rfl) ?_
          refine lv_icmp_eq (tgt := 50) C.1 C.2.1 d_X_weightedOf_24 (by decide) (fun h24 => ?_) (fun h24 => ?_)
          · refine lv_iinc (v := nI (i + 1)) (lv' := [(5, .int (nI (i + 1))), (4, .int v), (0, .ref (q 0)), (1, .int (nI (a))), (2, .int b), (3, .int o)]) C.1 C.2.1 d_X_weightedOf_50 hl (k := 0) rfl (by exact nI_add _ _) (by decide) rfl (fun ls hl => ?_)
            refine lv_goto (tgt := 6) C.1 C.2.1 d_X_weightedOf_53 (by decide) ?_
            exact ih (i + 1) v (by omega) (by omega) (by rw [hx.1 (Or.inr h24), ev]) ls (lv_sub hl [0, 1, 2, 3, 4, 5] rfl)
          · refine lv_iload C.1 C.2.1 d_X_weightedOf_27 (lv_at hl 1 rfl) ?_
            refine lv_aload_n C.1 C.2.1 d_X_weightedOf_29 rfl (lv_at hl 2 rfl) ?_
            refine lv_aload_n C.1 C.2.1 d_X_weightedOf_30 rfl (lv_at hl 2 rfl) ?_
            refine gx_ce C hK hP d_X_weightedOf_31 ?_
            refine lv_aload_n C.1 C.2.1 d_X_weightedOf_34 rfl (lv_at hl 2 rfl) ?_
            refine lv_iload C.1 C.2.1 d_X_weightedOf_35 (lv_at hl 0 rfl) ?_
            refine lv_iload_n C.1 C.2.1 d_X_weightedOf_37 rfl (lv_at hl 3 rfl) ?_
            refine k_X_at C hK hP ⟨Nat.le_of_ble_eq_true rfl, Nat.le_of_ble_eq_true rfl⟩ ⟨Nat.le_of_ble_eq_true rfl, Nat.le_of_ble_eq_true rfl⟩ hl.1 (Nat.le_of_ble_eq_true rfl) d_X_weightedOf_38 (?_)
            refine xl_ce C hK hP (j := 40 * i + a) (by omega) d_X_weightedOf_41 ?_
            refine lv_iload C.1 C.2.1 d_X_weightedOf_42 (lv_at hl 0 rfl) ?_
            refine k_X_times C hK hP hT (by omega) ⟨Nat.le_of_ble_eq_true rfl, Nat.le_of_ble_eq_true rfl⟩ ⟨Nat.le_of_ble_eq_true rfl, Nat.le_of_ble_eq_true rfl⟩ hl.1 (Nat.le_of_ble_eq_true rfl) d_X_weightedOf_44 (?_)
            refine lv_ixor C.1 C.2.1 d_X_weightedOf_47 ?_
            refine lv_topi (fun x e_x => ?_)
            refine lv_istore (lv' := [(4, .int x), (5, .int (nI (i))), (0, .ref (q 0)), (1, .int (nI (a))), (2, .int b), (3, .int o)]) C.1 C.2.1 d_X_weightedOf_48 hl (by decide) rfl (fun ls hl => ?_)
            refine lv_iinc (v := nI (i + 1)) (lv' := [(5, .int (nI (i + 1))), (4, .int x), (0, .ref (q 0)), (1, .int (nI (a))), (2, .int b), (3, .int o)]) C.1 C.2.1 d_X_weightedOf_50 hl (k := 1) rfl (by exact nI_add _ _) (by decide) rfl (fun ls hl => ?_)
            refine lv_goto (tgt := 6) C.1 C.2.1 d_X_weightedOf_53 (by decide) ?_
            exact ih (i + 1) x (by omega) (by omega) (by rw [hx.2 (fun z => z.elim h18 h24), e_x, ev]) ls (lv_sub hl [0, 1, 2, 3, 4, 5] rfl)
  exact loop (d + 1) 0 _ (by omega) (by omega) rfl ls (lv_sub hl [0, 1, 2, 3, 4, 5] rfl)

section K_X_weightedOf
variable {p : Program} {l : Launch} {e : Env} {R : Room} {s : State} {m : MethodId} {args : Array Value} {below : List Frame} {meth : Method} {c : Code} {H H0 : Heap} {locs : List Loc} {cells slots nL : Nat} {Q : State → Prop}
variable {cc : ByteArray} {pc : Nat} {ls : Array Slot} {rest : List Value} {D : va_G} {A : Nat → Prop} {own : String}
variable {q k : Nat → Nat} {d bl : Nat} {rd : Int32} {ex lg ce de mp kp fl : Nat → Int32}

theorem k_X_weightedOf {a : Nat} {b o : Int32} (C : CallFix p m c cc nL s args tb "TwoLost") (hK : va_K D classes (kX k) s) (hP : va_P D classes (wX q k d bl rd ex lg ce de) H) (hT : TB ex lg) (hd : d ≤ 20) (ha : a < 40) (hR : 2 ≤ R.frames ∧ 25 * 2 ≤ R.locals) (hf : cells ≤ R.cells ∧ slots ≤ R.slots) (hls : ls.size = nL) (hrest : (rest.map fun v => v.category).sum ≤ 8) (hdg : decode cc pc = .ok (.invokevirtual 52, 3)) (kk : W p l e R s m args below meth c H locs cells slots Q (F0 m (pc + 3) ls (.int (ps d (xf (fun k => tp k (ce (40 * k + a))) b o)) :: rest))) : W p l e R s m args below meth c H locs cells slots Q (F0 m pc ls (.int o :: .int b :: .int (nI a) :: .ref (q 0) :: rest)) := rdM.call (nA := 3) (ci := 0) (cq := (R_X, F_X, 7)) (c_X_weightedOf l D q k d bl rd ex lg ce de a b o hT hd ha) C hK hP g_X_X_weightedOf rfl rfl (by decide +kernel) rfl (by decide) hR hf hls hrest hdg rfl (fun r hr => by subst hr; exact kk)

end K_X_weightedOf

set_option maxHeartbeats 4000000 in
set_option maxRecDepth 100000 in
theorem c_X_otherLost (l : Launch) (D : va_G) (q k : Nat → Nat) (d bl : Nat) (rd : Int32) (ex lg ce de : Nat → Int32) (x : Nat) (hd : d ≤ 20) (hx : x < d) : rdM l D (wX q k d bl rd ex lg ce de) (kX k) y_X_otherLost b_X_otherLost 3 (some .int) 0 [.ref (q 0), .int (nI (x))] (fun r => (r = -1 ∧ ∀ j, j < d → j ≠ x → de j = 0) ∨ ∃ y, y < d ∧ y ≠ x ∧ ¬ de y = 0 ∧ r = nI y) := by
  refine rdM.of (own := "TwoLost") (by decide) rfl (Nat.le_of_ble_eq_true rfl) ?_
  intro p e s m args below meth c Q C hK hP hret ls hl
  have hl : lv_has ls 3 [(0, .ref (q 0)), (1, .int (nI (x)))] := hl
  refine lv_iconst (v := nI 0) C.1 C.2.1 d_X_otherLost_0 (by decide) ?_
  refine lv_istore_n (lv' := [(2, .int (nI (0))), (0, .ref (q 0)), (1, .int (nI (x)))]) C.1 C.2.1 d_X_otherLost_1 rfl hl (by decide) rfl (fun ls hl => ?_)
  have loop : ∀ (n i : Nat), i ≤ d → d + 1 ≤ i + n → (∀ j, j < i → j ≠ x → de j = 0) → ∀ ls, lv_has ls 3 [(2, .int (nI i)), (0, .ref (q 0)), (1, .int (nI x))] → W p l e (rmL 0 0 0) s m args below meth c s.heap [] 0 0 Q (F0 m 2 ls []) := by
    intro n
    induction n with
    | zero => intro i h1 h2; exact absurd h2 (by omega)
    | succ n ih =>
      intro i hi hin hz ls hl
      refine lv_iload_n C.1 C.2.1 d_X_otherLost_2 rfl (lv_at hl 0 rfl) ?_
      refine lv_aload_n C.1 C.2.1 d_X_otherLost_3 rfl (lv_at hl 1 rfl) ?_
      refine gx_d C hK hP d_X_otherLost_4 ?_
      refine bn_ge (tgt := 32) C d_X_otherLost_7 (by decide) (by omega) (by omega) (fun h7 => ?_) (fun h7 => ?_)
      · refine lv_iconst (v := -1) C.1 C.2.1 d_X_otherLost_32 (by decide) ?_
        exact hret d_X_otherLost_33 rfl (Or.inl ⟨rfl, fun j hj hjx => hz j (by omega) hjx⟩)
      · refine lv_iload_n C.1 C.2.1 d_X_otherLost_10 rfl (lv_at hl 0 rfl) ?_
        refine lv_iload_n C.1 C.2.1 d_X_otherLost_11 rfl (lv_at hl 2 rfl) ?_
        refine bn_eq (tgt := 26) C d_X_otherLost_12 (by decide) (by omega) (by omega) (fun h12 => ?_) (fun h12 => ?_)
        · refine lv_iinc (v := nI (i + 1)) (lv' := [(2, .int (nI (i + 1))), (0, .ref (q 0)), (1, .int (nI (x)))]) C.1 C.2.1 d_X_otherLost_26 hl (k := 0) rfl (by exact nI_add _ _) (by decide) rfl (fun ls hl => ?_)
          refine lv_goto (tgt := 2) C.1 C.2.1 d_X_otherLost_29 (by decide) ?_
          exact ih (i + 1) (by omega) (by omega) (fun j hj hjx => hz j (by omega) hjx) ls hl
        · refine lv_aload_n C.1 C.2.1 d_X_otherLost_15 rfl (lv_at hl 1 rfl) ?_
          refine gx_de C hK hP d_X_otherLost_16 ?_
          refine lv_iload_n C.1 C.2.1 d_X_otherLost_19 rfl (lv_at hl 0 rfl) ?_
          refine xl_de C hK hP (j := i) (by omega) d_X_otherLost_20 ?_
          refine lv_if_eq (tgt := 26) C.1 C.2.1 d_X_otherLost_21 (by decide) (fun h21 => ?_) (fun h21 => ?_)
          · refine lv_iinc (v := nI (i + 1)) (lv' := [(2, .int (nI (i + 1))), (0, .ref (q 0)), (1, .int (nI (x)))]) C.1 C.2.1 d_X_otherLost_26 hl (k := 0) rfl (by exact nI_add _ _) (by decide) rfl (fun ls hl => ?_)
            refine lv_goto (tgt := 2) C.1 C.2.1 d_X_otherLost_29 (by decide) ?_
            exact ih (i + 1) (by omega) (by omega) (fun j hj hjx => by
              rcases Nat.lt_or_ge j i with z | z
              · exact hz j z hjx
              · rw [show j = i by omega]; exact h21) ls hl
          · refine lv_iload_n C.1 C.2.1 d_X_otherLost_24 rfl (lv_at hl 0 rfl) ?_
            exact hret d_X_otherLost_25 rfl (Or.inr ⟨i, by omega, h12, h21, rfl⟩)
  exact loop (d + 1) 0 (by omega) (by omega) (fun j hj => absurd hj (by omega)) ls hl

section K_ol
variable {p : Program} {l : Launch} {e : Env} {R : Room} {s : State} {m : MethodId} {args : Array Value} {below : List Frame} {meth : Method} {c : Code} {H H0 : Heap} {locs : List Loc} {cells slots nL : Nat} {Q : State → Prop}
variable {cc : ByteArray} {pc : Nat} {ls : Array Slot} {rest : List Value} {D : va_G} {A : Nat → Prop} {own : String}
variable {q k : Nat → Nat} {d bl : Nat} {rd : Int32} {ex lg ce de mp kp fl : Nat → Int32}

theorem k_X_otherLost {x : Nat} (C : CallFix p m c cc nL s args tb "TwoLost") (hK : va_K D classes (kX k) s) (hP : va_P D classes (wX q k d bl rd ex lg ce de) H) (hd : d ≤ 20) (hx : x < d) (hR : 1 ≤ R.frames ∧ 25 * 1 ≤ R.locals) (hf : cells ≤ R.cells ∧ slots ≤ R.slots) (hls : ls.size = nL) (hrest : (rest.map fun v => v.category).sum ≤ 8) (hdg : decode cc pc = .ok (.invokevirtual 44, 3)) (kk : ∀ r : Int32, ((r = -1 ∧ ∀ j, j < d → j ≠ x → de j = 0) ∨ ∃ y, y < d ∧ y ≠ x ∧ ¬ de y = 0 ∧ r = nI y) → W p l e R s m args below meth c H locs cells slots Q (F0 m (pc + 3) ls (.int r :: rest))) : W p l e R s m args below meth c H locs cells slots Q (F0 m pc ls (.int (nI x) :: .ref (q 0) :: rest)) := rdM.call (nA := 1) (ci := 0) (cq := (R_X, F_X, 7)) (c_X_otherLost l D q k d bl rd ex lg ce de x hd hx) C hK hP g_X_X_otherLost rfl rfl (by decide +kernel) rfl (by decide) hR hf hls hrest hdg rfl (fun r hr => kk r hr)

end K_ol
end
section
/-! PART 10: TwoLost, methods that only read: found, valueOf, isCell, read, lost, alive, raw, isSound, scrub, within (printed by gen_x2.py) -/
abbrev okC (rd u v n b : Int32) : Prop := ¬ rd = 0 ∧ ¬ u < 0 ∧ u < n ∧ ¬ v < 0 ∧ v < b
abbrev okD (rd u n : Int32) : Prop := ¬ rd = 0 ∧ ¬ u < 0 ∧ u < n
theorem ok_n {u : Int32} {n : Nat} (hn : n < 2 ^ 31) (h0 : ¬ u < 0) (h1 : u < nI n) : ∃ i, i < n ∧ u = nI i := by
  obtain ⟨i, hi, e⟩ := nI_of h0
  subst e
  exact ⟨i, (nI_ltI hi hn).mp h1, rfl⟩
def XI (d bl : Nat) (M ex lg ce de : Nat → Int32) : Prop := TB ex lg ∧ AL d bl M ce de ∧ cnt (d + 2) de ≤ 2

set_option maxHeartbeats 4000000 in
set_option maxRecDepth 100000 in
theorem c_X_found (l : Launch) (D : va_G) (q k : Nat → Nat) (d bl : Nat) (rd : Int32) (ex lg ce de : Nat → Int32) (M : Nat → Int32) (x a : Nat) (hI : XI d bl M ex lg ce de) (hd : d ≤ 20) (hbl : bl ≤ 40) (hx : x < d) (ha : a < bl) (hdx : ¬ de x = 0) : rdM l D (wX q k d bl rd ex lg ce de) (kX k) y_X_found b_X_found 6 (some .int) 2 [.ref (q 0), .int (nI (x)), .int (nI (a))] (fun r => r = M (40 * x + a)) := by
  refine rdM.of (own := "TwoLost") (by decide) rfl (Nat.le_of_ble_eq_true rfl) ?_
  intro p e s m args below meth c Q C hK hP hret ls hl
  have hl : lv_has ls 6 [(0, .ref (q 0)), (1, .int (nI (x))), (2, .int (nI (a)))] := hl
  obtain ⟨hT, hA, h2⟩ := hI
  refine lv_aload_n C.1 C.2.1 d_X_found_0 rfl (lv_at hl 0 rfl) ?_
  refine lv_iload_n C.1 C.2.1 d_X_found_1 rfl (lv_at hl 1 rfl) ?_
  refine k_X_otherLost C hK hP hd hx ⟨Nat.le_of_ble_eq_true rfl, Nat.le_of_ble_eq_true rfl⟩ ⟨Nat.le_of_ble_eq_true rfl, Nat.le_of_ble_eq_true rfl⟩ hl.1 (Nat.le_of_ble_eq_true rfl) d_X_found_2 (fun r hr => ?_)
  rcases hr with ⟨rfl, hz⟩ | ⟨y, hy, hyx, hdy, rfl⟩
  · refine lv_istore_n (lv' := [(3, .int (-1)), (0, .ref (q 0)), (1, .int (nI (x))), (2, .int (nI (a)))]) C.1 C.2.1 d_X_found_5 rfl hl (by decide) rfl (fun ls hl => ?_)
    refine lv_iload_n C.1 C.2.1 d_X_found_6 rfl (lv_at hl 0 rfl) ?_
    refine lv_if_ge (tgt := 83) C.1 C.2.1 d_X_found_7 (by decide) (fun h7 => ?_) (fun h7 => ?_)
    · exact absurd h7 (by decide)
    · refine lv_aload_n C.1 C.2.1 d_X_found_10 rfl (lv_at hl 1 rfl) ?_
      refine gx_de C hK hP d_X_found_11 ?_
      refine lv_aload_n C.1 C.2.1 d_X_found_14 rfl (lv_at hl 1 rfl) ?_
      refine gx_d C hK hP d_X_found_15 ?_
      refine xl_de C hK hP (j := d) (by omega) d_X_found_18 ?_
      refine lv_if_ne (tgt := 45) C.1 C.2.1 d_X_found_19 (by decide) (fun h19 => ?_) (fun h19 => ?_)
      · have hq : de (d + 1) = 0 := lost2 h2 (show x < d + 2 by omega) (show d < d + 2 by omega) (by omega) (by omega) (by omega) (by omega) hdx h19
        refine lv_aload_n C.1 C.2.1 d_X_found_45 rfl (lv_at hl 1 rfl) ?_
        refine lv_aload_n C.1 C.2.1 d_X_found_46 rfl (lv_at hl 1 rfl) ?_
        refine gx_ce C hK hP d_X_found_47 ?_
        refine lv_aload_n C.1 C.2.1 d_X_found_50 rfl (lv_at hl 1 rfl) ?_
        refine lv_aload_n C.1 C.2.1 d_X_found_51 rfl (lv_at hl 1 rfl) ?_
        refine gx_d C hK hP d_X_found_52 ?_
        refine lv_iconst (v := nI 1) C.1 C.2.1 d_X_found_55 (by decide) ?_
        refine lv_iadd C.1 C.2.1 d_X_found_56 ?_
        refine lv_eq (nI_add _ _) ?_
        refine lv_iload_n C.1 C.2.1 d_X_found_57 rfl (lv_at hl 3 rfl) ?_
        refine k_X_at C hK hP ⟨Nat.le_of_ble_eq_true rfl, Nat.le_of_ble_eq_true rfl⟩ ⟨Nat.le_of_ble_eq_true rfl, Nat.le_of_ble_eq_true rfl⟩ hl.1 (Nat.le_of_ble_eq_true rfl) d_X_found_58 (?_)
        refine xl_ce C hK hP (j := 40 * (d + 1) + a) (by omega) d_X_found_61 ?_
        refine lv_aload_n C.1 C.2.1 d_X_found_62 rfl (lv_at hl 1 rfl) ?_
        refine lv_iload_n C.1 C.2.1 d_X_found_63 rfl (lv_at hl 3 rfl) ?_
        refine lv_iload_n C.1 C.2.1 d_X_found_64 rfl (lv_at hl 2 rfl) ?_
        refine lv_iconst (v := -1) C.1 C.2.1 d_X_found_65 (by decide) ?_
        refine k_X_weightedOf C hK hP hT hd (by omega) ⟨Nat.le_of_ble_eq_true rfl, Nat.le_of_ble_eq_true rfl⟩ ⟨Nat.le_of_ble_eq_true rfl, Nat.le_of_ble_eq_true rfl⟩ hl.1 (Nat.le_of_ble_eq_true rfl) d_X_found_66 (?_)
        refine lv_ixor C.1 C.2.1 d_X_found_69 ?_
        refine lv_sipush (v := nI 255) C.1 C.2.1 d_X_found_70 (by decide) ?_
        refine lv_iload_n C.1 C.2.1 d_X_found_73 rfl (lv_at hl 2 rfl) ?_
        refine lv_isub C.1 C.2.1 d_X_found_74 ?_
        refine lv_eq (pk_sub (by omega)) ?_
        refine lv_sipush (v := nI 255) C.1 C.2.1 d_X_found_75 (by decide) ?_
        refine lv_irem C.1 C.2.1 d_X_found_78 (by decide) ?_
        refine lv_eq (pk_rem (by omega) (by omega) (by omega)) ?_
        refine k_X_times C hK hP hT (Nat.mod_lt _ (by omega)) ⟨Nat.le_of_ble_eq_true rfl, Nat.le_of_ble_eq_true rfl⟩ ⟨Nat.le_of_ble_eq_true rfl, Nat.le_of_ble_eq_true rfl⟩ hl.1 (Nat.le_of_ble_eq_true rfl) d_X_found_79 (?_)
        exact hret d_X_found_82 rfl (fd2 hd hx ha hA hz hq)
      · refine lv_aload_n C.1 C.2.1 d_X_found_22 rfl (lv_at hl 1 rfl) ?_
        refine gx_ce C hK hP d_X_found_23 ?_
        refine lv_aload_n C.1 C.2.1 d_X_found_26 rfl (lv_at hl 1 rfl) ?_
        refine lv_aload_n C.1 C.2.1 d_X_found_27 rfl (lv_at hl 1 rfl) ?_
        refine gx_d C hK hP d_X_found_28 ?_
        refine lv_iload_n C.1 C.2.1 d_X_found_31 rfl (lv_at hl 3 rfl) ?_
        refine k_X_at C hK hP ⟨Nat.le_of_ble_eq_true rfl, Nat.le_of_ble_eq_true rfl⟩ ⟨Nat.le_of_ble_eq_true rfl, Nat.le_of_ble_eq_true rfl⟩ hl.1 (Nat.le_of_ble_eq_true rfl) d_X_found_32 (?_)
        refine xl_ce C hK hP (j := 40 * d + a) (by omega) d_X_found_35 ?_
        refine lv_aload_n C.1 C.2.1 d_X_found_36 rfl (lv_at hl 1 rfl) ?_
        refine lv_iload_n C.1 C.2.1 d_X_found_37 rfl (lv_at hl 3 rfl) ?_
        refine lv_iload_n C.1 C.2.1 d_X_found_38 rfl (lv_at hl 2 rfl) ?_
        refine lv_iconst (v := -1) C.1 C.2.1 d_X_found_39 (by decide) ?_
        refine k_X_sumOf C hK hP hd (by omega) ⟨Nat.le_of_ble_eq_true rfl, Nat.le_of_ble_eq_true rfl⟩ ⟨Nat.le_of_ble_eq_true rfl, Nat.le_of_ble_eq_true rfl⟩ hl.1 (Nat.le_of_ble_eq_true rfl) d_X_found_40 (?_)
        refine lv_ixor C.1 C.2.1 d_X_found_43 ?_
        exact hret d_X_found_44 rfl (fd1 hd hx ha hA hz h19)
  · have hp0 : de d = 0 := lost2 h2 (show x < d + 2 by omega) (show y < d + 2 by omega) (by omega) (Ne.symm hyx) (by omega) (by omega) hdx hdy
    have hq0 : de (d + 1) = 0 := lost2 h2 (show x < d + 2 by omega) (show y < d + 2 by omega) (by omega) (Ne.symm hyx) (by omega) (by omega) hdx hdy
    have ho : ∀ j, j < d → j ≠ x → j ≠ y → de j = 0 := fun j hj h3 h4 => lost2 h2 (show x < d + 2 by omega) (show y < d + 2 by omega) (by omega) (Ne.symm hyx) h3 h4 hdx hdy
    obtain ⟨hl0, hl1⟩ := e_xor (x := x) (y := y) (by omega) (by omega) (Ne.symm hyx)
    refine lv_istore_n (lv' := [(3, .int (nI (y))), (0, .ref (q 0)), (1, .int (nI (x))), (2, .int (nI (a)))]) C.1 C.2.1 d_X_found_5 rfl hl (by decide) rfl (fun ls hl => ?_)
    refine lv_iload_n C.1 C.2.1 d_X_found_6 rfl (lv_at hl 0 rfl) ?_
    refine lv_if_ge (tgt := 83) C.1 C.2.1 d_X_found_7 (by decide) (fun h7 => ?_) (fun h7 => ?_)
    · refine lv_aload_n C.1 C.2.1 d_X_found_83 rfl (lv_at hl 1 rfl) ?_
      refine gx_ce C hK hP d_X_found_84 ?_
      refine lv_aload_n C.1 C.2.1 d_X_found_87 rfl (lv_at hl 1 rfl) ?_
      refine lv_aload_n C.1 C.2.1 d_X_found_88 rfl (lv_at hl 1 rfl) ?_
      refine gx_d C hK hP d_X_found_89 ?_
      refine lv_iload_n C.1 C.2.1 d_X_found_92 rfl (lv_at hl 3 rfl) ?_
      refine k_X_at C hK hP ⟨Nat.le_of_ble_eq_true rfl, Nat.le_of_ble_eq_true rfl⟩ ⟨Nat.le_of_ble_eq_true rfl, Nat.le_of_ble_eq_true rfl⟩ hl.1 (Nat.le_of_ble_eq_true rfl) d_X_found_93 (?_)
      refine xl_ce C hK hP (j := 40 * d + a) (by omega) d_X_found_96 ?_
      refine lv_aload_n C.1 C.2.1 d_X_found_97 rfl (lv_at hl 1 rfl) ?_
      refine lv_iload_n C.1 C.2.1 d_X_found_98 rfl (lv_at hl 3 rfl) ?_
      refine lv_iload_n C.1 C.2.1 d_X_found_99 rfl (lv_at hl 2 rfl) ?_
      refine lv_iload_n C.1 C.2.1 d_X_found_100 rfl (lv_at hl 0 rfl) ?_
      refine k_X_sumOf C hK hP hd (by omega) ⟨Nat.le_of_ble_eq_true rfl, Nat.le_of_ble_eq_true rfl⟩ ⟨Nat.le_of_ble_eq_true rfl, Nat.le_of_ble_eq_true rfl⟩ hl.1 (Nat.le_of_ble_eq_true rfl) d_X_found_101 (?_)
      refine lv_ixor C.1 C.2.1 d_X_found_104 ?_
      refine lv_topi (fun pv e_pv => ?_)
      refine lv_istore (lv' := [(4, .int pv), (3, .int (nI (y))), (0, .ref (q 0)), (1, .int (nI (x))), (2, .int (nI (a)))]) C.1 C.2.1 d_X_found_105 hl (by decide) rfl (fun ls hl => ?_)
      refine lv_aload_n C.1 C.2.1 d_X_found_107 rfl (lv_at hl 2 rfl) ?_
      refine gx_ce C hK hP d_X_found_108 ?_
      refine lv_aload_n C.1 C.2.1 d_X_found_111 rfl (lv_at hl 2 rfl) ?_
      refine lv_aload_n C.1 C.2.1 d_X_found_112 rfl (lv_at hl 2 rfl) ?_
      refine gx_d C hK hP d_X_found_113 ?_
      refine lv_iconst (v := nI 1) C.1 C.2.1 d_X_found_116 (by decide) ?_
      refine lv_iadd C.1 C.2.1 d_X_found_117 ?_
      refine lv_eq (nI_add _ _) ?_
      refine lv_iload_n C.1 C.2.1 d_X_found_118 rfl (lv_at hl 4 rfl) ?_
      refine k_X_at C hK hP ⟨Nat.le_of_ble_eq_true rfl, Nat.le_of_ble_eq_true rfl⟩ ⟨Nat.le_of_ble_eq_true rfl, Nat.le_of_ble_eq_true rfl⟩ hl.1 (Nat.le_of_ble_eq_true rfl) d_X_found_119 (?_)
      refine xl_ce C hK hP (j := 40 * (d + 1) + a) (by omega) d_X_found_122 ?_
      refine lv_aload_n C.1 C.2.1 d_X_found_123 rfl (lv_at hl 2 rfl) ?_
      refine lv_iload_n C.1 C.2.1 d_X_found_124 rfl (lv_at hl 4 rfl) ?_
      refine lv_iload_n C.1 C.2.1 d_X_found_125 rfl (lv_at hl 3 rfl) ?_
      refine lv_iload_n C.1 C.2.1 d_X_found_126 rfl (lv_at hl 1 rfl) ?_
      refine k_X_weightedOf C hK hP hT hd (by omega) ⟨Nat.le_of_ble_eq_true rfl, Nat.le_of_ble_eq_true rfl⟩ ⟨Nat.le_of_ble_eq_true rfl, Nat.le_of_ble_eq_true rfl⟩ hl.1 (Nat.le_of_ble_eq_true rfl) d_X_found_127 (?_)
      refine lv_ixor C.1 C.2.1 d_X_found_130 ?_
      refine lv_topi (fun qv e_qv => ?_)
      refine lv_istore (lv' := [(5, .int qv), (4, .int pv), (3, .int (nI (y))), (0, .ref (q 0)), (1, .int (nI (x))), (2, .int (nI (a)))]) C.1 C.2.1 d_X_found_131 hl (by decide) rfl (fun ls hl => ?_)
      refine lv_aload_n C.1 C.2.1 d_X_found_133 rfl (lv_at hl 3 rfl) ?_
      refine lv_iload C.1 C.2.1 d_X_found_134 (lv_at hl 0 rfl) ?_
      refine lv_aload_n C.1 C.2.1 d_X_found_136 rfl (lv_at hl 3 rfl) ?_
      refine lv_iload C.1 C.2.1 d_X_found_137 (lv_at hl 1 rfl) ?_
      refine lv_iload_n C.1 C.2.1 d_X_found_139 rfl (lv_at hl 2 rfl) ?_
      refine k_X_times C hK hP hT (by omega) ⟨Nat.le_of_ble_eq_true rfl, Nat.le_of_ble_eq_true rfl⟩ ⟨Nat.le_of_ble_eq_true rfl, Nat.le_of_ble_eq_true rfl⟩ hl.1 (Nat.le_of_ble_eq_true rfl) d_X_found_140 (?_)
      refine lv_ixor C.1 C.2.1 d_X_found_143 ?_
      refine lv_aload_n C.1 C.2.1 d_X_found_144 rfl (lv_at hl 3 rfl) ?_
      refine gx_ex C hK hP d_X_found_145 ?_
      refine lv_iload_n C.1 C.2.1 d_X_found_148 rfl (lv_at hl 4 rfl) ?_
      refine xl_ex C hK hP (j := x) (by omega) d_X_found_149 ?_
      refine lv_aload_n C.1 C.2.1 d_X_found_150 rfl (lv_at hl 3 rfl) ?_
      refine gx_ex C hK hP d_X_found_151 ?_
      refine lv_iload_n C.1 C.2.1 d_X_found_154 rfl (lv_at hl 2 rfl) ?_
      refine xl_ex C hK hP (j := y) (by omega) d_X_found_155 ?_
      refine lv_ixor C.1 C.2.1 d_X_found_156 ?_
      refine lv_eq (y := nI (eN x ^^^ eN y)) (by rw [hT.1 x (by omega), hT.1 y (by omega), Nat.mod_eq_of_lt (by omega), Nat.mod_eq_of_lt (by omega), nx_xor]) ?_
      refine k_X_over C hK hP hT hl1 hl0 ⟨Nat.le_of_ble_eq_true rfl, Nat.le_of_ble_eq_true rfl⟩ ⟨Nat.le_of_ble_eq_true rfl, Nat.le_of_ble_eq_true rfl⟩ hl.1 (Nat.le_of_ble_eq_true rfl) d_X_found_157 (?_)
      refine hret d_X_found_160 rfl ?_
      show tp _ _ = _
      rw [e_qv, e_pv, fd3q hd hx hy (Ne.symm hyx) ha hA ho hq0, fd3p hd hx hy (Ne.symm hyx) ha hA ho hp0, fd3 hd hx hy (Ne.symm hyx)]
    · exact absurd (nI_pos' (by omega)) h7

section K_f
variable {p : Program} {l : Launch} {e : Env} {R : Room} {s : State} {m : MethodId} {args : Array Value} {below : List Frame} {meth : Method} {c : Code} {H H0 : Heap} {locs : List Loc} {cells slots nL : Nat} {Q : State → Prop}
variable {cc : ByteArray} {pc : Nat} {ls : Array Slot} {rest : List Value} {D : va_G} {A : Nat → Prop} {own : String}
variable {q k : Nat → Nat} {d bl : Nat} {rd : Int32} {ex lg ce de mp kp fl : Nat → Int32}

theorem k_X_found {M : Nat → Int32} {x a : Nat} (C : CallFix p m c cc nL s args tb "TwoLost") (hK : va_K D classes (kX k) s) (hP : va_P D classes (wX q k d bl rd ex lg ce de) H) (hI : XI d bl M ex lg ce de) (hd : d ≤ 20) (hbl : bl ≤ 40) (hx : x < d) (ha : a < bl) (hdx : ¬ de x = 0) (hR : 3 ≤ R.frames ∧ 25 * 3 ≤ R.locals) (hf : cells ≤ R.cells ∧ slots ≤ R.slots) (hls : ls.size = nL) (hrest : (rest.map fun v => v.category).sum ≤ 8) (hdg : decode cc pc = .ok (.invokevirtual 58, 3)) (kk : W p l e R s m args below meth c H locs cells slots Q (F0 m (pc + 3) ls (.int (M (40 * x + a)) :: rest))) : W p l e R s m args below meth c H locs cells slots Q (F0 m pc ls (.int (nI a) :: .int (nI x) :: .ref (q 0) :: rest)) := rdM.call (nA := 2) (ci := 0) (cq := (R_X, F_X, 7)) (c_X_found l D q k d bl rd ex lg ce de M x a hI hd hbl hx ha hdx) C hK hP g_X_X_found rfl rfl (by decide +kernel) rfl (by decide) hR hf hls hrest hdg rfl (fun r hr => by subst hr; exact kk)

end K_f

set_option maxHeartbeats 4000000 in
set_option maxRecDepth 100000 in
theorem c_X_valueOf (l : Launch) (D : va_G) (q k : Nat → Nat) (d bl : Nat) (rd : Int32) (ex lg ce de : Nat → Int32) (M : Nat → Int32) (x a : Nat) (hI : XI d bl M ex lg ce de) (hd : d ≤ 20) (hbl : bl ≤ 40) (hx : x < d) (ha : a < bl) : rdM l D (wX q k d bl rd ex lg ce de) (kX k) y_X_valueOf b_X_valueOf 3 (some .int) 3 [.ref (q 0), .int (nI (x)), .int (nI (a))] (fun r => r = M (40 * x + a)) := by
  refine rdM.of (own := "TwoLost") (by decide) rfl (Nat.le_of_ble_eq_true rfl) ?_
  intro p e s m args below meth c Q C hK hP hret ls hl
  have hl : lv_has ls 3 [(0, .ref (q 0)), (1, .int (nI (x))), (2, .int (nI (a)))] := hl
  refine lv_aload_n C.1 C.2.1 d_X_valueOf_0 rfl (lv_at hl 0 rfl) ?_
  refine gx_de C hK hP d_X_valueOf_1 ?_
  refine lv_iload_n C.1 C.2.1 d_X_valueOf_4 rfl (lv_at hl 1 rfl) ?_
  refine xl_de C hK hP (j := x) (by omega) d_X_valueOf_5 ?_
  refine lv_if_eq (tgt := 18) C.1 C.2.1 d_X_valueOf_6 (by decide) (fun h6 => ?_) (fun h6 => ?_)
  · refine lv_aload_n C.1 C.2.1 d_X_valueOf_18 rfl (lv_at hl 0 rfl) ?_
    refine gx_ce C hK hP d_X_valueOf_19 ?_
    refine lv_aload_n C.1 C.2.1 d_X_valueOf_22 rfl (lv_at hl 0 rfl) ?_
    refine lv_iload_n C.1 C.2.1 d_X_valueOf_23 rfl (lv_at hl 1 rfl) ?_
    refine lv_iload_n C.1 C.2.1 d_X_valueOf_24 rfl (lv_at hl 2 rfl) ?_
    refine k_X_at C hK hP ⟨Nat.le_of_ble_eq_true rfl, Nat.le_of_ble_eq_true rfl⟩ ⟨Nat.le_of_ble_eq_true rfl, Nat.le_of_ble_eq_true rfl⟩ hl.1 (Nat.le_of_ble_eq_true rfl) d_X_valueOf_25 (?_)
    refine xl_ce C hK hP (j := 40 * x + a) (by omega) d_X_valueOf_28 ?_
    refine hret d_X_valueOf_29 rfl ?_
    show ce (40 * x + a) = _
    rw [hI.2.1 x a (by omega) ha h6, du_d hx]
  · refine lv_aload_n C.1 C.2.1 d_X_valueOf_9 rfl (lv_at hl 0 rfl) ?_
    refine lv_iload_n C.1 C.2.1 d_X_valueOf_10 rfl (lv_at hl 1 rfl) ?_
    refine lv_iload_n C.1 C.2.1 d_X_valueOf_11 rfl (lv_at hl 2 rfl) ?_
    refine k_X_found C hK hP hI hd hbl hx ha h6 ⟨Nat.le_of_ble_eq_true rfl, Nat.le_of_ble_eq_true rfl⟩ ⟨Nat.le_of_ble_eq_true rfl, Nat.le_of_ble_eq_true rfl⟩ hl.1 (Nat.le_of_ble_eq_true rfl) d_X_valueOf_12 (?_)
    refine lv_goto (tgt := 29) C.1 C.2.1 d_X_valueOf_15 (by decide) ?_
    exact hret d_X_valueOf_29 rfl rfl

section K_v
variable {p : Program} {l : Launch} {e : Env} {R : Room} {s : State} {m : MethodId} {args : Array Value} {below : List Frame} {meth : Method} {c : Code} {H H0 : Heap} {locs : List Loc} {cells slots nL : Nat} {Q : State → Prop}
variable {cc : ByteArray} {pc : Nat} {ls : Array Slot} {rest : List Value} {D : va_G} {A : Nat → Prop} {own : String}
variable {q k : Nat → Nat} {d bl : Nat} {rd : Int32} {ex lg ce de mp kp fl : Nat → Int32}

theorem k_X_valueOf {M : Nat → Int32} {x a : Nat} (C : CallFix p m c cc nL s args tb "TwoLost") (hK : va_K D classes (kX k) s) (hP : va_P D classes (wX q k d bl rd ex lg ce de) H) (hI : XI d bl M ex lg ce de) (hd : d ≤ 20) (hbl : bl ≤ 40) (hx : x < d) (ha : a < bl) (hR : 4 ≤ R.frames ∧ 25 * 4 ≤ R.locals) (hf : cells ≤ R.cells ∧ slots ≤ R.slots) (hls : ls.size = nL) (hrest : (rest.map fun v => v.category).sum ≤ 8) (hdg : decode cc pc = .ok (.invokevirtual 65, 3)) (kk : W p l e R s m args below meth c H locs cells slots Q (F0 m (pc + 3) ls (.int (M (40 * x + a)) :: rest))) : W p l e R s m args below meth c H locs cells slots Q (F0 m pc ls (.int (nI a) :: .int (nI x) :: .ref (q 0) :: rest)) := rdM.call (nA := 2) (ci := 0) (cq := (R_X, F_X, 7)) (c_X_valueOf l D q k d bl rd ex lg ce de M x a hI hd hbl hx ha) C hK hP g_X_X_valueOf rfl rfl (by decide +kernel) rfl (by decide) hR hf hls hrest hdg rfl (fun r hr => by subst hr; exact kk)

end K_v

set_option maxHeartbeats 4000000 in
set_option maxRecDepth 100000 in
theorem c_X_isCell (l : Launch) (D : va_G) (q k : Nat → Nat) (d bl : Nat) (rd : Int32) (ex lg ce de : Nat → Int32) (u v n : Int32) : rdM l D (wX q k d bl rd ex lg ce de) (kX k) y_X_isCell b_X_isCell 4 (some .boolean) 0 [.ref (q 0), .int u, .int v, .int n] (fun r => r = if okC rd u v n (nI bl) then nI 1 else nI 0) := by
  refine rdM.of (own := "TwoLost") (by decide) rfl (Nat.le_of_ble_eq_true rfl) ?_
  intro p e s m args below meth c Q C hK hP hret ls hl
  have hl : lv_has ls 4 [(0, .ref (q 0)), (1, .int u), (2, .int v), (3, .int n)] := hl
  refine lv_aload_n C.1 C.2.1 d_X_isCell_0 rfl (lv_at hl 0 rfl) ?_
  refine gx_rd C hK hP d_X_isCell_1 ?_
  refine lv_if_eq (tgt := 32) C.1 C.2.1 d_X_isCell_4 (by decide) (fun h4 => ?_) (fun h4 => ?_)
  · refine lv_iconst (v := nI 0) C.1 C.2.1 d_X_isCell_32 (by decide) ?_
    exact hret d_X_isCell_33 nz0 (if_neg (fun z => z.1 h4)).symm
  · refine lv_iload_n C.1 C.2.1 d_X_isCell_7 rfl (lv_at hl 1 rfl) ?_
    refine lv_if_lt (tgt := 32) C.1 C.2.1 d_X_isCell_8 (by decide) (fun h8 => ?_) (fun h8 => ?_)
    · refine lv_iconst (v := nI 0) C.1 C.2.1 d_X_isCell_32 (by decide) ?_
      exact hret d_X_isCell_33 nz0 (if_neg (fun z => z.2.1 h8)).symm
    · refine lv_iload_n C.1 C.2.1 d_X_isCell_11 rfl (lv_at hl 1 rfl) ?_
      refine lv_iload_n C.1 C.2.1 d_X_isCell_12 rfl (lv_at hl 3 rfl) ?_
      refine lv_icmp_ge (tgt := 32) C.1 C.2.1 d_X_isCell_13 (by decide) (fun h13 => ?_) (fun h13 => ?_)
      · refine lv_iconst (v := nI 0) C.1 C.2.1 d_X_isCell_32 (by decide) ?_
        exact hret d_X_isCell_33 nz0 (if_neg (fun z => Int32.not_lt.mpr h13 z.2.2.1)).symm
      · refine lv_iload_n C.1 C.2.1 d_X_isCell_16 rfl (lv_at hl 2 rfl) ?_
        refine lv_if_lt (tgt := 32) C.1 C.2.1 d_X_isCell_17 (by decide) (fun h17 => ?_) (fun h17 => ?_)
        · refine lv_iconst (v := nI 0) C.1 C.2.1 d_X_isCell_32 (by decide) ?_
          exact hret d_X_isCell_33 nz0 (if_neg (fun z => z.2.2.2.1 h17)).symm
        · refine lv_iload_n C.1 C.2.1 d_X_isCell_20 rfl (lv_at hl 2 rfl) ?_
          refine lv_aload_n C.1 C.2.1 d_X_isCell_21 rfl (lv_at hl 0 rfl) ?_
          refine gx_bl C hK hP d_X_isCell_22 ?_
          refine lv_icmp_ge (tgt := 32) C.1 C.2.1 d_X_isCell_25 (by decide) (fun h25 => ?_) (fun h25 => ?_)
          · refine lv_iconst (v := nI 0) C.1 C.2.1 d_X_isCell_32 (by decide) ?_
            exact hret d_X_isCell_33 nz0 (if_neg (fun z => Int32.not_lt.mpr h25 z.2.2.2.2)).symm
          · refine lv_iconst (v := nI 1) C.1 C.2.1 d_X_isCell_28 (by decide) ?_
            refine lv_goto (tgt := 33) C.1 C.2.1 d_X_isCell_29 (by decide) ?_
            exact hret d_X_isCell_33 nz1 (if_pos ⟨h4, h8, Int32.not_le.mp h13, h17, Int32.not_le.mp h25⟩).symm

section K_ic
variable {p : Program} {l : Launch} {e : Env} {R : Room} {s : State} {m : MethodId} {args : Array Value} {below : List Frame} {meth : Method} {c : Code} {H H0 : Heap} {locs : List Loc} {cells slots nL : Nat} {Q : State → Prop}
variable {cc : ByteArray} {pc : Nat} {ls : Array Slot} {rest : List Value} {D : va_G} {A : Nat → Prop} {own : String}
variable {q k : Nat → Nat} {d bl : Nat} {rd : Int32} {ex lg ce de mp kp fl : Nat → Int32}

theorem k_X_isCell {u v n : Int32} (C : CallFix p m c cc nL s args tb "TwoLost") (hK : va_K D classes (kX k) s) (hP : va_P D classes (wX q k d bl rd ex lg ce de) H) (hR : 1 ≤ R.frames ∧ 25 * 1 ≤ R.locals) (hf : cells ≤ R.cells ∧ slots ≤ R.slots) (hls : ls.size = nL) (hrest : (rest.map fun v => v.category).sum ≤ 8) (hdg : decode cc pc = .ok (.invokevirtual 61, 3)) (kk : W p l e R s m args below meth c H locs cells slots Q (F0 m (pc + 3) ls (.int (if okC rd u v n (nI bl) then nI 1 else nI 0) :: rest))) : W p l e R s m args below meth c H locs cells slots Q (F0 m pc ls (.int n :: .int v :: .int u :: .ref (q 0) :: rest)) := rdM.call (nA := 3) (ci := 0) (cq := (R_X, F_X, 7)) (c_X_isCell l D q k d bl rd ex lg ce de u v n) C hK hP g_X_X_isCell rfl rfl (by decide +kernel) rfl (by decide) hR hf hls hrest hdg rfl (fun r hr => by subst hr; exact kk)

end K_ic

set_option maxHeartbeats 4000000 in
set_option maxRecDepth 100000 in
theorem c_X_read (l : Launch) (D : va_G) (q k : Nat → Nat) (d bl : Nat) (rd : Int32) (ex lg ce de : Nat → Int32) (M : Nat → Int32) (u v : Int32) (hI : ¬ rd = 0 → XI d bl M ex lg ce de) (hd : d ≤ 20) (hbl : bl ≤ 40) : rdM l D (wX q k d bl rd ex lg ce de) (kX k) y_X_read b_X_read 3 (some .int) 4 [.ref (q 0), .int u, .int v] (fun r => r = if okC rd u v (nI d) (nI bl) then M (40 * u.toNatClampNeg + v.toNatClampNeg) else nI 0) := by
  refine rdM.of (own := "TwoLost") (by decide) rfl (Nat.le_of_ble_eq_true rfl) ?_
  intro p e s m args below meth c Q C hK hP hret ls hl
  have hl : lv_has ls 3 [(0, .ref (q 0)), (1, .int u), (2, .int v)] := hl
  refine lv_aload_n C.1 C.2.1 d_X_read_0 rfl (lv_at hl 0 rfl) ?_
  refine lv_iload_n C.1 C.2.1 d_X_read_1 rfl (lv_at hl 1 rfl) ?_
  refine lv_iload_n C.1 C.2.1 d_X_read_2 rfl (lv_at hl 2 rfl) ?_
  refine lv_aload_n C.1 C.2.1 d_X_read_3 rfl (lv_at hl 0 rfl) ?_
  refine gx_d C hK hP d_X_read_4 ?_
  refine k_X_isCell C hK hP ⟨Nat.le_of_ble_eq_true rfl, Nat.le_of_ble_eq_true rfl⟩ ⟨Nat.le_of_ble_eq_true rfl, Nat.le_of_ble_eq_true rfl⟩ hl.1 (Nat.le_of_ble_eq_true rfl) d_X_read_7 (?_)
  by_cases hok : okC rd u v (nI d) (nI bl)
  · rw [if_pos hok]
    have hI := hI hok.1
    obtain ⟨i, hi, ei⟩ := ok_n (by omega) hok.2.1 hok.2.2.1
    obtain ⟨j, hj, ej⟩ := ok_n (by omega) hok.2.2.2.1 hok.2.2.2.2
    rw [if_pos hok] at hret
    subst ei
    subst ej
    rw [nI_clamp (by omega), nI_clamp (by omega)] at hret
    refine lv_if_eq (tgt := 22) C.1 C.2.1 d_X_read_10 (by decide) (fun h10 => ?_) (fun h10 => ?_)
    · exact absurd h10 (by decide)
    · refine lv_aload_n C.1 C.2.1 d_X_read_13 rfl (lv_at hl 0 rfl) ?_
      refine lv_iload_n C.1 C.2.1 d_X_read_14 rfl (lv_at hl 1 rfl) ?_
      refine lv_iload_n C.1 C.2.1 d_X_read_15 rfl (lv_at hl 2 rfl) ?_
      refine k_X_valueOf C hK hP hI hd hbl hi hj ⟨Nat.le_of_ble_eq_true rfl, Nat.le_of_ble_eq_true rfl⟩ ⟨Nat.le_of_ble_eq_true rfl, Nat.le_of_ble_eq_true rfl⟩ hl.1 (Nat.le_of_ble_eq_true rfl) d_X_read_16 (?_)
      refine lv_goto (tgt := 23) C.1 C.2.1 d_X_read_19 (by decide) ?_
      exact hret d_X_read_23 rfl rfl
  · rw [if_neg hok]
    rw [if_neg hok] at hret
    refine lv_if_eq (tgt := 22) C.1 C.2.1 d_X_read_10 (by decide) (fun h10 => ?_) (fun h10 => ?_)
    · refine lv_iconst (v := nI 0) C.1 C.2.1 d_X_read_22 (by decide) ?_
      exact hret d_X_read_23 rfl rfl
    · exact absurd rfl h10

set_option maxHeartbeats 4000000 in
set_option maxRecDepth 100000 in
theorem c_X_lost (l : Launch) (D : va_G) (q k : Nat → Nat) (d bl : Nat) (rd : Int32) (ex lg ce de : Nat → Int32)  (hd : d ≤ 20) : rdM l D (wX q k d bl rd ex lg ce de) (kX k) y_X_lost b_X_lost 3 (some .int) 0 [.ref (q 0)] (fun r => r = nI (cnt (d + 2) de)) := by
  refine rdM.of (own := "TwoLost") (by decide) rfl (Nat.le_of_ble_eq_true rfl) ?_
  intro p e s m args below meth c Q C hK hP hret ls hl
  have hl : lv_has ls 3 [(0, .ref (q 0))] := hl
  refine lv_iconst (v := nI 0) C.1 C.2.1 d_X_lost_0 (by decide) ?_
  refine lv_istore_n (lv' := [(1, .int (nI (0))), (0, .ref (q 0))]) C.1 C.2.1 d_X_lost_1 rfl hl (by decide) rfl (fun ls hl => ?_)
  refine lv_iconst (v := nI 0) C.1 C.2.1 d_X_lost_2 (by decide) ?_
  refine lv_istore_n (lv' := [(2, .int (nI (0))), (1, .int (nI (0))), (0, .ref (q 0))]) C.1 C.2.1 d_X_lost_3 rfl hl (by decide) rfl (fun ls hl => ?_)
  have loop : ∀ (n i : Nat), i ≤ d + 2 → d + 3 ≤ i + n → ∀ ls, lv_has ls 3 [(2, .int (nI i)), (1, .int (nI (cnt i de))), (0, .ref (q 0))] → W p l e (rmL 0 0 0) s m args below meth c s.heap [] 0 0 Q (F0 m 4 ls []) := by
    intro n
    induction n with
    | zero => intro i h1 h2; exact absurd h2 (by omega)
    | succ n ih =>
      intro i hi hin ls hl
      refine lv_iload_n C.1 C.2.1 d_X_lost_4 rfl (lv_at hl 0 rfl) ?_
      refine lv_aload_n C.1 C.2.1 d_X_lost_5 rfl (lv_at hl 2 rfl) ?_
      refine gx_d C hK hP d_X_lost_6 ?_
      refine lv_iconst (v := nI 2) C.1 C.2.1 d_X_lost_9 (by decide) ?_
      refine lv_iadd C.1 C.2.1 d_X_lost_10 ?_
      refine lv_eq (nI_add _ _) ?_
      refine bn_ge (tgt := 32) C d_X_lost_11 (by decide) (by omega) (by omega) (fun h11 => ?_) (fun h11 => ?_)
      · refine lv_iload_n C.1 C.2.1 d_X_lost_32 rfl (lv_at hl 1 rfl) ?_
        refine hret d_X_lost_33 rfl ?_
        show nI _ = nI _
        rw [show i = d + 2 by omega]
      · refine lv_aload_n C.1 C.2.1 d_X_lost_14 rfl (lv_at hl 2 rfl) ?_
        refine gx_de C hK hP d_X_lost_15 ?_
        refine lv_iload_n C.1 C.2.1 d_X_lost_18 rfl (lv_at hl 0 rfl) ?_
        refine xl_de C hK hP (j := i) (by omega) d_X_lost_19 ?_
        refine lv_if_eq (tgt := 26) C.1 C.2.1 d_X_lost_20 (by decide) (fun h20 => ?_) (fun h20 => ?_)
        · refine lv_iinc (v := nI (i + 1)) (lv' := [(2, .int (nI (i + 1))), (1, .int (nI (cnt i de))), (0, .ref (q 0))]) C.1 C.2.1 d_X_lost_26 hl (k := 0) rfl (by exact nI_add _ _) (by decide) rfl (fun ls hl => ?_)
          refine lv_goto (tgt := 4) C.1 C.2.1 d_X_lost_29 (by decide) ?_
          exact ih (i + 1) (by omega) (by omega) ls (by rw [cnt_s0 h20]; exact hl)
        · refine lv_iinc (v := nI (cnt i de + 1)) (lv' := [(1, .int (nI (cnt i de + 1))), (2, .int (nI (i))), (0, .ref (q 0))]) C.1 C.2.1 d_X_lost_23 hl (k := 1) rfl (by exact nI_add _ _) (by decide) rfl (fun ls hl => ?_)
          refine lv_iinc (v := nI (i + 1)) (lv' := [(2, .int (nI (i + 1))), (1, .int (nI (cnt i de + 1))), (0, .ref (q 0))]) C.1 C.2.1 d_X_lost_26 hl (k := 1) rfl (by exact nI_add _ _) (by decide) rfl (fun ls hl => ?_)
          refine lv_goto (tgt := 4) C.1 C.2.1 d_X_lost_29 (by decide) ?_
          exact ih (i + 1) (by omega) (by omega) ls (by rw [cnt_s1 h20]; exact lv_sub hl [0, 1, 2] rfl)
  exact loop (d + 3) 0 (by omega) (by omega) ls (lv_sub hl [0, 1, 2] rfl)

section K_lo
variable {p : Program} {l : Launch} {e : Env} {R : Room} {s : State} {m : MethodId} {args : Array Value} {below : List Frame} {meth : Method} {c : Code} {H H0 : Heap} {locs : List Loc} {cells slots nL : Nat} {Q : State → Prop}
variable {cc : ByteArray} {pc : Nat} {ls : Array Slot} {rest : List Value} {D : va_G} {A : Nat → Prop} {own : String}
variable {q k : Nat → Nat} {d bl : Nat} {rd : Int32} {ex lg ce de mp kp fl : Nat → Int32}

theorem k_X_lost  (C : CallFix p m c cc nL s args tb "TwoLost") (hK : va_K D classes (kX k) s) (hP : va_P D classes (wX q k d bl rd ex lg ce de) H) (hd : d ≤ 20) (hR : 1 ≤ R.frames ∧ 25 * 1 ≤ R.locals) (hf : cells ≤ R.cells ∧ slots ≤ R.slots) (hls : ls.size = nL) (hrest : (rest.map fun v => v.category).sum ≤ 8) (hdg : decode cc pc = .ok (.invokevirtual 72, 3)) (kk : W p l e R s m args below meth c H locs cells slots Q (F0 m (pc + 3) ls (.int (nI (cnt (d + 2) de)) :: rest))) : W p l e R s m args below meth c H locs cells slots Q (F0 m pc ls (.ref (q 0) :: rest)) := rdM.call (nA := 0) (ci := 0) (cq := (R_X, F_X, 7)) (c_X_lost l D q k d bl rd ex lg ce de hd) C hK hP g_X_X_lost rfl rfl (by decide +kernel) rfl (by decide) hR hf hls hrest hdg rfl (fun r hr => by subst hr; exact kk)

end K_lo

set_option maxHeartbeats 4000000 in
set_option maxRecDepth 100000 in
theorem c_X_alive (l : Launch) (D : va_G) (q k : Nat → Nat) (d bl : Nat) (rd : Int32) (ex lg ce de : Nat → Int32) (u : Int32) (hd : d ≤ 20) : rdM l D (wX q k d bl rd ex lg ce de) (kX k) y_X_alive b_X_alive 2 (some .boolean) 0 [.ref (q 0), .int u] (fun r => r = if okD rd u (nI (d + 2)) ∧ de u.toNatClampNeg = 0 then nI 1 else nI 0) := by
  refine rdM.of (own := "TwoLost") (by decide) rfl (Nat.le_of_ble_eq_true rfl) ?_
  intro p e s m args below meth c Q C hK hP hret ls hl
  have hl : lv_has ls 2 [(0, .ref (q 0)), (1, .int u)] := hl
  refine lv_aload_n C.1 C.2.1 d_X_alive_0 rfl (lv_at hl 0 rfl) ?_
  refine gx_rd C hK hP d_X_alive_1 ?_
  refine lv_if_eq (tgt := 34) C.1 C.2.1 d_X_alive_4 (by decide) (fun h4 => ?_) (fun h4 => ?_)
  · refine lv_iconst (v := nI 0) C.1 C.2.1 d_X_alive_34 (by decide) ?_
    exact hret d_X_alive_35 nz0 (if_neg (fun z => z.1.1 h4)).symm
  · refine lv_iload_n C.1 C.2.1 d_X_alive_7 rfl (lv_at hl 1 rfl) ?_
    refine lv_if_lt (tgt := 34) C.1 C.2.1 d_X_alive_8 (by decide) (fun h8 => ?_) (fun h8 => ?_)
    · refine lv_iconst (v := nI 0) C.1 C.2.1 d_X_alive_34 (by decide) ?_
      exact hret d_X_alive_35 nz0 (if_neg (fun z => z.1.2.1 h8)).symm
    · refine lv_iload_n C.1 C.2.1 d_X_alive_11 rfl (lv_at hl 1 rfl) ?_
      refine lv_aload_n C.1 C.2.1 d_X_alive_12 rfl (lv_at hl 0 rfl) ?_
      refine gx_d C hK hP d_X_alive_13 ?_
      refine lv_iconst (v := nI 2) C.1 C.2.1 d_X_alive_16 (by decide) ?_
      refine lv_iadd C.1 C.2.1 d_X_alive_17 ?_
      refine lv_eq (nI_add _ _) ?_
      refine lv_icmp_ge (tgt := 34) C.1 C.2.1 d_X_alive_18 (by decide) (fun h18 => ?_) (fun h18 => ?_)
      · refine lv_iconst (v := nI 0) C.1 C.2.1 d_X_alive_34 (by decide) ?_
        exact hret d_X_alive_35 nz0 (if_neg (fun z => Int32.not_lt.mpr h18 z.1.2.2)).symm
      · have h18 := Int32.not_le.mp h18
        obtain ⟨i, hi, ei⟩ := ok_n (by omega) h8 h18
        subst ei
        rw [nI_clamp (by omega)] at hret
        refine lv_aload_n C.1 C.2.1 d_X_alive_21 rfl (lv_at hl 0 rfl) ?_
        refine gx_de C hK hP d_X_alive_22 ?_
        refine lv_iload_n C.1 C.2.1 d_X_alive_25 rfl (lv_at hl 1 rfl) ?_
        refine xl_de C hK hP (j := i) (by omega) d_X_alive_26 ?_
        refine lv_if_ne (tgt := 34) C.1 C.2.1 d_X_alive_27 (by decide) (fun h27 => ?_) (fun h27 => ?_)
        · refine lv_iconst (v := nI 0) C.1 C.2.1 d_X_alive_34 (by decide) ?_
          exact hret d_X_alive_35 nz0 (if_neg (fun z => h27 z.2)).symm
        · refine lv_iconst (v := nI 1) C.1 C.2.1 d_X_alive_30 (by decide) ?_
          refine lv_goto (tgt := 35) C.1 C.2.1 d_X_alive_31 (by decide) ?_
          exact hret d_X_alive_35 nz1 (if_pos ⟨⟨h4, h8, h18⟩, h27⟩).symm

section K_al
variable {p : Program} {l : Launch} {e : Env} {R : Room} {s : State} {m : MethodId} {args : Array Value} {below : List Frame} {meth : Method} {c : Code} {H H0 : Heap} {locs : List Loc} {cells slots nL : Nat} {Q : State → Prop}
variable {cc : ByteArray} {pc : Nat} {ls : Array Slot} {rest : List Value} {D : va_G} {A : Nat → Prop} {own : String}
variable {q k : Nat → Nat} {d bl : Nat} {rd : Int32} {ex lg ce de mp kp fl : Nat → Int32}

theorem k_X_alive {u : Int32} (C : CallFix p m c cc nL s args tb "TwoLost") (hK : va_K D classes (kX k) s) (hP : va_P D classes (wX q k d bl rd ex lg ce de) H) (hd : d ≤ 20) (hR : 1 ≤ R.frames ∧ 25 * 1 ≤ R.locals) (hf : cells ≤ R.cells ∧ slots ≤ R.slots) (hls : ls.size = nL) (hrest : (rest.map fun v => v.category).sum ≤ 8) (hdg : decode cc pc = .ok (.invokevirtual 68, 3)) (kk : W p l e R s m args below meth c H locs cells slots Q (F0 m (pc + 3) ls (.int (if okD rd u (nI (d + 2)) ∧ de u.toNatClampNeg = 0 then nI 1 else nI 0) :: rest))) : W p l e R s m args below meth c H locs cells slots Q (F0 m pc ls (.int u :: .ref (q 0) :: rest)) := rdM.call (nA := 1) (ci := 0) (cq := (R_X, F_X, 7)) (c_X_alive l D q k d bl rd ex lg ce de u hd) C hK hP g_X_X_alive rfl rfl (by decide +kernel) rfl (by decide) hR hf hls hrest hdg rfl (fun r hr => by subst hr; exact kk)

end K_al

set_option maxHeartbeats 4000000 in
set_option maxRecDepth 100000 in
theorem c_X_raw (l : Launch) (D : va_G) (q k : Nat → Nat) (d bl : Nat) (rd : Int32) (ex lg ce de : Nat → Int32) (u v : Int32) (hd : d ≤ 20) (hbl : bl ≤ 40) : rdM l D (wX q k d bl rd ex lg ce de) (kX k) y_X_raw b_X_raw 3 (some .int) 1 [.ref (q 0), .int u, .int v] (fun r => r = if okC rd u v (nI (d + 2)) (nI bl) then ce (40 * u.toNatClampNeg + v.toNatClampNeg) else nI 0) := by
  refine rdM.of (own := "TwoLost") (by decide) rfl (Nat.le_of_ble_eq_true rfl) ?_
  intro p e s m args below meth c Q C hK hP hret ls hl
  have hl : lv_has ls 3 [(0, .ref (q 0)), (1, .int u), (2, .int v)] := hl
  refine lv_aload_n C.1 C.2.1 d_X_raw_0 rfl (lv_at hl 0 rfl) ?_
  refine lv_iload_n C.1 C.2.1 d_X_raw_1 rfl (lv_at hl 1 rfl) ?_
  refine lv_iload_n C.1 C.2.1 d_X_raw_2 rfl (lv_at hl 2 rfl) ?_
  refine lv_aload_n C.1 C.2.1 d_X_raw_3 rfl (lv_at hl 0 rfl) ?_
  refine gx_d C hK hP d_X_raw_4 ?_
  refine lv_iconst (v := nI 2) C.1 C.2.1 d_X_raw_7 (by decide) ?_
  refine lv_iadd C.1 C.2.1 d_X_raw_8 ?_
  refine lv_eq (nI_add _ _) ?_
  refine k_X_isCell C hK hP ⟨Nat.le_of_ble_eq_true rfl, Nat.le_of_ble_eq_true rfl⟩ ⟨Nat.le_of_ble_eq_true rfl, Nat.le_of_ble_eq_true rfl⟩ hl.1 (Nat.le_of_ble_eq_true rfl) d_X_raw_9 (?_)
  by_cases hok : okC rd u v (nI (d + 2)) (nI bl)
  · rw [if_pos hok]
    obtain ⟨i, hi, ei⟩ := ok_n (by omega) hok.2.1 hok.2.2.1
    obtain ⟨j, hj, ej⟩ := ok_n (by omega) hok.2.2.2.1 hok.2.2.2.2
    rw [if_pos hok] at hret
    subst ei
    subst ej
    rw [nI_clamp (by omega), nI_clamp (by omega)] at hret
    refine lv_if_eq (tgt := 29) C.1 C.2.1 d_X_raw_12 (by decide) (fun h12 => ?_) (fun h12 => ?_)
    · exact absurd h12 (by decide)
    · refine lv_aload_n C.1 C.2.1 d_X_raw_15 rfl (lv_at hl 0 rfl) ?_
      refine gx_ce C hK hP d_X_raw_16 ?_
      refine lv_aload_n C.1 C.2.1 d_X_raw_19 rfl (lv_at hl 0 rfl) ?_
      refine lv_iload_n C.1 C.2.1 d_X_raw_20 rfl (lv_at hl 1 rfl) ?_
      refine lv_iload_n C.1 C.2.1 d_X_raw_21 rfl (lv_at hl 2 rfl) ?_
      refine k_X_at C hK hP ⟨Nat.le_of_ble_eq_true rfl, Nat.le_of_ble_eq_true rfl⟩ ⟨Nat.le_of_ble_eq_true rfl, Nat.le_of_ble_eq_true rfl⟩ hl.1 (Nat.le_of_ble_eq_true rfl) d_X_raw_22 (?_)
      refine xl_ce C hK hP (j := 40 * i + j) (by omega) d_X_raw_25 ?_
      refine lv_goto (tgt := 30) C.1 C.2.1 d_X_raw_26 (by decide) ?_
      exact hret d_X_raw_30 rfl rfl
  · rw [if_neg hok]
    rw [if_neg hok] at hret
    refine lv_if_eq (tgt := 29) C.1 C.2.1 d_X_raw_12 (by decide) (fun h12 => ?_) (fun h12 => ?_)
    · refine lv_iconst (v := nI 0) C.1 C.2.1 d_X_raw_29 (by decide) ?_
      exact hret d_X_raw_30 rfl rfl
    · exact absurd rfl h12

set_option maxHeartbeats 4000000 in
set_option maxRecDepth 100000 in
theorem c_X_isSound (l : Launch) (D : va_G) (q k : Nat → Nat) (d bl : Nat) (rd : Int32) (ex lg ce de : Nat → Int32) (M : Nat → Int32) (a : Nat) (hI : XI d bl M ex lg ce de) (hd : d ≤ 20) (hbl : bl ≤ 40) (ha : a < bl) : rdM l D (wX q k d bl rd ex lg ce de) (kX k) y_X_isSound b_X_isSound 6 (some .boolean) 4 [.ref (q 0), .int (nI (a))] (fun r => r = nI 1) := by
  refine rdM.of (own := "TwoLost") (by decide) rfl (Nat.le_of_ble_eq_true rfl) ?_
  intro p e s m args below meth c Q C hK hP hret ls hl
  have hl : lv_has ls 6 [(0, .ref (q 0)), (1, .int (nI (a)))] := hl
  obtain ⟨hT, hA, h2⟩ := id hI
  have fin2 : ∀ (pp qq : Int32), qq = ps d (fun k => tp k (M (40 * k + a))) → ∀ ls, lv_has ls 6 [(3, .int qq), (2, .int pp), (0, .ref (q 0)), (1, .int (nI (a)))] → W p l e (rmL 4 0 0) s m args below meth c s.heap [] 0 0 Q (F0 m 77 ls []) := by
    intro pp qq eq ls hl
    refine lv_aload_n C.1 C.2.1 d_X_isSound_77 rfl (lv_at hl 2 rfl) ?_
    refine gx_de C hK hP d_X_isSound_78 ?_
    refine lv_aload_n C.1 C.2.1 d_X_isSound_81 rfl (lv_at hl 2 rfl) ?_
    refine gx_d C hK hP d_X_isSound_82 ?_
    refine lv_iconst (v := nI 1) C.1 C.2.1 d_X_isSound_85 (by decide) ?_
    refine lv_iadd C.1 C.2.1 d_X_isSound_86 ?_
    refine lv_eq (nI_add _ _) ?_
    refine xl_de C hK hP (j := d + 1) (by omega) d_X_isSound_87 ?_
    refine lv_if_ne (tgt := 111) C.1 C.2.1 d_X_isSound_88 (by decide) (fun h88 => ?_) (fun h88 => ?_)
    · refine lv_iconst (v := nI 1) C.1 C.2.1 d_X_isSound_111 (by decide) ?_
      refine lv_goto (tgt := 116) C.1 C.2.1 d_X_isSound_112 (by decide) ?_
      exact hret d_X_isSound_116 nz1 rfl
    · refine lv_aload_n C.1 C.2.1 d_X_isSound_91 rfl (lv_at hl 2 rfl) ?_
      refine gx_ce C hK hP d_X_isSound_92 ?_
      refine lv_aload_n C.1 C.2.1 d_X_isSound_95 rfl (lv_at hl 2 rfl) ?_
      refine lv_aload_n C.1 C.2.1 d_X_isSound_96 rfl (lv_at hl 2 rfl) ?_
      refine gx_d C hK hP d_X_isSound_97 ?_
      refine lv_iconst (v := nI 1) C.1 C.2.1 d_X_isSound_100 (by decide) ?_
      refine lv_iadd C.1 C.2.1 d_X_isSound_101 ?_
      refine lv_eq (nI_add _ _) ?_
      refine lv_iload_n C.1 C.2.1 d_X_isSound_102 rfl (lv_at hl 3 rfl) ?_
      refine k_X_at C hK hP ⟨Nat.le_of_ble_eq_true rfl, Nat.le_of_ble_eq_true rfl⟩ ⟨Nat.le_of_ble_eq_true rfl, Nat.le_of_ble_eq_true rfl⟩ hl.1 (Nat.le_of_ble_eq_true rfl) d_X_isSound_103 (?_)
      refine xl_ce C hK hP (j := 40 * (d + 1) + a) (by omega) d_X_isSound_106 ?_
      refine lv_iload_n C.1 C.2.1 d_X_isSound_107 rfl (lv_at hl 0 rfl) ?_
      refine lv_icmp_ne (tgt := 115) C.1 C.2.1 d_X_isSound_108 (by decide) (fun h108 => ?_) (fun h108 => ?_)
      · exact absurd (by rw [hA (d + 1) a (by omega) ha h88, du_q, eq]) h108
      · refine lv_iconst (v := nI 1) C.1 C.2.1 d_X_isSound_111 (by decide) ?_
        refine lv_goto (tgt := 116) C.1 C.2.1 d_X_isSound_112 (by decide) ?_
        exact hret d_X_isSound_116 nz1 rfl
  have fin1 : ∀ (pp qq : Int32), pp = ps d (fun k => M (40 * k + a)) → qq = ps d (fun k => tp k (M (40 * k + a))) → ∀ ls, lv_has ls 6 [(3, .int qq), (2, .int pp), (0, .ref (q 0)), (1, .int (nI (a)))] → W p l e (rmL 4 0 0) s m args below meth c s.heap [] 0 0 Q (F0 m 47 ls []) := by
    intro pp qq ep eq ls hl
    refine lv_aload_n C.1 C.2.1 d_X_isSound_47 rfl (lv_at hl 2 rfl) ?_
    refine gx_de C hK hP d_X_isSound_48 ?_
    refine lv_aload_n C.1 C.2.1 d_X_isSound_51 rfl (lv_at hl 2 rfl) ?_
    refine gx_d C hK hP d_X_isSound_52 ?_
    refine xl_de C hK hP (j := d) (by omega) d_X_isSound_55 ?_
    refine lv_if_ne (tgt := 77) C.1 C.2.1 d_X_isSound_56 (by decide) (fun h56 => ?_) (fun h56 => ?_)
    · exact fin2 pp qq eq ls hl
    · refine lv_aload_n C.1 C.2.1 d_X_isSound_59 rfl (lv_at hl 2 rfl) ?_
      refine gx_ce C hK hP d_X_isSound_60 ?_
      refine lv_aload_n C.1 C.2.1 d_X_isSound_63 rfl (lv_at hl 2 rfl) ?_
      refine lv_aload_n C.1 C.2.1 d_X_isSound_64 rfl (lv_at hl 2 rfl) ?_
      refine gx_d C hK hP d_X_isSound_65 ?_
      refine lv_iload_n C.1 C.2.1 d_X_isSound_68 rfl (lv_at hl 3 rfl) ?_
      refine k_X_at C hK hP ⟨Nat.le_of_ble_eq_true rfl, Nat.le_of_ble_eq_true rfl⟩ ⟨Nat.le_of_ble_eq_true rfl, Nat.le_of_ble_eq_true rfl⟩ hl.1 (Nat.le_of_ble_eq_true rfl) d_X_isSound_69 (?_)
      refine xl_ce C hK hP (j := 40 * d + a) (by omega) d_X_isSound_72 ?_
      refine lv_iload_n C.1 C.2.1 d_X_isSound_73 rfl (lv_at hl 1 rfl) ?_
      refine lv_icmp_ne (tgt := 115) C.1 C.2.1 d_X_isSound_74 (by decide) (fun h74 => ?_) (fun h74 => ?_)
      · exact absurd (by rw [hA d a (by omega) ha h56, du_p, ep]) h74
      · exact fin2 pp qq eq ls hl
  refine lv_iconst (v := nI 0) C.1 C.2.1 d_X_isSound_0 (by decide) ?_
  refine lv_istore_n (lv' := [(2, .int (nI (0))), (0, .ref (q 0)), (1, .int (nI (a)))]) C.1 C.2.1 d_X_isSound_1 rfl hl (by decide) rfl (fun ls hl => ?_)
  refine lv_iconst (v := nI 0) C.1 C.2.1 d_X_isSound_2 (by decide) ?_
  refine lv_istore_n (lv' := [(3, .int (nI (0))), (2, .int (nI (0))), (0, .ref (q 0)), (1, .int (nI (a)))]) C.1 C.2.1 d_X_isSound_3 rfl hl (by decide) rfl (fun ls hl => ?_)
  refine lv_iconst (v := nI 0) C.1 C.2.1 d_X_isSound_4 (by decide) ?_
  refine lv_istore (lv' := [(4, .int (nI (0))), (3, .int (nI (0))), (2, .int (nI (0))), (0, .ref (q 0)), (1, .int (nI (a)))]) C.1 C.2.1 d_X_isSound_5 hl (by decide) rfl (fun ls hl => ?_)
  have loop : ∀ (n i : Nat) (pp qq : Int32), i ≤ d → d + 1 ≤ i + n → pp = ps i (fun k => M (40 * k + a)) → qq = ps i (fun k => tp k (M (40 * k + a))) → ∀ ls, lv_has ls 6 [(4, .int (nI i)), (3, .int qq), (2, .int pp), (0, .ref (q 0)), (1, .int (nI a))] → W p l e (rmL 4 0 0) s m args below meth c s.heap [] 0 0 Q (F0 m 7 ls []) := by
    intro n
    induction n with
    | zero => intro i pp qq h1 h2; exact absurd h2 (by omega)
    | succ n ih =>
      intro i pp qq hi hin ep eq ls hl
      refine lv_iload C.1 C.2.1 d_X_isSound_7 (lv_at hl 0 rfl) ?_
      refine lv_aload_n C.1 C.2.1 d_X_isSound_9 rfl (lv_at hl 3 rfl) ?_
      refine gx_d C hK hP d_X_isSound_10 ?_
      refine bn_ge (tgt := 47) C d_X_isSound_13 (by decide) (by omega) (by omega) (fun h13 => ?_) (fun h13 => ?_)
      · have ei : i = d := by omega
        subst ei
        exact fin1 pp qq ep eq ls (lv_sub hl [1, 2, 3, 4] rfl)
      · refine lv_aload_n C.1 C.2.1 d_X_isSound_16 rfl (lv_at hl 3 rfl) ?_
        refine lv_iload C.1 C.2.1 d_X_isSound_17 (lv_at hl 0 rfl) ?_
        refine lv_iload_n C.1 C.2.1 d_X_isSound_19 rfl (lv_at hl 4 rfl) ?_
        refine k_X_valueOf C hK hP hI hd hbl (by omega) ha ⟨Nat.le_of_ble_eq_true rfl, Nat.le_of_ble_eq_true rfl⟩ ⟨Nat.le_of_ble_eq_true rfl, Nat.le_of_ble_eq_true rfl⟩ hl.1 (Nat.le_of_ble_eq_true rfl) d_X_isSound_20 (?_)
        refine lv_topi (fun vv e_vv => ?_)
        refine lv_istore (lv' := [(5, .int vv), (4, .int (nI (i))), (3, .int qq), (2, .int pp), (0, .ref (q 0)), (1, .int (nI (a)))]) C.1 C.2.1 d_X_isSound_23 hl (by decide) rfl (fun ls hl => ?_)
        refine lv_iload_n C.1 C.2.1 d_X_isSound_25 rfl (lv_at hl 3 rfl) ?_
        refine lv_iload C.1 C.2.1 d_X_isSound_26 (lv_at hl 0 rfl) ?_
        refine lv_ixor C.1 C.2.1 d_X_isSound_28 ?_
        refine lv_topi (fun p2 e_p2 => ?_)
        refine lv_istore_n (lv' := [(2, .int p2), (5, .int vv), (4, .int (nI (i))), (3, .int qq), (0, .ref (q 0)), (1, .int (nI (a)))]) C.1 C.2.1 d_X_isSound_29 rfl hl (by decide) rfl (fun ls hl => ?_)
        refine lv_iload_n C.1 C.2.1 d_X_isSound_30 rfl (lv_at hl 3 rfl) ?_
        refine lv_aload_n C.1 C.2.1 d_X_isSound_31 rfl (lv_at hl 4 rfl) ?_
        refine lv_iload C.1 C.2.1 d_X_isSound_32 (lv_at hl 1 rfl) ?_
        refine lv_iload C.1 C.2.1 d_X_isSound_34 (lv_at hl 2 rfl) ?_
        refine k_X_times C hK hP hT (by omega) ⟨Nat.le_of_ble_eq_true rfl, Nat.le_of_ble_eq_true rfl⟩ ⟨Nat.le_of_ble_eq_true rfl, Nat.le_of_ble_eq_true rfl⟩ hl.1 (Nat.le_of_ble_eq_true rfl) d_X_isSound_36 (?_)
        refine lv_ixor C.1 C.2.1 d_X_isSound_39 ?_
        refine lv_topi (fun q2 e_q2 => ?_)
        refine lv_istore_n (lv' := [(3, .int q2), (2, .int p2), (5, .int vv), (4, .int (nI (i))), (0, .ref (q 0)), (1, .int (nI (a)))]) C.1 C.2.1 d_X_isSound_40 rfl hl (by decide) rfl (fun ls hl => ?_)
        refine lv_iinc (v := nI (i + 1)) (lv' := [(4, .int (nI (i + 1))), (3, .int q2), (2, .int p2), (5, .int vv), (0, .ref (q 0)), (1, .int (nI (a)))]) C.1 C.2.1 d_X_isSound_41 hl (k := 3) rfl (by exact nI_add _ _) (by decide) rfl (fun ls hl => ?_)
        refine lv_goto (tgt := 7) C.1 C.2.1 d_X_isSound_44 (by decide) ?_
        exact ih (i + 1) p2 q2 (by omega) (by omega) (by rw [e_p2, e_vv, ep]; rfl) (by rw [e_q2, e_vv, eq]; rfl) ls (lv_sub hl [0, 1, 2, 4, 5] rfl)
  exact loop (d + 1) 0 _ _ (by omega) (by omega) rfl rfl ls (lv_sub hl [0, 1, 2, 3, 4] rfl)

section K_is
variable {p : Program} {l : Launch} {e : Env} {R : Room} {s : State} {m : MethodId} {args : Array Value} {below : List Frame} {meth : Method} {c : Code} {H H0 : Heap} {locs : List Loc} {cells slots nL : Nat} {Q : State → Prop}
variable {cc : ByteArray} {pc : Nat} {ls : Array Slot} {rest : List Value} {D : va_G} {A : Nat → Prop} {own : String}
variable {q k : Nat → Nat} {d bl : Nat} {rd : Int32} {ex lg ce de mp kp fl : Nat → Int32}

theorem k_X_isSound {M : Nat → Int32} {a : Nat} (C : CallFix p m c cc nL s args tb "TwoLost") (hK : va_K D classes (kX k) s) (hP : va_P D classes (wX q k d bl rd ex lg ce de) H) (hI : XI d bl M ex lg ce de) (hd : d ≤ 20) (hbl : bl ≤ 40) (ha : a < bl) (hR : 5 ≤ R.frames ∧ 25 * 5 ≤ R.locals) (hf : cells ≤ R.cells ∧ slots ≤ R.slots) (hls : ls.size = nL) (hrest : (rest.map fun v => v.category).sum ≤ 8) (hdg : decode cc pc = .ok (.invokevirtual 80, 3)) (kk : W p l e R s m args below meth c H locs cells slots Q (F0 m (pc + 3) ls (.int (nI 1) :: rest))) : W p l e R s m args below meth c H locs cells slots Q (F0 m pc ls (.int (nI a) :: .ref (q 0) :: rest)) := rdM.call (nA := 1) (ci := 0) (cq := (R_X, F_X, 7)) (c_X_isSound l D q k d bl rd ex lg ce de M a hI hd hbl ha) C hK hP g_X_X_isSound rfl rfl (by decide +kernel) rfl (by decide) hR hf hls hrest hdg rfl (fun r hr => by subst hr; exact kk)

end K_is

set_option maxHeartbeats 4000000 in
set_option maxRecDepth 100000 in
theorem c_X_scrub (l : Launch) (D : va_G) (q k : Nat → Nat) (d bl : Nat) (rd : Int32) (ex lg ce de : Nat → Int32) (M : Nat → Int32) (hI : ¬ rd = 0 → XI d bl M ex lg ce de) (hd : d ≤ 20) (hbl : bl ≤ 40) : rdM l D (wX q k d bl rd ex lg ce de) (kX k) y_X_scrub b_X_scrub 3 (some .int) 5 [.ref (q 0)] (fun r => r = nI 0) := by
  refine rdM.of (own := "TwoLost") (by decide) rfl (Nat.le_of_ble_eq_true rfl) ?_
  intro p e s m args below meth c Q C hK hP hret ls hl
  have hl : lv_has ls 3 [(0, .ref (q 0))] := hl
  refine lv_aload_n C.1 C.2.1 d_X_scrub_0 rfl (lv_at hl 0 rfl) ?_
  refine gx_rd C hK hP d_X_scrub_1 ?_
  refine lv_if_ne (tgt := 9) C.1 C.2.1 d_X_scrub_4 (by decide) (fun h4 => ?_) (fun h4 => ?_)
  · have hI := hI h4
    refine lv_iconst (v := nI 0) C.1 C.2.1 d_X_scrub_9 (by decide) ?_
    refine lv_istore_n (lv' := [(1, .int (nI (0))), (0, .ref (q 0))]) C.1 C.2.1 d_X_scrub_10 rfl hl (by decide) rfl (fun ls hl => ?_)
    refine lv_iconst (v := nI 0) C.1 C.2.1 d_X_scrub_11 (by decide) ?_
    refine lv_istore_n (lv' := [(2, .int (nI (0))), (1, .int (nI (0))), (0, .ref (q 0))]) C.1 C.2.1 d_X_scrub_12 rfl hl (by decide) rfl (fun ls hl => ?_)
    have loop : ∀ (n i : Nat), i ≤ bl → bl + 1 ≤ i + n → ∀ ls, lv_has ls 3 [(2, .int (nI i)), (1, .int (nI 0)), (0, .ref (q 0))] → W p l e (rmL 5 0 0) s m args below meth c s.heap [] 0 0 Q (F0 m 13 ls []) := by
      intro n
      induction n with
      | zero => intro i h1 h2; exact absurd h2 (by omega)
      | succ n ih =>
        intro i hi hin ls hl
        refine lv_iload_n C.1 C.2.1 d_X_scrub_13 rfl (lv_at hl 0 rfl) ?_
        refine lv_aload_n C.1 C.2.1 d_X_scrub_14 rfl (lv_at hl 2 rfl) ?_
        refine gx_bl C hK hP d_X_scrub_15 ?_
        refine bn_ge (tgt := 38) C d_X_scrub_18 (by decide) (by omega) (by omega) (fun h18 => ?_) (fun h18 => ?_)
        · refine lv_iload_n C.1 C.2.1 d_X_scrub_38 rfl (lv_at hl 1 rfl) ?_
          exact hret d_X_scrub_39 rfl rfl
        · refine lv_aload_n C.1 C.2.1 d_X_scrub_21 rfl (lv_at hl 2 rfl) ?_
          refine lv_iload_n C.1 C.2.1 d_X_scrub_22 rfl (lv_at hl 0 rfl) ?_
          refine k_X_isSound C hK hP hI hd hbl (by omega) ⟨Nat.le_of_ble_eq_true rfl, Nat.le_of_ble_eq_true rfl⟩ ⟨Nat.le_of_ble_eq_true rfl, Nat.le_of_ble_eq_true rfl⟩ hl.1 (Nat.le_of_ble_eq_true rfl) d_X_scrub_23 (?_)
          refine lv_if_ne (tgt := 32) C.1 C.2.1 d_X_scrub_26 (by decide) (fun h26 => ?_) (fun h26 => ?_)
          · refine lv_iinc (v := nI (i + 1)) (lv' := [(2, .int (nI (i + 1))), (1, .int (nI (0))), (0, .ref (q 0))]) C.1 C.2.1 d_X_scrub_32 hl (k := 0) rfl (by exact nI_add _ _) (by decide) rfl (fun ls hl => ?_)
            refine lv_goto (tgt := 13) C.1 C.2.1 d_X_scrub_35 (by decide) ?_
            exact ih (i + 1) (by omega) (by omega) ls hl
          · exact absurd h26 (by decide)
    exact loop (bl + 1) 0 (by omega) (by omega) ls (lv_sub hl [0, 1, 2] rfl)
  · refine lv_iconst (v := nI 0) C.1 C.2.1 d_X_scrub_7 (by decide) ?_
    exact hret d_X_scrub_8 rfl rfl

def clN (v : Int32) (n : Nat) : Int32 := if v < nI 1 then nI 1 else if v ≤ nI n then v else nI n
theorem clN_ok (v : Int32) {n : Nat} (h1 : 1 ≤ n) (hn : n < 2 ^ 31) : ∃ j, 1 ≤ j ∧ j ≤ n ∧ clN v n = nI j := by
  unfold clN
  by_cases h : v < nI 1
  · rw [if_pos h]; exact ⟨1, Nat.le_refl 1, h1, rfl⟩
  · rw [if_neg h]
    by_cases h2 : v ≤ nI n
    · rw [if_pos h2]
      have h3 := Int32.not_lt.mp h
      have h0 : ¬ v < 0 := by
        rw [Int32.lt_iff_toInt_lt]
        rw [Int32.le_iff_toInt_le, nI_toInt (by omega)] at h3
        have e0 : (0 : Int32).toInt = 0 := by decide
        omega
      obtain ⟨j, hj, e⟩ := nI_of h0
      subst e
      exact ⟨j, (nI_leI (by omega) hj).mp h3, (nI_leI hj hn).mp h2, rfl⟩
    · rw [if_neg h2]; exact ⟨n, h1, Nat.le_refl n, rfl⟩

set_option maxHeartbeats 4000000 in
set_option maxRecDepth 100000 in
theorem c_X_within (l : Launch) (D : va_G) (v : Int32) (n : Nat) : rdM l D [] [] y_X_within b_X_within 2 (some .int) 0 [.int v, .int (nI n)] (fun r => r = clN v n) := by
  refine rdM.of (own := "TwoLost") (by decide) rfl (Nat.le_of_ble_eq_true rfl) ?_
  intro p e s m args below meth c Q C hK hP hret ls hl
  have hl : lv_has ls 2 [(0, .int v), (1, .int (nI (n)))] := hl
  refine lv_iload_n C.1 C.2.1 d_X_within_0 rfl (lv_at hl 0 rfl) ?_
  refine lv_iconst (v := nI 1) C.1 C.2.1 d_X_within_1 (by decide) ?_
  refine lv_icmp_ge (tgt := 9) C.1 C.2.1 d_X_within_2 (by decide) (fun h2 => ?_) (fun h2 => ?_)
  · refine lv_iload_n C.1 C.2.1 d_X_within_9 rfl (lv_at hl 0 rfl) ?_
    refine lv_iload_n C.1 C.2.1 d_X_within_10 rfl (lv_at hl 1 rfl) ?_
    refine lv_icmp_le (tgt := 18) C.1 C.2.1 d_X_within_11 (by decide) (fun h11 => ?_) (fun h11 => ?_)
    · refine lv_iload_n C.1 C.2.1 d_X_within_18 rfl (lv_at hl 0 rfl) ?_
      refine hret d_X_within_19 rfl ?_
      show v = clN v n
      unfold clN
      rw [if_neg (Int32.not_lt.mpr h2), if_pos h11]
    · refine lv_iload_n C.1 C.2.1 d_X_within_14 rfl (lv_at hl 1 rfl) ?_
      refine lv_goto (tgt := 19) C.1 C.2.1 d_X_within_15 (by decide) ?_
      refine hret d_X_within_19 rfl ?_
      show nI n = clN v n
      unfold clN
      rw [if_neg (Int32.not_lt.mpr h2), if_neg h11]
  · refine lv_iconst (v := nI 1) C.1 C.2.1 d_X_within_5 (by decide) ?_
    refine lv_goto (tgt := 19) C.1 C.2.1 d_X_within_6 (by decide) ?_
    refine hret d_X_within_19 rfl ?_
    show nI 1 = clN v n
    unfold clN
    rw [if_pos (Int32.not_le.mp h2)]
end
section
/-! PART 11: TwoLost, plain laws of its writers, then init, fail, smash, write (printed by gen_x3.py) -/

theorem sh1 : ∀ u, u < 256 → nI u <<< (nI 1 &&& 31) = nI (2 * u) := by decide +kernel
theorem stp_lo {u : Nat} (h : 2 * u ≤ 255) : 2 * u = stp u := by
  unfold stp
  rw [if_neg (by omega)]
theorem stp_hi {u : Nat} (h : 255 < 2 * u) : (2 * u) ^^^ 285 = stp u := by
  unfold stp
  rw [if_pos h]
/-- the tables, so far -/
def tbI (i : Nat) (ex lg : Nat → Int32) : Prop := (∀ j, j < i → ex j = nI (eN j) ∧ ex (j + 255) = nI (eN j)) ∧ ∀ j, j < i → lg (eN j) = nI j
theorem tbI_step {i : Nat} (hi : i < 255) {ex lg : Nat → Int32} (h : tbI i ex lg) : tbI (i + 1) (upd (upd ex i (nI (eN i))) (i + 255) (nI (eN i))) (upd lg (eN i) (nI i)) := by
  refine ⟨fun j hj => ?_, fun j hj => ?_⟩
  · by_cases e : j = i
    · subst e
      refine ⟨?_, pk_us⟩
      rw [pk_un (by omega), pk_us]
    · obtain ⟨h1, h2⟩ := h.1 j (by omega)
      refine ⟨?_, ?_⟩
      · rw [pk_un (by omega), pk_un (by omega)]; exact h1
      · rw [pk_un (by omega), pk_un (by omega)]; exact h2
  · by_cases e : j = i
    · subst e; exact pk_us
    · have hne : eN j ≠ eN i := fun z => e (by rw [← (e_in j (by omega)).2.2, z, (e_in i hi).2.2])
      rw [pk_un hne]
      exact h.2 j (by omega)
theorem tbI_end {ex lg : Nat → Int32} (h : tbI 255 ex lg) : TB ex lg := by
  refine ⟨fun j hj => ?_, fun u hu h0 => ?_⟩
  · rcases Nat.lt_or_ge j 255 with z | z
    · rw [Nat.mod_eq_of_lt z]; exact (h.1 j z).1
    · obtain ⟨i, rfl⟩ := Nat.exists_eq_add_of_le' z
      rw [Nat.add_mod_right, Nat.mod_eq_of_lt (by omega)]; exact (h.1 i (by omega)).2
  · obtain ⟨h1, h2⟩ := dl_in u hu h0
    have h3 := h.2 (dl u) h1
    rw [h2] at h3
    exact h3
theorem z_step {i : Nat} {f : Nat → Int32} (h : ∀ j, j < i → f j = 0) : ∀ j, j < i + 1 → upd f i (nI 0) j = 0 := by
  intro j hj
  by_cases e : j = i
  · subst e; exact pk_us
  · rw [pk_un e]; exact h j (by omega)
theorem ps_ch {d x : Nat} {f g : Nat → Int32} (hx : x < d) (h : ∀ t, t < d → t ≠ x → g t = f t) : ps d g = ps d f ^^^ (f x ^^^ g x) := by
  have e : ps d f ^^^ ps d g = f x ^^^ g x := by
    rw [ps_xor, ps_congr (g := fun t => if t = x then f x ^^^ g x else 0), ps_at hx]
    intro t ht
    show f t ^^^ g t = if t = x then f x ^^^ g x else 0
    by_cases z : t = x
    · subst z; rw [if_pos rfl]
    · rw [if_neg z, h t ht z, Int32.xor_self]
  rw [← e, ← Int32.xor_assoc, Int32.xor_self, Int32.zero_xor]
theorem du_same {d : Nat} {M N : Nat → Int32} {k a : Nat} (h : ∀ t, N (40 * t + a) = M (40 * t + a)) : du d N k a = du d M k a := by
  unfold du
  rw [h k, ps_congr (f := fun i => N (40 * i + a)) (g := fun i => M (40 * i + a)) (fun t _ => h t), ps_congr (f := fun i => tp i (N (40 * i + a))) (g := fun i => tp i (M (40 * i + a))) (fun t _ => by show tp t (N (40 * t + a)) = tp t (M (40 * t + a)); rw [h t])]
/-- a write: the disk's own cell, its sum, its other sum, each if it is alive -/
theorem wr_ok {d bl i j : Nat} {M ce de c1 c2 c3 : Nat → Int32} {w : Int32} (hbl : bl ≤ 40) (hi : i < d) (hj : j < bl) (hA : AL d bl M ce de)
    (e1 : c1 = if de i = 0 then upd ce (40 * i + j) w else ce) (e2 : c2 = if de d = 0 then upd c1 (40 * d + j) (c1 (40 * d + j) ^^^ (M (40 * i + j) ^^^ w)) else c1) (e3 : c3 = if de (d + 1) = 0 then upd c2 (40 * (d + 1) + j) (c2 (40 * (d + 1) + j) ^^^ tp i (M (40 * i + j) ^^^ w)) else c2) :
    AL d bl (upd M (40 * i + j) w) c3 de ∧ ∀ k a, k < d + 2 → a < bl → ¬ de k = 0 → c3 (40 * k + a) = ce (40 * k + a) := by
  have n1 : ∀ x, x ≠ 40 * i + j → c1 x = ce x := fun x hx => by
    rw [e1]
    by_cases z : de i = 0
    · rw [if_pos z, pk_un hx]
    · rw [if_neg z]
  have n2 : ∀ x, x ≠ 40 * d + j → c2 x = c1 x := fun x hx => by
    rw [e2]
    by_cases z : de d = 0
    · rw [if_pos z, pk_un hx]
    · rw [if_neg z]
  have n3 : ∀ x, x ≠ 40 * (d + 1) + j → c3 x = c2 x := fun x hx => by
    rw [e3]
    by_cases z : de (d + 1) = 0
    · rw [if_pos z, pk_un hx]
    · rw [if_neg z]
  have dead : ∀ k a, k < d + 2 → a < bl → ¬ de k = 0 → c3 (40 * k + a) = ce (40 * k + a) := by
    intro k a hk ha hz
    have a3 : c3 (40 * k + a) = c2 (40 * k + a) := by
      by_cases z : 40 * k + a = 40 * (d + 1) + j
      · rw [e3, if_neg (by rw [show d + 1 = k by omega]; exact hz)]
      · exact n3 _ z
    have a2 : c2 (40 * k + a) = c1 (40 * k + a) := by
      by_cases z : 40 * k + a = 40 * d + j
      · rw [e2, if_neg (by rw [show d = k by omega]; exact hz)]
      · exact n2 _ z
    have a1 : c1 (40 * k + a) = ce (40 * k + a) := by
      by_cases z : 40 * k + a = 40 * i + j
      · rw [e1, if_neg (by rw [show i = k by omega]; exact hz)]
      · exact n1 _ z
    rw [a3, a2, a1]
  refine ⟨?_, dead⟩
  intro k a hk ha hz
  have hM := hA k a hk ha hz
  by_cases haj : a = j
  · subst haj
    by_cases hkd : k < d
    · rw [n3 _ (by omega), n2 _ (by omega), du_d hkd]
      by_cases hki : k = i
      · subst hki
        rw [e1, if_pos hz, pk_us, pk_us]
      · rw [n1 _ (by omega), hM, du_d hkd, pk_un (by omega)]
    · by_cases hkp : k = d
      · subst hkp
        rw [n3 _ (by omega), e2, if_pos hz, pk_us, n1 _ (by omega), hM, du_p, du_p, ps_ch (x := i) (f := fun t => M (40 * t + a)) (g := fun t => upd M (40 * i + a) w (40 * t + a)) hi (fun t ht hne => pk_un (by omega))]
        show _ = ps k _ ^^^ (M (40 * i + a) ^^^ upd M (40 * i + a) w (40 * i + a))
        rw [pk_us]
      · have hkq : k = d + 1 := by omega
        subst hkq
        rw [e3, if_pos hz, pk_us, n2 _ (by omega), n1 _ (by omega), hM, du_q, du_q, ps_ch (x := i) (f := fun t => tp t (M (40 * t + a))) (g := fun t => tp t (upd M (40 * i + a) w (40 * t + a))) hi (fun t ht hne => by show tp t (upd M (40 * i + a) w (40 * t + a)) = tp t (M (40 * t + a)); rw [pk_un (by omega)])]
        show _ = ps d _ ^^^ (tp i (M (40 * i + a)) ^^^ tp i (upd M (40 * i + a) w (40 * i + a)))
        rw [pk_us, tp_lin]
  · rw [n3 _ (by omega), n2 _ (by omega), n1 _ (by omega), hM, du_same (N := upd M (40 * i + j) w) (M := M) (fun t => pk_un (by omega))]

set_option maxHeartbeats 4000000 in
set_option maxRecDepth 100000 in
theorem c_X_init (l : Launch) (D : va_G) (q k : Nat → Nat) (d bl : Nat) (rd : Int32) (ex lg ce de : Nat → Int32)  (sz : Nat) : wrV (S := (Nat → Int32) × (Nat → Int32) × (Nat → Int32) × (Nat → Int32)) l D (wX q k d bl rd ex lg ce de) (kX k) (fun u => wX q k d bl (nI 1) u.1 u.2.1 u.2.2.1 u.2.2.2) (fun _ => (kX k)) y_X_init b_X_init 3 0 0 0 [.ref (q 0)] sz (fun u => TB u.1 u.2.1 ∧ (∀ j, j < 880 → u.2.2.1 j = 0) ∧ ∀ j, j < 22 → u.2.2.2 j = 0) := by
  refine wrV.of (own := "TwoLost") (by decide) rfl (Nat.le_of_ble_eq_true rfl) ?_
  intro p e s m args below meth c Q A hin C hK hP hD hS hA hret ls hl
  have hl : lv_has ls 3 [(0, .ref (q 0))] := hl
  have loop3 : ∀ (n i xx : Nat) (ex lg ce de : Nat → Int32), i ≤ 22 → 23 ≤ i + n → TB ex lg → (∀ j, j < 880 → ce j = 0) → (∀ j, j < i → de j = 0) → ∀ (H : Heap) (locs : List Loc), va_P D classes (wX q k d bl rd ex lg ce de) H → va_D A (wX q k d bl rd ex lg ce de) → va_S A s.heap H locs → ∀ ls, lv_has ls 3 [(2, .int (nI (i))), (1, .int (nI xx)), (0, .ref (q 0))] → W p l e (rmL 0 0 0) s m args below meth c H locs 0 0 Q (F0 m 83 ls []) := by
    intro n
    induction n with
    | zero => intro i xx ex lg ce de h1 h2; exact absurd h2 (by omega)
    | succ n ih =>
      intro i xx ex lg ce de hi hin hT hc hz H locs hP hD hS ls hl
      refine lv_iload_n C.1 C.2.1 d_X_init_83 rfl (lv_at hl 0 rfl) ?_
      refine lv_bipush (v := nI 22) C.1 C.2.1 d_X_init_84 (by decide) ?_
      refine bn_ge (tgt := 102) C d_X_init_86 (by decide) (by omega) (by omega) (fun h86 => ?_) (fun h86 => ?_)
      · refine lv_aload_n C.1 C.2.1 d_X_init_102 rfl (lv_at hl 2 rfl) ?_
        refine lv_iconst (v := nI 1) C.1 C.2.1 d_X_init_103 (by decide) ?_
        refine xp_rd C hK hP hD hS d_X_init_104 (fun H locs hP hD hS => ?_)
        exact hret (ex, lg, ce, de) hK hP hD hS d_X_init_107 ⟨hT, hc, fun j hj => hz j (by omega)⟩
      · refine lv_aload_n C.1 C.2.1 d_X_init_89 rfl (lv_at hl 2 rfl) ?_
        refine gx_de C hK hP d_X_init_90 ?_
        refine lv_iload_n C.1 C.2.1 d_X_init_93 rfl (lv_at hl 0 rfl) ?_
        refine lv_iconst (v := nI 0) C.1 C.2.1 d_X_init_94 (by decide) ?_
        refine xs_de C hK hP hD hS (j := i) (by omega) nb0 d_X_init_95 (fun H locs hP hD hS => ?_)
        refine lv_iinc (v := nI (i + 1)) (lv' := [(2, .int (nI (i + 1))), (1, .int (nI (xx))), (0, .ref (q 0))]) C.1 C.2.1 d_X_init_96 hl (k := 0) rfl (by exact nI_add _ _) (by decide) rfl (fun ls hl => ?_)
        refine lv_goto (tgt := 83) C.1 C.2.1 d_X_init_99 (by decide) ?_
        exact ih (i + 1) xx ex lg ce _ (by omega) (by omega) hT hc (z_step hz) H locs hP hD hS ls hl
  have loop2 : ∀ (n i xx : Nat) (ex lg ce de : Nat → Int32), i ≤ 880 → 881 ≤ i + n → TB ex lg → (∀ j, j < i → ce j = 0) → ∀ (H : Heap) (locs : List Loc), va_P D classes (wX q k d bl rd ex lg ce de) H → va_D A (wX q k d bl rd ex lg ce de) → va_S A s.heap H locs → ∀ ls, lv_has ls 3 [(2, .int (nI (i))), (1, .int (nI xx)), (0, .ref (q 0))] → W p l e (rmL 0 0 0) s m args below meth c H locs 0 0 Q (F0 m 61 ls []) := by
    intro n
    induction n with
    | zero => intro i xx ex lg ce de h1 h2; exact absurd h2 (by omega)
    | succ n ih =>
      intro i xx ex lg ce de hi hin hT hc H locs hP hD hS ls hl
      refine lv_iload_n C.1 C.2.1 d_X_init_61 rfl (lv_at hl 0 rfl) ?_
      refine lv_sipush (v := nI 880) C.1 C.2.1 d_X_init_62 (by decide) ?_
      refine bn_ge (tgt := 81) C d_X_init_65 (by decide) (by omega) (by omega) (fun h65 => ?_) (fun h65 => ?_)
      · refine lv_iconst (v := nI 0) C.1 C.2.1 d_X_init_81 (by decide) ?_
        refine lv_istore_n (lv' := [(2, .int (nI (0))), (1, .int (nI (xx))), (0, .ref (q 0))]) C.1 C.2.1 d_X_init_82 rfl hl (by decide) rfl (fun ls hl => ?_)
        exact loop3 23 0 xx ex lg ce de (by omega) (by omega) hT (fun j hj => hc j (by omega)) (fun j hj => absurd hj (by omega)) H locs hP hD hS ls hl
      · refine lv_aload_n C.1 C.2.1 d_X_init_68 rfl (lv_at hl 2 rfl) ?_
        refine gx_ce C hK hP d_X_init_69 ?_
        refine lv_iload_n C.1 C.2.1 d_X_init_72 rfl (lv_at hl 0 rfl) ?_
        refine lv_iconst (v := nI 0) C.1 C.2.1 d_X_init_73 (by decide) ?_
        refine xs_ce C hK hP hD hS (j := i) (by omega) d_X_init_74 (fun H locs hP hD hS => ?_)
        refine lv_iinc (v := nI (i + 1)) (lv' := [(2, .int (nI (i + 1))), (1, .int (nI (xx))), (0, .ref (q 0))]) C.1 C.2.1 d_X_init_75 hl (k := 0) rfl (by exact nI_add _ _) (by decide) rfl (fun ls hl => ?_)
        refine lv_goto (tgt := 61) C.1 C.2.1 d_X_init_78 (by decide) ?_
        exact ih (i + 1) xx ex lg _ de (by omega) (by omega) hT (z_step hc) H locs hP hD hS ls hl
  have loop1 : ∀ (n i xx : Nat) (ex lg ce de : Nat → Int32), i ≤ 255 → 256 ≤ i + n → (i < 255 → xx = eN i) → tbI i ex lg → ∀ (H : Heap) (locs : List Loc), va_P D classes (wX q k d bl rd ex lg ce de) H → va_D A (wX q k d bl rd ex lg ce de) → va_S A s.heap H locs → ∀ ls, lv_has ls 3 [(2, .int (nI (i))), (1, .int (nI xx)), (0, .ref (q 0))] → W p l e (rmL 0 0 0) s m args below meth c H locs 0 0 Q (F0 m 4 ls []) := by
    intro n
    induction n with
    | zero => intro i xx ex lg ce de h1 h2; exact absurd h2 (by omega)
    | succ n ih =>
      intro i xx ex lg ce de hi hin hxx hT H locs hP hD hS ls hl
      refine lv_iload_n C.1 C.2.1 d_X_init_4 rfl (lv_at hl 0 rfl) ?_
      refine lv_sipush (v := nI 255) C.1 C.2.1 d_X_init_5 (by decide) ?_
      refine bn_ge (tgt := 59) C d_X_init_8 (by decide) (by omega) (by omega) (fun h8 => ?_) (fun h8 => ?_)
      · have ei : i = 255 := by omega
        subst ei
        refine lv_iconst (v := nI 0) C.1 C.2.1 d_X_init_59 (by decide) ?_
        refine lv_istore_n (lv' := [(2, .int (nI (0))), (1, .int (nI (xx))), (0, .ref (q 0))]) C.1 C.2.1 d_X_init_60 rfl hl (by decide) rfl (fun ls hl => ?_)
        exact loop2 881 0 xx ex lg ce de (by omega) (by omega) (tbI_end hT) (fun j hj => absurd hj (by omega)) H locs hP hD hS ls hl
      · have hx := hxx h8
        subst hx
        have he := e_in i h8
        refine lv_aload_n C.1 C.2.1 d_X_init_11 rfl (lv_at hl 2 rfl) ?_
        refine gx_ex C hK hP d_X_init_12 ?_
        refine lv_iload_n C.1 C.2.1 d_X_init_15 rfl (lv_at hl 0 rfl) ?_
        refine lv_iload_n C.1 C.2.1 d_X_init_16 rfl (lv_at hl 1 rfl) ?_
        refine xs_ex C hK hP hD hS (j := i) (by omega) d_X_init_17 (fun H locs hP hD hS => ?_)
        refine lv_aload_n C.1 C.2.1 d_X_init_18 rfl (lv_at hl 2 rfl) ?_
        refine gx_ex C hK hP d_X_init_19 ?_
        refine lv_iload_n C.1 C.2.1 d_X_init_22 rfl (lv_at hl 0 rfl) ?_
        refine lv_sipush (v := nI 255) C.1 C.2.1 d_X_init_23 (by decide) ?_
        refine lv_iadd C.1 C.2.1 d_X_init_26 ?_
        refine lv_eq (nI_add _ _) ?_
        refine lv_iload_n C.1 C.2.1 d_X_init_27 rfl (lv_at hl 1 rfl) ?_
        refine xs_ex C hK hP hD hS (j := i + 255) (by omega) d_X_init_28 (fun H locs hP hD hS => ?_)
        refine lv_aload_n C.1 C.2.1 d_X_init_29 rfl (lv_at hl 2 rfl) ?_
        refine gx_lg C hK hP d_X_init_30 ?_
        refine lv_iload_n C.1 C.2.1 d_X_init_33 rfl (lv_at hl 1 rfl) ?_
        refine lv_iload_n C.1 C.2.1 d_X_init_34 rfl (lv_at hl 0 rfl) ?_
        refine xs_lg C hK hP hD hS (j := eN i) (by omega) d_X_init_35 (fun H locs hP hD hS => ?_)
        refine lv_iload_n C.1 C.2.1 d_X_init_36 rfl (lv_at hl 1 rfl) ?_
        refine lv_iconst (v := nI 1) C.1 C.2.1 d_X_init_37 (by decide) ?_
        refine lv_ishl C.1 C.2.1 d_X_init_38 ?_
        refine lv_eq (y := nI (2 * eN i)) (sh1 _ he.2.1) ?_
        refine lv_istore_n (lv' := [(1, .int (nI (2 * eN i))), (2, .int (nI (i))), (0, .ref (q 0))]) C.1 C.2.1 d_X_init_39 rfl hl (by decide) rfl (fun ls hl => ?_)
        refine lv_iload_n C.1 C.2.1 d_X_init_40 rfl (lv_at hl 0 rfl) ?_
        refine lv_sipush (v := nI 255) C.1 C.2.1 d_X_init_41 (by decide) ?_
        refine bn_le (tgt := 53) C d_X_init_44 (by decide) (by omega) (by omega) (fun h44 => ?_) (fun h44 => ?_)
        · refine lv_iinc (v := nI (i + 1)) (lv' := [(2, .int (nI (i + 1))), (1, .int (nI (2 * eN i))), (0, .ref (q 0))]) C.1 C.2.1 d_X_init_53 hl (k := 1) rfl (by exact nI_add _ _) (by decide) rfl (fun ls hl => ?_)
          refine lv_goto (tgt := 4) C.1 C.2.1 d_X_init_56 (by decide) ?_
          exact ih (i + 1) (2 * eN i) _ _ ce de (by omega) (by omega) (fun z => by rw [stp_lo h44, e_st i (by omega)]) (tbI_step h8 hT) H locs hP hD hS ls (lv_sub hl [0, 1, 2] rfl)
        · refine lv_iload_n C.1 C.2.1 d_X_init_47 rfl (lv_at hl 0 rfl) ?_
          refine lv_sipush (v := nI 285) C.1 C.2.1 d_X_init_48 (by decide) ?_
          refine lv_ixor C.1 C.2.1 d_X_init_51 ?_
          refine lv_eq (y := nI (2 * eN i ^^^ 285)) (nx_xor _ _) ?_
          refine lv_istore_n (lv' := [(1, .int (nI (2 * eN i ^^^ 285))), (2, .int (nI (i))), (0, .ref (q 0))]) C.1 C.2.1 d_X_init_52 rfl hl (by decide) rfl (fun ls hl => ?_)
          refine lv_iinc (v := nI (i + 1)) (lv' := [(2, .int (nI (i + 1))), (1, .int (nI (2 * eN i ^^^ 285))), (0, .ref (q 0))]) C.1 C.2.1 d_X_init_53 hl (k := 1) rfl (by exact nI_add _ _) (by decide) rfl (fun ls hl => ?_)
          refine lv_goto (tgt := 4) C.1 C.2.1 d_X_init_56 (by decide) ?_
          exact ih (i + 1) (2 * eN i ^^^ 285) _ _ ce de (by omega) (by omega) (fun z => by rw [stp_hi h44, e_st i (by omega)]) (tbI_step h8 hT) H locs hP hD hS ls (lv_sub hl [0, 1, 2] rfl)
  refine lv_iconst (v := nI 1) C.1 C.2.1 d_X_init_0 (by decide) ?_
  refine lv_istore_n (lv' := [(1, .int (nI (1))), (0, .ref (q 0))]) C.1 C.2.1 d_X_init_1 rfl hl (by decide) rfl (fun ls hl => ?_)
  refine lv_iconst (v := nI 0) C.1 C.2.1 d_X_init_2 (by decide) ?_
  refine lv_istore_n (lv' := [(2, .int (nI (0))), (1, .int (nI (1))), (0, .ref (q 0))]) C.1 C.2.1 d_X_init_3 rfl hl (by decide) rfl (fun ls hl => ?_)
  exact loop1 256 0 1 ex lg ce de (by omega) (by omega) (fun _ => rfl) ⟨fun j hj => absurd hj (by omega), fun j hj => absurd hj (by omega)⟩ s.heap [] hP hD hS ls hl

set_option maxHeartbeats 4000000 in
set_option maxRecDepth 100000 in
theorem c_X_fail (l : Launch) (D : va_G) (q k : Nat → Nat) (d bl : Nat) (rd : Int32) (ex lg ce de : Nat → Int32) (u : Int32) (sz : Nat) (hd : d ≤ 20) : wrI (S := Nat → Int32) l D (wX q k d bl rd ex lg ce de) (kX k) (fun dd => wX q k d bl rd ex lg ce dd) (fun _ => (kX k)) y_X_fail b_X_fail 2 (some .boolean) 1 0 0 [.ref (q 0), .int u] sz (fun r dd => (okD rd u (nI (d + 2)) ∧ de u.toNatClampNeg = 0 ∧ ¬ cnt (d + 2) de = 2 ∧ r = nI 1 ∧ dd = upd de u.toNatClampNeg (nI 1)) ∨ (¬ (okD rd u (nI (d + 2)) ∧ de u.toNatClampNeg = 0 ∧ ¬ cnt (d + 2) de = 2) ∧ r = nI 0 ∧ dd = de)) := by
  refine wrI.of (own := "TwoLost") (by decide) rfl (Nat.le_of_ble_eq_true rfl) ?_
  intro p e s m args below meth c Q A C hK hP hD hS hA hret ls hl
  have hl : lv_has ls 2 [(0, .ref (q 0)), (1, .int u)] := hl
  refine lv_aload_n C.1 C.2.1 d_X_fail_0 rfl (lv_at hl 0 rfl) ?_
  refine lv_iload_n C.1 C.2.1 d_X_fail_1 rfl (lv_at hl 1 rfl) ?_
  refine k_X_alive C hK hP hd ⟨Nat.le_of_ble_eq_true rfl, Nat.le_of_ble_eq_true rfl⟩ ⟨Nat.le_of_ble_eq_true rfl, Nat.le_of_ble_eq_true rfl⟩ hl.1 (Nat.le_of_ble_eq_true rfl) d_X_fail_2 (?_)
  by_cases hok : okD rd u (nI (d + 2)) ∧ de u.toNatClampNeg = 0
  · rw [if_pos hok]
    obtain ⟨i, hi, ei⟩ := ok_n (by omega) hok.1.2.1 hok.1.2.2
    subst ei
    have ec : (nI i).toNatClampNeg = i := nI_clamp (by omega)
    have hc := cnt_le (d + 2) de
    refine lv_if_eq (tgt := 16) C.1 C.2.1 d_X_fail_5 (by decide) (fun h5 => ?_) (fun h5 => ?_)
    · exact absurd h5 (by decide)
    · refine lv_aload_n C.1 C.2.1 d_X_fail_8 rfl (lv_at hl 0 rfl) ?_
      refine k_X_lost C hK hP hd ⟨Nat.le_of_ble_eq_true rfl, Nat.le_of_ble_eq_true rfl⟩ ⟨Nat.le_of_ble_eq_true rfl, Nat.le_of_ble_eq_true rfl⟩ hl.1 (Nat.le_of_ble_eq_true rfl) d_X_fail_9 (?_)
      refine lv_iconst (v := nI 2) C.1 C.2.1 d_X_fail_12 (by decide) ?_
      refine bn_ne (tgt := 18) C d_X_fail_13 (by decide) (by omega) (by omega) (fun h13 => ?_) (fun h13 => ?_)
      · refine lv_aload_n C.1 C.2.1 d_X_fail_18 rfl (lv_at hl 0 rfl) ?_
        refine gx_de C hK hP d_X_fail_19 ?_
        refine lv_iload_n C.1 C.2.1 d_X_fail_22 rfl (lv_at hl 1 rfl) ?_
        refine lv_iconst (v := nI 1) C.1 C.2.1 d_X_fail_23 (by decide) ?_
        refine xs_de C hK hP hD hS (j := i) (by omega) nb1 d_X_fail_24 (fun H locs hP hD hS => ?_)
        refine lv_iconst (v := nI 1) C.1 C.2.1 d_X_fail_25 (by decide) ?_
        exact hret _ hK hP hD hS d_X_fail_26 nz1 (Or.inl ⟨hok.1, hok.2, h13, rfl, by rw [ec]⟩)
      · refine lv_iconst (v := nI 0) C.1 C.2.1 d_X_fail_16 (by decide) ?_
        exact hret de hK hP hD hS d_X_fail_17 nz0 (Or.inr ⟨fun z => z.2.2 h13, rfl, rfl⟩)
  · rw [if_neg hok]
    refine lv_if_eq (tgt := 16) C.1 C.2.1 d_X_fail_5 (by decide) (fun h5 => ?_) (fun h5 => ?_)
    · refine lv_iconst (v := nI 0) C.1 C.2.1 d_X_fail_16 (by decide) ?_
      exact hret de hK hP hD hS d_X_fail_17 nz0 (Or.inr ⟨fun z => hok ⟨z.1, z.2.1⟩, rfl, rfl⟩)
    · exact absurd rfl h5

set_option maxHeartbeats 4000000 in
set_option maxRecDepth 100000 in
theorem c_X_smash (l : Launch) (D : va_G) (q k : Nat → Nat) (d bl : Nat) (rd : Int32) (ex lg ce de : Nat → Int32) (u v w : Int32) (sz : Nat) (hd : d ≤ 20) (hbl : bl ≤ 40) : wrI (S := Nat → Int32) l D (wX q k d bl rd ex lg ce de) (kX k) (fun c => wX q k d bl rd ex lg c de) (fun _ => (kX k)) y_X_smash b_X_smash 4 (some .boolean) 1 0 0 [.ref (q 0), .int u, .int v, .int w] sz (fun r c => (okC rd u v (nI (d + 2)) (nI bl) ∧ ¬ de u.toNatClampNeg = 0 ∧ r = nI 1 ∧ c = upd ce (40 * u.toNatClampNeg + v.toNatClampNeg) w) ∨ (¬ (okC rd u v (nI (d + 2)) (nI bl) ∧ ¬ de u.toNatClampNeg = 0) ∧ r = nI 0 ∧ c = ce)) := by
  refine wrI.of (own := "TwoLost") (by decide) rfl (Nat.le_of_ble_eq_true rfl) ?_
  intro p e s m args below meth c Q A C hK hP hD hS hA hret ls hl
  have hl : lv_has ls 4 [(0, .ref (q 0)), (1, .int u), (2, .int v), (3, .int w)] := hl
  refine lv_aload_n C.1 C.2.1 d_X_smash_0 rfl (lv_at hl 0 rfl) ?_
  refine lv_iload_n C.1 C.2.1 d_X_smash_1 rfl (lv_at hl 1 rfl) ?_
  refine lv_iload_n C.1 C.2.1 d_X_smash_2 rfl (lv_at hl 2 rfl) ?_
  refine lv_aload_n C.1 C.2.1 d_X_smash_3 rfl (lv_at hl 0 rfl) ?_
  refine gx_d C hK hP d_X_smash_4 ?_
  refine lv_iconst (v := nI 2) C.1 C.2.1 d_X_smash_7 (by decide) ?_
  refine lv_iadd C.1 C.2.1 d_X_smash_8 ?_
  refine lv_eq (nI_add _ _) ?_
  refine k_X_isCell C hK hP ⟨Nat.le_of_ble_eq_true rfl, Nat.le_of_ble_eq_true rfl⟩ ⟨Nat.le_of_ble_eq_true rfl, Nat.le_of_ble_eq_true rfl⟩ hl.1 (Nat.le_of_ble_eq_true rfl) d_X_smash_9 (?_)
  by_cases hok : okC rd u v (nI (d + 2)) (nI bl)
  · rw [if_pos hok]
    obtain ⟨i, hi, ei⟩ := ok_n (by omega) hok.2.1 hok.2.2.1
    obtain ⟨j, hj, ej⟩ := ok_n (by omega) hok.2.2.2.1 hok.2.2.2.2
    subst ei
    subst ej
    have ec : (nI i).toNatClampNeg = i := nI_clamp (by omega)
    have ec2 : (nI j).toNatClampNeg = j := nI_clamp (by omega)
    refine lv_if_eq (tgt := 24) C.1 C.2.1 d_X_smash_12 (by decide) (fun h12 => ?_) (fun h12 => ?_)
    · exact absurd h12 (by decide)
    · refine lv_aload_n C.1 C.2.1 d_X_smash_15 rfl (lv_at hl 0 rfl) ?_
      refine gx_de C hK hP d_X_smash_16 ?_
      refine lv_iload_n C.1 C.2.1 d_X_smash_19 rfl (lv_at hl 1 rfl) ?_
      refine xl_de C hK hP (j := i) (by omega) d_X_smash_20 ?_
      refine lv_if_ne (tgt := 26) C.1 C.2.1 d_X_smash_21 (by decide) (fun h21 => ?_) (fun h21 => ?_)
      · refine lv_aload_n C.1 C.2.1 d_X_smash_26 rfl (lv_at hl 0 rfl) ?_
        refine gx_ce C hK hP d_X_smash_27 ?_
        refine lv_aload_n C.1 C.2.1 d_X_smash_30 rfl (lv_at hl 0 rfl) ?_
        refine lv_iload_n C.1 C.2.1 d_X_smash_31 rfl (lv_at hl 1 rfl) ?_
        refine lv_iload_n C.1 C.2.1 d_X_smash_32 rfl (lv_at hl 2 rfl) ?_
        refine k_X_at C hK hP ⟨Nat.le_of_ble_eq_true rfl, Nat.le_of_ble_eq_true rfl⟩ ⟨Nat.le_of_ble_eq_true rfl, Nat.le_of_ble_eq_true rfl⟩ hl.1 (Nat.le_of_ble_eq_true rfl) d_X_smash_33 (?_)
        refine lv_iload_n C.1 C.2.1 d_X_smash_36 rfl (lv_at hl 3 rfl) ?_
        refine xs_ce C hK hP hD hS (j := 40 * i + j) (by omega) d_X_smash_37 (fun H locs hP hD hS => ?_)
        refine lv_iconst (v := nI 1) C.1 C.2.1 d_X_smash_38 (by decide) ?_
        exact hret _ hK hP hD hS d_X_smash_39 nz1 (Or.inl ⟨hok, by rw [ec]; exact h21, rfl, by rw [ec, ec2]⟩)
      · refine lv_iconst (v := nI 0) C.1 C.2.1 d_X_smash_24 (by decide) ?_
        exact hret ce hK hP hD hS d_X_smash_25 nz0 (Or.inr ⟨fun z => z.2 (by rw [ec]; exact h21), rfl, rfl⟩)
  · rw [if_neg hok]
    refine lv_if_eq (tgt := 24) C.1 C.2.1 d_X_smash_12 (by decide) (fun h12 => ?_) (fun h12 => ?_)
    · refine lv_iconst (v := nI 0) C.1 C.2.1 d_X_smash_24 (by decide) ?_
      exact hret ce hK hP hD hS d_X_smash_25 nz0 (Or.inr ⟨fun z => hok z.1, rfl, rfl⟩)
    · exact absurd rfl h12

set_option maxHeartbeats 4000000 in
set_option maxRecDepth 100000 in
theorem c_X_write (l : Launch) (D : va_G) (q k : Nat → Nat) (d bl : Nat) (rd : Int32) (ex lg ce de : Nat → Int32) (M : Nat → Int32) (u v w : Int32) (sz : Nat) (hI : ¬ rd = 0 → XI d bl M ex lg ce de) (hd : d ≤ 20) (hbl : bl ≤ 40) : wrI (S := Nat → Int32) l D (wX q k d bl rd ex lg ce de) (kX k) (fun c => wX q k d bl rd ex lg c de) (fun _ => (kX k)) y_X_write b_X_write 5 (some .boolean) 4 0 0 [.ref (q 0), .int u, .int v, .int w] sz (fun r c => (okC rd u v (nI d) (nI bl) ∧ r = nI 1 ∧ AL d bl (upd M (40 * u.toNatClampNeg + v.toNatClampNeg) w) c de ∧ ∀ k a, k < d + 2 → a < bl → ¬ de k = 0 → c (40 * k + a) = ce (40 * k + a)) ∨ (¬ okC rd u v (nI d) (nI bl) ∧ r = nI 0 ∧ c = ce)) := by
  refine wrI.of (own := "TwoLost") (by decide) rfl (Nat.le_of_ble_eq_true rfl) ?_
  intro p e s m args below meth c Q A C hK hP hD hS hA hret ls hl
  have hl : lv_has ls 5 [(0, .ref (q 0)), (1, .int u), (2, .int v), (3, .int w)] := hl
  refine lv_aload_n C.1 C.2.1 d_X_write_0 rfl (lv_at hl 0 rfl) ?_
  refine lv_iload_n C.1 C.2.1 d_X_write_1 rfl (lv_at hl 1 rfl) ?_
  refine lv_iload_n C.1 C.2.1 d_X_write_2 rfl (lv_at hl 2 rfl) ?_
  refine lv_aload_n C.1 C.2.1 d_X_write_3 rfl (lv_at hl 0 rfl) ?_
  refine gx_d C hK hP d_X_write_4 ?_
  refine k_X_isCell C hK hP ⟨Nat.le_of_ble_eq_true rfl, Nat.le_of_ble_eq_true rfl⟩ ⟨Nat.le_of_ble_eq_true rfl, Nat.le_of_ble_eq_true rfl⟩ hl.1 (Nat.le_of_ble_eq_true rfl) d_X_write_7 (?_)
  by_cases hok : okC rd u v (nI d) (nI bl)
  · rw [if_pos hok]
    have hI := hI hok.1
    obtain ⟨hT, hA, h2⟩ := id hI
    obtain ⟨i, hi, ei⟩ := ok_n (by omega) hok.2.1 hok.2.2.1
    obtain ⟨j, hj, ej⟩ := ok_n (by omega) hok.2.2.2.1 hok.2.2.2.2
    subst ei
    subst ej
    have ec : (nI i).toNatClampNeg = i := nI_clamp (by omega)
    have ec2 : (nI j).toNatClampNeg = j := nI_clamp (by omega)
    rw [ec, ec2] at hret
    refine lv_if_ne (tgt := 15) C.1 C.2.1 d_X_write_10 (by decide) (fun h10 => ?_) (fun h10 => ?_)
    · refine lv_aload_n C.1 C.2.1 d_X_write_15 rfl (lv_at hl 0 rfl) ?_
      refine lv_iload_n C.1 C.2.1 d_X_write_16 rfl (lv_at hl 1 rfl) ?_
      refine lv_iload_n C.1 C.2.1 d_X_write_17 rfl (lv_at hl 2 rfl) ?_
      refine k_X_valueOf C hK hP hI hd hbl hi hj ⟨Nat.le_of_ble_eq_true rfl, Nat.le_of_ble_eq_true rfl⟩ ⟨Nat.le_of_ble_eq_true rfl, Nat.le_of_ble_eq_true rfl⟩ hl.1 (Nat.le_of_ble_eq_true rfl) d_X_write_18 (?_)
      refine lv_iload_n C.1 C.2.1 d_X_write_21 rfl (lv_at hl 3 rfl) ?_
      refine lv_ixor C.1 C.2.1 d_X_write_22 ?_
      refine lv_topi (fun ch e_ch => ?_)
      refine lv_istore (lv' := [(4, .int ch), (0, .ref (q 0)), (1, .int (nI (i))), (2, .int (nI (j))), (3, .int w)]) C.1 C.2.1 d_X_write_23 hl (by decide) rfl (fun ls hl => ?_)
      have fin : ∀ (c1 c2 c3 : Nat → Int32), (c1 = if de i = 0 then upd ce (40 * i + j) w else ce) → (c2 = if de d = 0 then upd c1 (40 * d + j) (c1 (40 * d + j) ^^^ ch) else c1) → (c3 = if de (d + 1) = 0 then upd c2 (40 * (d + 1) + j) (c2 (40 * (d + 1) + j) ^^^ tp i ch) else c2) → ∀ (H : Heap) (locs : List Loc), va_P D classes (wX q k d bl rd ex lg c3 de) H → va_D A (wX q k d bl rd ex lg c3 de) → va_S A s.heap H locs → lv_has ls 5 [(4, .int ch), (0, .ref (q 0)), (1, .int (nI (i))), (2, .int (nI (j))), (3, .int w)] → W p l e (rmL 4 0 0) s m args below meth c H locs 0 0 Q (F0 m 117 ls []) := by
        intro c1 c2 c3 e1 e2 e3 H locs hP hD hS hl
        rw [e_ch] at e2 e3
        refine lv_iconst (v := nI 1) C.1 C.2.1 d_X_write_117 (by decide) ?_
        obtain ⟨k1, k2⟩ := wr_ok hbl hi hj hA e1 e2 e3
        exact hret c3 hK hP hD hS d_X_write_118 nz1 (Or.inl ⟨hok, rfl, k1, k2⟩)
      have st77 : ∀ (c1 c2 : Nat → Int32), (c1 = if de i = 0 then upd ce (40 * i + j) w else ce) → (c2 = if de d = 0 then upd c1 (40 * d + j) (c1 (40 * d + j) ^^^ ch) else c1) → ∀ (H : Heap) (locs : List Loc), va_P D classes (wX q k d bl rd ex lg c2 de) H → va_D A (wX q k d bl rd ex lg c2 de) → va_S A s.heap H locs → lv_has ls 5 [(4, .int ch), (0, .ref (q 0)), (1, .int (nI (i))), (2, .int (nI (j))), (3, .int w)] → W p l e (rmL 4 0 0) s m args below meth c H locs 0 0 Q (F0 m 77 ls []) := by
        intro c1 c2 e1 e2 H locs hP hD hS hl
        refine lv_aload_n C.1 C.2.1 d_X_write_77 rfl (lv_at hl 1 rfl) ?_
        refine gx_de C hK hP d_X_write_78 ?_
        refine lv_aload_n C.1 C.2.1 d_X_write_81 rfl (lv_at hl 1 rfl) ?_
        refine gx_d C hK hP d_X_write_82 ?_
        refine lv_iconst (v := nI 1) C.1 C.2.1 d_X_write_85 (by decide) ?_
        refine lv_iadd C.1 C.2.1 d_X_write_86 ?_
        refine lv_eq (nI_add _ _) ?_
        refine xl_de C hK hP (j := d + 1) (by omega) d_X_write_87 ?_
        refine lv_if_ne (tgt := 117) C.1 C.2.1 d_X_write_88 (by decide) (fun h88 => ?_) (fun h88 => ?_)
        · exact fin c1 c2 c2 e1 e2 (by rw [if_neg h88]) H locs hP hD hS hl
        · refine lv_aload_n C.1 C.2.1 d_X_write_91 rfl (lv_at hl 1 rfl) ?_
          refine gx_ce C hK hP d_X_write_92 ?_
          refine lv_aload_n C.1 C.2.1 d_X_write_95 rfl (lv_at hl 1 rfl) ?_
          refine lv_aload_n C.1 C.2.1 d_X_write_96 rfl (lv_at hl 1 rfl) ?_
          refine gx_d C hK hP d_X_write_97 ?_
          refine lv_iconst (v := nI 1) C.1 C.2.1 d_X_write_100 (by decide) ?_
          refine lv_iadd C.1 C.2.1 d_X_write_101 ?_
          refine lv_eq (nI_add _ _) ?_
          refine lv_iload_n C.1 C.2.1 d_X_write_102 rfl (lv_at hl 3 rfl) ?_
          refine k_X_at C hK hP ⟨Nat.le_of_ble_eq_true rfl, Nat.le_of_ble_eq_true rfl⟩ ⟨Nat.le_of_ble_eq_true rfl, Nat.le_of_ble_eq_true rfl⟩ hl.1 (Nat.le_of_ble_eq_true rfl) d_X_write_103 (?_)
          refine lv_dup2_11 C.1 C.2.1 d_X_write_106 rfl rfl ?_
          refine xl_ce C hK hP (j := 40 * (d + 1) + j) (by omega) d_X_write_107 ?_
          refine lv_aload_n C.1 C.2.1 d_X_write_108 rfl (lv_at hl 1 rfl) ?_
          refine lv_iload C.1 C.2.1 d_X_write_109 (lv_at hl 0 rfl) ?_
          refine lv_iload_n C.1 C.2.1 d_X_write_111 rfl (lv_at hl 2 rfl) ?_
          refine k_X_times C hK hP hT (by omega) ⟨Nat.le_of_ble_eq_true rfl, Nat.le_of_ble_eq_true rfl⟩ ⟨Nat.le_of_ble_eq_true rfl, Nat.le_of_ble_eq_true rfl⟩ hl.1 (Nat.le_of_ble_eq_true rfl) d_X_write_112 (?_)
          refine lv_ixor C.1 C.2.1 d_X_write_115 ?_
          refine xs_ce C hK hP hD hS (j := 40 * (d + 1) + j) (by omega) d_X_write_116 (fun H locs hP hD hS => ?_)
          exact fin c1 c2 _ e1 e2 (by rw [if_pos h88]) H locs hP hD hS hl
      have st46 : ∀ (c1 : Nat → Int32), (c1 = if de i = 0 then upd ce (40 * i + j) w else ce) → ∀ (H : Heap) (locs : List Loc), va_P D classes (wX q k d bl rd ex lg c1 de) H → va_D A (wX q k d bl rd ex lg c1 de) → va_S A s.heap H locs → lv_has ls 5 [(4, .int ch), (0, .ref (q 0)), (1, .int (nI (i))), (2, .int (nI (j))), (3, .int w)] → W p l e (rmL 4 0 0) s m args below meth c H locs 0 0 Q (F0 m 46 ls []) := by
        intro c1 e1 H locs hP hD hS hl
        refine lv_aload_n C.1 C.2.1 d_X_write_46 rfl (lv_at hl 1 rfl) ?_
        refine gx_de C hK hP d_X_write_47 ?_
        refine lv_aload_n C.1 C.2.1 d_X_write_50 rfl (lv_at hl 1 rfl) ?_
        refine gx_d C hK hP d_X_write_51 ?_
        refine xl_de C hK hP (j := d) (by omega) d_X_write_54 ?_
        refine lv_if_ne (tgt := 77) C.1 C.2.1 d_X_write_55 (by decide) (fun h55 => ?_) (fun h55 => ?_)
        · exact st77 c1 c1 e1 (by rw [if_neg h55]) H locs hP hD hS hl
        · refine lv_aload_n C.1 C.2.1 d_X_write_58 rfl (lv_at hl 1 rfl) ?_
          refine gx_ce C hK hP d_X_write_59 ?_
          refine lv_aload_n C.1 C.2.1 d_X_write_62 rfl (lv_at hl 1 rfl) ?_
          refine lv_aload_n C.1 C.2.1 d_X_write_63 rfl (lv_at hl 1 rfl) ?_
          refine gx_d C hK hP d_X_write_64 ?_
          refine lv_iload_n C.1 C.2.1 d_X_write_67 rfl (lv_at hl 3 rfl) ?_
          refine k_X_at C hK hP ⟨Nat.le_of_ble_eq_true rfl, Nat.le_of_ble_eq_true rfl⟩ ⟨Nat.le_of_ble_eq_true rfl, Nat.le_of_ble_eq_true rfl⟩ hl.1 (Nat.le_of_ble_eq_true rfl) d_X_write_68 (?_)
          refine lv_dup2_11 C.1 C.2.1 d_X_write_71 rfl rfl ?_
          refine xl_ce C hK hP (j := 40 * d + j) (by omega) d_X_write_72 ?_
          refine lv_iload C.1 C.2.1 d_X_write_73 (lv_at hl 0 rfl) ?_
          refine lv_ixor C.1 C.2.1 d_X_write_75 ?_
          refine xs_ce C hK hP hD hS (j := 40 * d + j) (by omega) d_X_write_76 (fun H locs hP hD hS => ?_)
          exact st77 c1 _ e1 (by rw [if_pos h55]) H locs hP hD hS hl
      refine lv_aload_n C.1 C.2.1 d_X_write_25 rfl (lv_at hl 1 rfl) ?_
      refine gx_de C hK hP d_X_write_26 ?_
      refine lv_iload_n C.1 C.2.1 d_X_write_29 rfl (lv_at hl 2 rfl) ?_
      refine xl_de C hK hP (j := i) (by omega) d_X_write_30 ?_
      refine lv_if_ne (tgt := 46) C.1 C.2.1 d_X_write_31 (by decide) (fun h31 => ?_) (fun h31 => ?_)
      · exact st46 ce (by rw [if_neg h31]) _ _ hP hD hS hl
      · refine lv_aload_n C.1 C.2.1 d_X_write_34 rfl (lv_at hl 1 rfl) ?_
        refine gx_ce C hK hP d_X_write_35 ?_
        refine lv_aload_n C.1 C.2.1 d_X_write_38 rfl (lv_at hl 1 rfl) ?_
        refine lv_iload_n C.1 C.2.1 d_X_write_39 rfl (lv_at hl 2 rfl) ?_
        refine lv_iload_n C.1 C.2.1 d_X_write_40 rfl (lv_at hl 3 rfl) ?_
        refine k_X_at C hK hP ⟨Nat.le_of_ble_eq_true rfl, Nat.le_of_ble_eq_true rfl⟩ ⟨Nat.le_of_ble_eq_true rfl, Nat.le_of_ble_eq_true rfl⟩ hl.1 (Nat.le_of_ble_eq_true rfl) d_X_write_41 (?_)
        refine lv_iload_n C.1 C.2.1 d_X_write_44 rfl (lv_at hl 4 rfl) ?_
        refine xs_ce C hK hP hD hS (j := 40 * i + j) (by omega) d_X_write_45 (fun H locs hP hD hS => ?_)
        exact st46 _ (by rw [if_pos h31]) H locs hP hD hS hl
    · exact absurd h10 (by decide)
  · rw [if_neg hok]
    refine lv_if_ne (tgt := 15) C.1 C.2.1 d_X_write_10 (by decide) (fun h10 => ?_) (fun h10 => ?_)
    · exact absurd rfl h10
    · refine lv_iconst (v := nI 0) C.1 C.2.1 d_X_write_13 (by decide) ?_
      exact hret ce hK hP hD hS d_X_write_14 nz0 (Or.inr ⟨hok, rfl, rfl⟩)
end
section
/-! PART 12: TwoLost: restore, rebuild, the constructor (printed by gen_x4.py) -/

/-- the first two lost disks of data below i -/
def fs2 (i : Nat) (de : Nat → Int32) (f g : Int32) : Prop := (f = -1 ∧ g = -1 ∧ ∀ j, j < i → de j = 0) ∨ (∃ x, x < i ∧ f = nI x ∧ g = -1 ∧ ¬ de x = 0 ∧ ∀ j, j < i → j ≠ x → de j = 0) ∨ ∃ x y, x < y ∧ y < i ∧ f = nI x ∧ g = nI y ∧ ¬ de x = 0 ∧ ¬ de y = 0 ∧ ∀ j, j < i → j ≠ x → j ≠ y → de j = 0
theorem fs2_0 {i : Nat} {de : Nat → Int32} {f g : Int32} (h : fs2 i de f g) (h0 : de i = 0) : fs2 (i + 1) de f g := by
  rcases h with ⟨a, b, c⟩ | ⟨x, hx, a, b, z, c⟩ | ⟨x, y, hxy, hy, a, b, z1, z2, c⟩
  · refine Or.inl ⟨a, b, fun j hj => ?_⟩
    rcases Nat.lt_or_ge j i with q | q
    · exact c j q
    · rw [show j = i by omega]; exact h0
  · refine Or.inr (Or.inl ⟨x, by omega, a, b, z, fun j hj hjx => ?_⟩)
    rcases Nat.lt_or_ge j i with q | q
    · exact c j q hjx
    · rw [show j = i by omega]; exact h0
  · refine Or.inr (Or.inr ⟨x, y, hxy, by omega, a, b, z1, z2, fun j hj hjx hjy => ?_⟩)
    rcases Nat.lt_or_ge j i with q | q
    · exact c j q hjx hjy
    · rw [show j = i by omega]; exact h0
theorem fs2_1 {i : Nat} {de : Nat → Int32} {f g : Int32} (hi : i < 2 ^ 31) (h : fs2 i de f g) (h0 : ¬ de i = 0) (hf : ¬ 0 ≤ f) : fs2 (i + 1) de (nI i) g := by
  rcases h with ⟨a, b, c⟩ | ⟨x, hx, a, b, z, c⟩ | ⟨x, y, hxy, hy, a, b, z1, z2, c⟩
  · exact Or.inr (Or.inl ⟨i, by omega, rfl, b, h0, fun j hj hne => c j (by omega)⟩)
  · exact absurd (by rw [a]; exact nI_pos' (by omega)) hf
  · exact absurd (by rw [a]; exact nI_pos' (by omega)) hf
theorem fs2_2 {i n : Nat} {de : Nat → Int32} {f g : Int32} (hn : i < n) (h2 : cnt n de ≤ 2) (h : fs2 i de f g) (h0 : ¬ de i = 0) (hf : 0 ≤ f) : fs2 (i + 1) de f (nI i) := by
  rcases h with ⟨a, b, c⟩ | ⟨x, hx, a, b, z, c⟩ | ⟨x, y, hxy, hy, a, b, z1, z2, c⟩
  · rw [a] at hf; exact absurd hf (by decide)
  · exact Or.inr (Or.inr ⟨x, i, hx, by omega, a, rfl, z, h0, fun j hj hjx hji => c j (by omega) hjx⟩)
  · exact (cnt_3 h2 hxy hy hn z1 z2 h0).elim
/-- the sums of an address, made anew -/
theorem rs_ok {d a : Nat} {M c1 c2 c3 : Nat → Int32} (hd : d ≤ 20) (h1 : ∀ k, k < d → c1 (40 * k + a) = M (40 * k + a)) (e2 : c2 = upd c1 (40 * d + a) (ps d (xf (fun k => c1 (40 * k + a)) (-1) (-1)))) (e3 : c3 = upd c2 (40 * (d + 1) + a) (ps d (xf (fun k => tp k (c2 (40 * k + a))) (-1) (-1)))) :
    ∀ k, k < d + 2 → c3 (40 * k + a) = du d M k a := by
  intro k hk
  have h2 : ∀ k, k < d → c2 (40 * k + a) = M (40 * k + a) := fun k hk => by rw [e2, pk_un (by omega), h1 k hk]
  by_cases hkd : k < d
  · rw [du_d hkd, e3, pk_un (by omega), h2 k hkd]
  · by_cases hkp : k = d
    · subst hkp
      rw [du_p, e3, pk_un (by omega), e2, pk_us, xf_0 hd]
      exact ps_congr h1
    · have hkq : k = d + 1 := by omega
      subst hkq
      rw [du_q, e3, pk_us, xf_0 hd]
      exact ps_congr (fun t ht => by show tp t (c2 (40 * t + a)) = tp t (M (40 * t + a)); rw [h2 t ht])

set_option maxHeartbeats 4000000 in
set_option maxRecDepth 100000 in
theorem c_X_restore (l : Launch) (D : va_G) (q k : Nat → Nat) (d bl : Nat) (rd : Int32) (ex lg ce de : Nat → Int32) (M : Nat → Int32) (a : Nat) (sz : Nat) (hI : XI d bl M ex lg ce de) (hd : d ≤ 20) (hbl : bl ≤ 40) (ha : a < bl) : wrV (S := Nat → Int32) l D (wX q k d bl rd ex lg ce de) (kX k) (fun c => wX q k d bl rd ex lg c de) (fun _ => (kX k)) y_X_restore b_X_restore 6 3 0 0 [.ref (q 0), .int (nI (a))] sz (fun c => (∀ k, k < d + 2 → c (40 * k + a) = du d M k a) ∧ ∀ k a2, a2 < 40 → a2 ≠ a → c (40 * k + a2) = ce (40 * k + a2)) := by
  refine wrV.of (own := "TwoLost") (by decide) rfl (Nat.le_of_ble_eq_true rfl) ?_
  intro p e s m args below meth c Q A hin C hK hP hD hS hA hret ls hl
  have hl : lv_has ls 6 [(0, .ref (q 0)), (1, .int (nI (a)))] := hl
  obtain ⟨hT, hA, h2⟩ := id hI
  have st114 : ∀ (c1 : Nat → Int32), (∀ k, k < d → c1 (40 * k + a) = M (40 * k + a)) → (∀ k a2, a2 < 40 → a2 ≠ a → c1 (40 * k + a2) = ce (40 * k + a2)) → ∀ (H : Heap) (locs : List Loc), va_P D classes (wX q k d bl rd ex lg c1 de) H → va_D A (wX q k d bl rd ex lg c1 de) → va_S A s.heap H locs → ∀ ls, lv_has ls 6 [(0, .ref (q 0)), (1, .int (nI a))] → W p l e (rmL 3 0 0) s m args below meth c H locs 0 0 Q (F0 m 114 ls []) := by
    intro c1 g1 g2 H locs hP hD hS ls hl
    refine lv_aload_n C.1 C.2.1 d_X_restore_114 rfl (lv_at hl 0 rfl) ?_
    refine gx_ce C hK hP d_X_restore_115 ?_
    refine lv_aload_n C.1 C.2.1 d_X_restore_118 rfl (lv_at hl 0 rfl) ?_
    refine lv_aload_n C.1 C.2.1 d_X_restore_119 rfl (lv_at hl 0 rfl) ?_
    refine gx_d C hK hP d_X_restore_120 ?_
    refine lv_iload_n C.1 C.2.1 d_X_restore_123 rfl (lv_at hl 1 rfl) ?_
    refine k_X_at C hK hP ⟨Nat.le_of_ble_eq_true rfl, Nat.le_of_ble_eq_true rfl⟩ ⟨Nat.le_of_ble_eq_true rfl, Nat.le_of_ble_eq_true rfl⟩ hl.1 (Nat.le_of_ble_eq_true rfl) d_X_restore_124 (?_)
    refine lv_aload_n C.1 C.2.1 d_X_restore_127 rfl (lv_at hl 0 rfl) ?_
    refine lv_iload_n C.1 C.2.1 d_X_restore_128 rfl (lv_at hl 1 rfl) ?_
    refine lv_iconst (v := -1) C.1 C.2.1 d_X_restore_129 (by decide) ?_
    refine lv_iconst (v := -1) C.1 C.2.1 d_X_restore_130 (by decide) ?_
    refine k_X_sumOf C hK hP hd (by omega) ⟨Nat.le_of_ble_eq_true rfl, Nat.le_of_ble_eq_true rfl⟩ ⟨Nat.le_of_ble_eq_true rfl, Nat.le_of_ble_eq_true rfl⟩ hl.1 (Nat.le_of_ble_eq_true rfl) d_X_restore_131 (?_)
    refine xs_ce C hK hP hD hS (j := 40 * d + a) (by omega) d_X_restore_134 (fun H locs hP hD hS => ?_)
    obtain ⟨c2, e2⟩ : ∃ c2, c2 = upd c1 (40 * d + a) (ps d (xf (fun k => c1 (40 * k + a)) (-1) (-1))) := ⟨_, rfl⟩
    rw [← e2] at hP hD
    refine lv_aload_n C.1 C.2.1 d_X_restore_135 rfl (lv_at hl 0 rfl) ?_
    refine gx_ce C hK hP d_X_restore_136 ?_
    refine lv_aload_n C.1 C.2.1 d_X_restore_139 rfl (lv_at hl 0 rfl) ?_
    refine lv_aload_n C.1 C.2.1 d_X_restore_140 rfl (lv_at hl 0 rfl) ?_
    refine gx_d C hK hP d_X_restore_141 ?_
    refine lv_iconst (v := nI 1) C.1 C.2.1 d_X_restore_144 (by decide) ?_
    refine lv_iadd C.1 C.2.1 d_X_restore_145 ?_
    refine lv_eq (nI_add _ _) ?_
    refine lv_iload_n C.1 C.2.1 d_X_restore_146 rfl (lv_at hl 1 rfl) ?_
    refine k_X_at C hK hP ⟨Nat.le_of_ble_eq_true rfl, Nat.le_of_ble_eq_true rfl⟩ ⟨Nat.le_of_ble_eq_true rfl, Nat.le_of_ble_eq_true rfl⟩ hl.1 (Nat.le_of_ble_eq_true rfl) d_X_restore_147 (?_)
    refine lv_aload_n C.1 C.2.1 d_X_restore_150 rfl (lv_at hl 0 rfl) ?_
    refine lv_iload_n C.1 C.2.1 d_X_restore_151 rfl (lv_at hl 1 rfl) ?_
    refine lv_iconst (v := -1) C.1 C.2.1 d_X_restore_152 (by decide) ?_
    refine lv_iconst (v := -1) C.1 C.2.1 d_X_restore_153 (by decide) ?_
    refine k_X_weightedOf C hK hP hT hd (by omega) ⟨Nat.le_of_ble_eq_true rfl, Nat.le_of_ble_eq_true rfl⟩ ⟨Nat.le_of_ble_eq_true rfl, Nat.le_of_ble_eq_true rfl⟩ hl.1 (Nat.le_of_ble_eq_true rfl) d_X_restore_154 (?_)
    refine xs_ce C hK hP hD hS (j := 40 * (d + 1) + a) (by omega) d_X_restore_157 (fun H locs hP hD hS => ?_)
    refine hret _ hK hP hD hS d_X_restore_158 ⟨rs_ok hd g1 e2 rfl, fun k a2 h3 h4 => ?_⟩
    rw [pk_un (by omega), e2, pk_un (by omega), g2 k a2 h3 h4]
  refine lv_iconst (v := -1) C.1 C.2.1 d_X_restore_0 (by decide) ?_
  refine lv_istore_n (lv' := [(2, .int (-1)), (0, .ref (q 0)), (1, .int (nI (a)))]) C.1 C.2.1 d_X_restore_1 rfl hl (by decide) rfl (fun ls hl => ?_)
  refine lv_iconst (v := -1) C.1 C.2.1 d_X_restore_2 (by decide) ?_
  refine lv_istore_n (lv' := [(3, .int (-1)), (2, .int (-1)), (0, .ref (q 0)), (1, .int (nI (a)))]) C.1 C.2.1 d_X_restore_3 rfl hl (by decide) rfl (fun ls hl => ?_)
  refine lv_iconst (v := nI 0) C.1 C.2.1 d_X_restore_4 (by decide) ?_
  refine lv_istore (lv' := [(4, .int (nI (0))), (3, .int (-1)), (2, .int (-1)), (0, .ref (q 0)), (1, .int (nI (a)))]) C.1 C.2.1 d_X_restore_5 hl (by decide) rfl (fun ls hl => ?_)
  have loop : ∀ (n i : Nat) (f g : Int32), i ≤ d → d + 1 ≤ i + n → fs2 i de f g → ∀ ls, lv_has ls 6 [(4, .int (nI (i))), (3, .int g), (2, .int f), (0, .ref (q 0)), (1, .int (nI (a)))] → W p l e (rmL 3 0 0) s m args below meth c s.heap [] 0 0 Q (F0 m 7 ls []) := by
    intro n
    induction n with
    | zero => intro i f g h1 h2; exact absurd h2 (by omega)
    | succ n ih =>
      intro i f g hi hin hF ls hl
      refine lv_iload C.1 C.2.1 d_X_restore_7 (lv_at hl 0 rfl) ?_
      refine lv_aload_n C.1 C.2.1 d_X_restore_9 rfl (lv_at hl 3 rfl) ?_
      refine gx_d C hK hP d_X_restore_10 ?_
      refine bn_ge (tgt := 48) C d_X_restore_13 (by decide) (by omega) (by omega) (fun h13 => ?_) (fun h13 => ?_)
      · have ei : i = d := by omega
        subst ei
        have hd20 := hd
        rcases hF with ⟨rfl, rfl, hz⟩ | ⟨x, hx, rfl, rfl, hdx, hz⟩ | ⟨x, y, hxy, hy, rfl, rfl, hdx, hdy, hz⟩
        · refine lv_iload_n C.1 C.2.1 d_X_restore_48 rfl (lv_at hl 2 rfl) ?_
          refine lv_if_ge (tgt := 56) C.1 C.2.1 d_X_restore_49 (by decide) (fun h49 => ?_) (fun h49 => ?_)
          · exact absurd h49 (by decide)
          · refine lv_iconst (v := nI 0) C.1 C.2.1 d_X_restore_52 (by decide) ?_
            refine lv_goto (tgt := 62) C.1 C.2.1 d_X_restore_53 (by decide) ?_
            refine lv_istore (lv' := [(4, .int (nI (0))), (3, .int (-1)), (2, .int (-1)), (0, .ref (q 0)), (1, .int (nI (a)))]) C.1 C.2.1 d_X_restore_62 hl (by decide) rfl (fun ls hl => ?_)
            refine lv_iload_n C.1 C.2.1 d_X_restore_64 rfl (lv_at hl 1 rfl) ?_
            refine lv_if_ge (tgt := 72) C.1 C.2.1 d_X_restore_65 (by decide) (fun h65 => ?_) (fun h65 => ?_)
            · exact absurd h65 (by decide)
            · refine lv_iconst (v := nI 0) C.1 C.2.1 d_X_restore_68 (by decide) ?_
              refine lv_goto (tgt := 78) C.1 C.2.1 d_X_restore_69 (by decide) ?_
              refine lv_istore (lv' := [(5, .int (nI (0))), (4, .int (nI (0))), (3, .int (-1)), (2, .int (-1)), (0, .ref (q 0)), (1, .int (nI (a)))]) C.1 C.2.1 d_X_restore_78 hl (by decide) rfl (fun ls hl => ?_)
              refine lv_iload_n C.1 C.2.1 d_X_restore_80 rfl (lv_at hl 3 rfl) ?_
              refine lv_if_lt (tgt := 97) C.1 C.2.1 d_X_restore_81 (by decide) (fun h81 => ?_) (fun h81 => ?_)
              · refine lv_iload_n C.1 C.2.1 d_X_restore_97 rfl (lv_at hl 2 rfl) ?_
                refine lv_if_lt (tgt := 114) C.1 C.2.1 d_X_restore_98 (by decide) (fun h98 => ?_) (fun h98 => ?_)
                · exact st114 ce (fun k hk => by rw [hA k a (by omega) ha (hz k hk), du_d hk]) (fun k a2 h3 h4 => rfl) _ _ hP hD hS ls (lv_sub hl [4, 5] rfl)
                · exact absurd (by decide) h98
              · exact absurd (by decide) h81
        · refine lv_iload_n C.1 C.2.1 d_X_restore_48 rfl (lv_at hl 2 rfl) ?_
          refine lv_if_ge (tgt := 56) C.1 C.2.1 d_X_restore_49 (by decide) (fun h49 => ?_) (fun h49 => ?_)
          · refine lv_aload_n C.1 C.2.1 d_X_restore_56 rfl (lv_at hl 3 rfl) ?_
            refine lv_iload_n C.1 C.2.1 d_X_restore_57 rfl (lv_at hl 2 rfl) ?_
            refine lv_iload_n C.1 C.2.1 d_X_restore_58 rfl (lv_at hl 4 rfl) ?_
            refine k_X_found C hK hP hI hd hbl (by omega) ha hdx ⟨Nat.le_of_ble_eq_true rfl, Nat.le_of_ble_eq_true rfl⟩ ⟨Nat.le_of_ble_eq_true rfl, Nat.le_of_ble_eq_true rfl⟩ hl.1 (Nat.le_of_ble_eq_true rfl) d_X_restore_59 (?_)
            refine lv_topi (fun v_62 e_v_62 => ?_)
            refine lv_istore (lv' := [(4, .int v_62), (3, .int (-1)), (2, .int (nI (x))), (0, .ref (q 0)), (1, .int (nI (a)))]) C.1 C.2.1 d_X_restore_62 hl (by decide) rfl (fun ls hl => ?_)
            refine lv_iload_n C.1 C.2.1 d_X_restore_64 rfl (lv_at hl 1 rfl) ?_
            refine lv_if_ge (tgt := 72) C.1 C.2.1 d_X_restore_65 (by decide) (fun h65 => ?_) (fun h65 => ?_)
            · exact absurd h65 (by decide)
            · refine lv_iconst (v := nI 0) C.1 C.2.1 d_X_restore_68 (by decide) ?_
              refine lv_goto (tgt := 78) C.1 C.2.1 d_X_restore_69 (by decide) ?_
              refine lv_istore (lv' := [(5, .int (nI (0))), (4, .int v_62), (3, .int (-1)), (2, .int (nI (x))), (0, .ref (q 0)), (1, .int (nI (a)))]) C.1 C.2.1 d_X_restore_78 hl (by decide) rfl (fun ls hl => ?_)
              refine lv_iload_n C.1 C.2.1 d_X_restore_80 rfl (lv_at hl 3 rfl) ?_
              refine lv_if_lt (tgt := 97) C.1 C.2.1 d_X_restore_81 (by decide) (fun h81 => ?_) (fun h81 => ?_)
              · exact absurd h81 (nI_pos (by omega))
              · refine lv_aload_n C.1 C.2.1 d_X_restore_84 rfl (lv_at hl 4 rfl) ?_
                refine gx_ce C hK hP d_X_restore_85 ?_
                refine lv_aload_n C.1 C.2.1 d_X_restore_88 rfl (lv_at hl 4 rfl) ?_
                refine lv_iload_n C.1 C.2.1 d_X_restore_89 rfl (lv_at hl 3 rfl) ?_
                refine lv_iload_n C.1 C.2.1 d_X_restore_90 rfl (lv_at hl 5 rfl) ?_
                refine k_X_at C hK hP ⟨Nat.le_of_ble_eq_true rfl, Nat.le_of_ble_eq_true rfl⟩ ⟨Nat.le_of_ble_eq_true rfl, Nat.le_of_ble_eq_true rfl⟩ hl.1 (Nat.le_of_ble_eq_true rfl) d_X_restore_91 (?_)
                refine lv_iload C.1 C.2.1 d_X_restore_94 (lv_at hl 1 rfl) ?_
                refine xs_ce C hK hP hD hS (j := 40 * x + a) (by omega) d_X_restore_96 (fun H locs hP hD hS => ?_)
                refine lv_iload_n C.1 C.2.1 d_X_restore_97 rfl (lv_at hl 2 rfl) ?_
                refine lv_if_lt (tgt := 114) C.1 C.2.1 d_X_restore_98 (by decide) (fun h98 => ?_) (fun h98 => ?_)
                · refine st114 _ (fun k hk => ?_) (fun k a2 h3 h4 => by rw [pk_un (by omega)]) _ _ hP hD hS ls (lv_sub hl [4, 5] rfl)
                  by_cases hkx : k = x
                  · subst hkx; rw [pk_us, e_v_62]
                  · rw [pk_un (by omega), hA k a (by omega) ha (hz k hk hkx), du_d hk]
                · exact absurd (by decide) h98
          · exact absurd (nI_pos' (by omega)) h49
        · refine lv_iload_n C.1 C.2.1 d_X_restore_48 rfl (lv_at hl 2 rfl) ?_
          refine lv_if_ge (tgt := 56) C.1 C.2.1 d_X_restore_49 (by decide) (fun h49 => ?_) (fun h49 => ?_)
          · refine lv_aload_n C.1 C.2.1 d_X_restore_56 rfl (lv_at hl 3 rfl) ?_
            refine lv_iload_n C.1 C.2.1 d_X_restore_57 rfl (lv_at hl 2 rfl) ?_
            refine lv_iload_n C.1 C.2.1 d_X_restore_58 rfl (lv_at hl 4 rfl) ?_
            refine k_X_found C hK hP hI hd hbl (by omega) ha hdx ⟨Nat.le_of_ble_eq_true rfl, Nat.le_of_ble_eq_true rfl⟩ ⟨Nat.le_of_ble_eq_true rfl, Nat.le_of_ble_eq_true rfl⟩ hl.1 (Nat.le_of_ble_eq_true rfl) d_X_restore_59 (?_)
            refine lv_topi (fun v_62 e_v_62 => ?_)
            refine lv_istore (lv' := [(4, .int v_62), (3, .int (nI (y))), (2, .int (nI (x))), (0, .ref (q 0)), (1, .int (nI (a)))]) C.1 C.2.1 d_X_restore_62 hl (by decide) rfl (fun ls hl => ?_)
            refine lv_iload_n C.1 C.2.1 d_X_restore_64 rfl (lv_at hl 1 rfl) ?_
            refine lv_if_ge (tgt := 72) C.1 C.2.1 d_X_restore_65 (by decide) (fun h65 => ?_) (fun h65 => ?_)
            · refine lv_aload_n C.1 C.2.1 d_X_restore_72 rfl (lv_at hl 3 rfl) ?_
              refine lv_iload_n C.1 C.2.1 d_X_restore_73 rfl (lv_at hl 1 rfl) ?_
              refine lv_iload_n C.1 C.2.1 d_X_restore_74 rfl (lv_at hl 4 rfl) ?_
              refine k_X_found C hK hP hI hd hbl (by omega) ha hdy ⟨Nat.le_of_ble_eq_true rfl, Nat.le_of_ble_eq_true rfl⟩ ⟨Nat.le_of_ble_eq_true rfl, Nat.le_of_ble_eq_true rfl⟩ hl.1 (Nat.le_of_ble_eq_true rfl) d_X_restore_75 (?_)
              refine lv_topi (fun v_78 e_v_78 => ?_)
              refine lv_istore (lv' := [(5, .int v_78), (4, .int v_62), (3, .int (nI (y))), (2, .int (nI (x))), (0, .ref (q 0)), (1, .int (nI (a)))]) C.1 C.2.1 d_X_restore_78 hl (by decide) rfl (fun ls hl => ?_)
              refine lv_iload_n C.1 C.2.1 d_X_restore_80 rfl (lv_at hl 3 rfl) ?_
              refine lv_if_lt (tgt := 97) C.1 C.2.1 d_X_restore_81 (by decide) (fun h81 => ?_) (fun h81 => ?_)
              · exact absurd h81 (nI_pos (by omega))
              · refine lv_aload_n C.1 C.2.1 d_X_restore_84 rfl (lv_at hl 4 rfl) ?_
                refine gx_ce C hK hP d_X_restore_85 ?_
                refine lv_aload_n C.1 C.2.1 d_X_restore_88 rfl (lv_at hl 4 rfl) ?_
                refine lv_iload_n C.1 C.2.1 d_X_restore_89 rfl (lv_at hl 3 rfl) ?_
                refine lv_iload_n C.1 C.2.1 d_X_restore_90 rfl (lv_at hl 5 rfl) ?_
                refine k_X_at C hK hP ⟨Nat.le_of_ble_eq_true rfl, Nat.le_of_ble_eq_true rfl⟩ ⟨Nat.le_of_ble_eq_true rfl, Nat.le_of_ble_eq_true rfl⟩ hl.1 (Nat.le_of_ble_eq_true rfl) d_X_restore_91 (?_)
                refine lv_iload C.1 C.2.1 d_X_restore_94 (lv_at hl 1 rfl) ?_
                refine xs_ce C hK hP hD hS (j := 40 * x + a) (by omega) d_X_restore_96 (fun H locs hP hD hS => ?_)
                refine lv_iload_n C.1 C.2.1 d_X_restore_97 rfl (lv_at hl 2 rfl) ?_
                refine lv_if_lt (tgt := 114) C.1 C.2.1 d_X_restore_98 (by decide) (fun h98 => ?_) (fun h98 => ?_)
                · exact absurd h98 (nI_pos (by omega))
                · refine lv_aload_n C.1 C.2.1 d_X_restore_101 rfl (lv_at hl 4 rfl) ?_
                  refine gx_ce C hK hP d_X_restore_102 ?_
                  refine lv_aload_n C.1 C.2.1 d_X_restore_105 rfl (lv_at hl 4 rfl) ?_
                  refine lv_iload_n C.1 C.2.1 d_X_restore_106 rfl (lv_at hl 2 rfl) ?_
                  refine lv_iload_n C.1 C.2.1 d_X_restore_107 rfl (lv_at hl 5 rfl) ?_
                  refine k_X_at C hK hP ⟨Nat.le_of_ble_eq_true rfl, Nat.le_of_ble_eq_true rfl⟩ ⟨Nat.le_of_ble_eq_true rfl, Nat.le_of_ble_eq_true rfl⟩ hl.1 (Nat.le_of_ble_eq_true rfl) d_X_restore_108 (?_)
                  refine lv_iload C.1 C.2.1 d_X_restore_111 (lv_at hl 0 rfl) ?_
                  refine xs_ce C hK hP hD hS (j := 40 * y + a) (by omega) d_X_restore_113 (fun H locs hP hD hS => ?_)
                  refine st114 _ (fun k hk => ?_) (fun k a2 h3 h4 => by rw [pk_un (by omega), pk_un (by omega)]) _ _ hP hD hS ls (lv_sub hl [4, 5] rfl)
                  by_cases hky : k = y
                  · subst hky; rw [pk_us, e_v_78]
                  · by_cases hkx : k = x
                    · subst hkx; rw [pk_un (by omega), pk_us, e_v_62]
                    · rw [pk_un (by omega), pk_un (by omega), hA k a (by omega) ha (hz k hk hkx hky), du_d hk]
            · exact absurd (nI_pos' (by omega)) h65
          · exact absurd (nI_pos' (by omega)) h49
      · refine lv_aload_n C.1 C.2.1 d_X_restore_16 rfl (lv_at hl 3 rfl) ?_
        refine gx_de C hK hP d_X_restore_17 ?_
        refine lv_iload C.1 C.2.1 d_X_restore_20 (lv_at hl 0 rfl) ?_
        refine xl_de C hK hP (j := i) (by omega) d_X_restore_22 ?_
        refine lv_if_ne (tgt := 29) C.1 C.2.1 d_X_restore_23 (by decide) (fun h23 => ?_) (fun h23 => ?_)
        · refine lv_iload_n C.1 C.2.1 d_X_restore_29 rfl (lv_at hl 2 rfl) ?_
          refine lv_if_ge (tgt := 39) C.1 C.2.1 d_X_restore_30 (by decide) (fun h30 => ?_) (fun h30 => ?_)
          · refine lv_iload C.1 C.2.1 d_X_restore_39 (lv_at hl 0 rfl) ?_
            refine lv_istore_n (lv' := [(3, .int (nI (i))), (4, .int (nI (i))), (2, .int f), (0, .ref (q 0)), (1, .int (nI (a)))]) C.1 C.2.1 d_X_restore_41 rfl hl (by decide) rfl (fun ls hl => ?_)
            refine lv_iinc (v := nI (i + 1)) (lv' := [(4, .int (nI (i + 1))), (3, .int (nI (i))), (2, .int f), (0, .ref (q 0)), (1, .int (nI (a)))]) C.1 C.2.1 d_X_restore_42 hl (k := 1) rfl (by exact nI_add _ _) (by decide) rfl (fun ls hl => ?_)
            refine lv_goto (tgt := 7) C.1 C.2.1 d_X_restore_45 (by decide) ?_
            exact ih (i + 1) f (nI i) (by omega) (by omega) (fs2_2 (n := d + 2) (by omega) h2 hF h23 h30) ls (lv_sub hl [0, 1, 2, 3, 4] rfl)
          · refine lv_iload C.1 C.2.1 d_X_restore_33 (lv_at hl 0 rfl) ?_
            refine lv_istore_n (lv' := [(2, .int (nI (i))), (4, .int (nI (i))), (3, .int g), (0, .ref (q 0)), (1, .int (nI (a)))]) C.1 C.2.1 d_X_restore_35 rfl hl (by decide) rfl (fun ls hl => ?_)
            refine lv_goto (tgt := 42) C.1 C.2.1 d_X_restore_36 (by decide) ?_
            refine lv_iinc (v := nI (i + 1)) (lv' := [(4, .int (nI (i + 1))), (2, .int (nI (i))), (3, .int g), (0, .ref (q 0)), (1, .int (nI (a)))]) C.1 C.2.1 d_X_restore_42 hl (k := 1) rfl (by exact nI_add _ _) (by decide) rfl (fun ls hl => ?_)
            refine lv_goto (tgt := 7) C.1 C.2.1 d_X_restore_45 (by decide) ?_
            exact ih (i + 1) (nI i) g (by omega) (by omega) (fs2_1 (by omega) hF h23 h30) ls (lv_sub hl [0, 2, 1, 3, 4] rfl)
        · refine lv_goto (tgt := 42) C.1 C.2.1 d_X_restore_26 (by decide) ?_
          refine lv_iinc (v := nI (i + 1)) (lv' := [(4, .int (nI (i + 1))), (3, .int g), (2, .int f), (0, .ref (q 0)), (1, .int (nI (a)))]) C.1 C.2.1 d_X_restore_42 hl (k := 0) rfl (by exact nI_add _ _) (by decide) rfl (fun ls hl => ?_)
          refine lv_goto (tgt := 7) C.1 C.2.1 d_X_restore_45 (by decide) ?_
          exact ih (i + 1) f g (by omega) (by omega) (fs2_0 hF h23) ls (lv_sub hl [0, 1, 2, 3, 4] rfl)
  exact loop (d + 1) 0 (-1) (-1) (by omega) (by omega) (Or.inl ⟨rfl, rfl, fun j hj => absurd hj (by omega)⟩) ls (lv_sub hl [0, 1, 2, 3, 4] rfl)

set_option maxHeartbeats 4000000 in
set_option maxRecDepth 100000 in
theorem c_X_rebuild (l : Launch) (D : va_G) (q k : Nat → Nat) (d bl : Nat) (rd : Int32) (ex lg ce de : Nat → Int32) (M : Nat → Int32) (sz : Nat) (hI : ¬ rd = 0 → XI d bl M ex lg ce de) (hd : d ≤ 20) (hbl : bl ≤ 40) : wrI (S := (Nat → Int32) × (Nat → Int32)) l D (wX q k d bl rd ex lg ce de) (kX k) (fun u => wX q k d bl rd ex lg u.1 u.2) (fun _ => (kX k)) y_X_rebuild b_X_rebuild 3 (some .int) 4 0 0 [.ref (q 0)] sz (fun r u => ((rd = 0 ∨ cnt (d + 2) de = 0) ∧ r = nI 0 ∧ u.1 = ce ∧ u.2 = de) ∨ (¬ rd = 0 ∧ ¬ cnt (d + 2) de = 0 ∧ r = nI (cnt (d + 2) de) ∧ (∀ k a, k < d + 2 → a < bl → u.1 (40 * k + a) = du d M k a) ∧ (∀ j, j < d + 2 → u.2 j = 0) ∧ ∀ j, d + 2 ≤ j → u.2 j = de j)) := by
  refine wrI.of (own := "TwoLost") (by decide) rfl (Nat.le_of_ble_eq_true rfl) ?_
  intro p e s m args below meth c Q A C hK hP hD hS hA hret ls hl
  have hl : lv_has ls 3 [(0, .ref (q 0))] := hl
  have hcl := cnt_le (d + 2) de
  refine lv_aload_n C.1 C.2.1 d_X_rebuild_0 rfl (lv_at hl 0 rfl) ?_
  refine k_X_lost C hK hP hd ⟨Nat.le_of_ble_eq_true rfl, Nat.le_of_ble_eq_true rfl⟩ ⟨Nat.le_of_ble_eq_true rfl, Nat.le_of_ble_eq_true rfl⟩ hl.1 (Nat.le_of_ble_eq_true rfl) d_X_rebuild_1 (?_)
  refine lv_istore_n (lv' := [(1, .int (nI (cnt (d + 2) de))), (0, .ref (q 0))]) C.1 C.2.1 d_X_rebuild_4 rfl hl (by decide) rfl (fun ls hl => ?_)
  refine lv_aload_n C.1 C.2.1 d_X_rebuild_5 rfl (lv_at hl 1 rfl) ?_
  refine gx_rd C hK hP d_X_rebuild_6 ?_
  refine lv_if_eq (tgt := 16) C.1 C.2.1 d_X_rebuild_9 (by decide) (fun h9 => ?_) (fun h9 => ?_)
  · refine lv_iconst (v := nI 0) C.1 C.2.1 d_X_rebuild_16 (by decide) ?_
    exact hret (ce, de) hK hP hD hS d_X_rebuild_17 rfl (Or.inl ⟨Or.inl h9, rfl, rfl, rfl⟩)
  · refine lv_iload_n C.1 C.2.1 d_X_rebuild_12 rfl (lv_at hl 0 rfl) ?_
    refine lv_if_ne (tgt := 18) C.1 C.2.1 d_X_rebuild_13 (by decide) (fun h13 => ?_) (fun h13 => ?_)
    · have hI := hI h9
      have hcz : ¬ cnt (d + 2) de = 0 := fun z => h13 (by rw [z]; rfl)
      have loop2 : ∀ (n i : Nat) (cx dd : Nat → Int32), i ≤ d + 2 → d + 3 ≤ i + n → (∀ k a, k < d + 2 → a < bl → cx (40 * k + a) = du d M k a) → (∀ j, j < i → dd j = 0) → (∀ j, d + 2 ≤ j → dd j = de j) → ∀ (H : Heap) (locs : List Loc), va_P D classes (wX q k d bl rd ex lg cx dd) H → va_D A (wX q k d bl rd ex lg cx dd) → va_S A s.heap H locs → ∀ ls, lv_has ls 3 [(2, .int (nI (i))), (1, .int (nI (cnt (d + 2) de))), (0, .ref (q 0))] → W p l e (rmL 4 0 0) s m args below meth c H locs 0 0 Q (F0 m 41 ls []) := by
        intro n
        induction n with
        | zero => intro i cx dd h1 h2; exact absurd h2 (by omega)
        | succ n ih =>
          intro i cx dd hi hin g1 g2 g3 H locs hP hD hS ls hl
          refine lv_iload_n C.1 C.2.1 d_X_rebuild_41 rfl (lv_at hl 0 rfl) ?_
          refine lv_aload_n C.1 C.2.1 d_X_rebuild_42 rfl (lv_at hl 2 rfl) ?_
          refine gx_d C hK hP d_X_rebuild_43 ?_
          refine lv_iconst (v := nI 2) C.1 C.2.1 d_X_rebuild_46 (by decide) ?_
          refine lv_iadd C.1 C.2.1 d_X_rebuild_47 ?_
          refine lv_eq (nI_add _ _) ?_
          refine bn_ge (tgt := 64) C d_X_rebuild_48 (by decide) (by omega) (by omega) (fun h48 => ?_) (fun h48 => ?_)
          · refine lv_iload_n C.1 C.2.1 d_X_rebuild_64 rfl (lv_at hl 1 rfl) ?_
            exact hret (cx, dd) hK hP hD hS d_X_rebuild_65 rfl (Or.inr ⟨h9, hcz, rfl, g1, fun j hj => g2 j (by omega), g3⟩)
          · refine lv_aload_n C.1 C.2.1 d_X_rebuild_51 rfl (lv_at hl 2 rfl) ?_
            refine gx_de C hK hP d_X_rebuild_52 ?_
            refine lv_iload_n C.1 C.2.1 d_X_rebuild_55 rfl (lv_at hl 0 rfl) ?_
            refine lv_iconst (v := nI 0) C.1 C.2.1 d_X_rebuild_56 (by decide) ?_
            refine xs_de C hK hP hD hS (j := i) (by omega) nb0 d_X_rebuild_57 (fun H locs hP hD hS => ?_)
            refine lv_iinc (v := nI (i + 1)) (lv' := [(2, .int (nI (i + 1))), (1, .int (nI (cnt (d + 2) de))), (0, .ref (q 0))]) C.1 C.2.1 d_X_rebuild_58 hl (k := 0) rfl (by exact nI_add _ _) (by decide) rfl (fun ls hl => ?_)
            refine lv_goto (tgt := 41) C.1 C.2.1 d_X_rebuild_61 (by decide) ?_
            exact ih (i + 1) cx _ (by omega) (by omega) g1 (z_step g2) (fun j hj => by rw [pk_un (by omega)]; exact g3 j hj) H locs hP hD hS ls hl
      have loop1 : ∀ (n i : Nat) (cx : Nat → Int32), i ≤ bl → bl + 1 ≤ i + n → AL d bl M cx de → (∀ k a, k < d + 2 → a < i → cx (40 * k + a) = du d M k a) → ∀ (H : Heap) (locs : List Loc), va_P D classes (wX q k d bl rd ex lg cx de) H → va_D A (wX q k d bl rd ex lg cx de) → va_S A s.heap H locs → ∀ ls, lv_has ls 3 [(2, .int (nI (i))), (1, .int (nI (cnt (d + 2) de))), (0, .ref (q 0))] → W p l e (rmL 4 0 0) s m args below meth c H locs 0 0 Q (F0 m 20 ls []) := by
        intro n
        induction n with
        | zero => intro i cx h1 h2; exact absurd h2 (by omega)
        | succ n ih =>
          intro i cx hi hin g1 g2 H locs hP hD hS ls hl
          refine lv_iload_n C.1 C.2.1 d_X_rebuild_20 rfl (lv_at hl 0 rfl) ?_
          refine lv_aload_n C.1 C.2.1 d_X_rebuild_21 rfl (lv_at hl 2 rfl) ?_
          refine gx_bl C hK hP d_X_rebuild_22 ?_
          refine bn_ge (tgt := 39) C d_X_rebuild_25 (by decide) (by omega) (by omega) (fun h25 => ?_) (fun h25 => ?_)
          · refine lv_iconst (v := nI 0) C.1 C.2.1 d_X_rebuild_39 (by decide) ?_
            refine lv_istore_n (lv' := [(2, .int (nI (0))), (1, .int (nI (cnt (d + 2) de))), (0, .ref (q 0))]) C.1 C.2.1 d_X_rebuild_40 rfl hl (by decide) rfl (fun ls hl => ?_)
            exact loop2 (d + 3) 0 cx de (by omega) (by omega) (fun k a hk ha => g2 k a hk (by omega)) (fun j hj => absurd hj (by omega)) (fun j hj => rfl) H locs hP hD hS ls hl
          · refine lv_aload_n C.1 C.2.1 d_X_rebuild_28 rfl (lv_at hl 2 rfl) ?_
            refine lv_iload_n C.1 C.2.1 d_X_rebuild_29 rfl (lv_at hl 0 rfl) ?_
            refine wrV.call (S := Nat → Int32) (wr := []) (nA := 1) (ci := 0) (cq := (R_X, F_X, 7)) (c_X_restore l D q k d bl rd ex lg cx de M i H.size ⟨hI.1, g1, hI.2.2⟩ hd hbl (by omega)) C hK hP hD hS hA [0, 1, 2, 3, 4] [] rfl rfl (by decide) rfl (by decide) (by decide) g_X_X_restore rfl rfl (by decide +kernel) rfl (by decide) ⟨Nat.le_of_ble_eq_true rfl, Nat.le_of_ble_eq_true rfl⟩ ⟨Nat.le_of_ble_eq_true rfl, Nat.le_of_ble_eq_true rfl⟩ hl.1 (Nat.le_of_ble_eq_true rfl) d_X_rebuild_30 rfl (fun c2 H locs hp hK2 hP hD hS => ?_)
            have hP : va_P D classes (wX q k d bl rd ex lg c2 de) H := hP
            have hD : va_D A (wX q k d bl rd ex lg c2 de) := hD
            refine lv_iinc (v := nI (i + 1)) (lv' := [(2, .int (nI (i + 1))), (1, .int (nI (cnt (d + 2) de))), (0, .ref (q 0))]) C.1 C.2.1 d_X_rebuild_33 hl (k := 0) rfl (by exact nI_add _ _) (by decide) rfl (fun ls hl => ?_)
            refine lv_goto (tgt := 20) C.1 C.2.1 d_X_rebuild_36 (by decide) ?_
            refine ih (i + 1) c2 (by omega) (by omega) (fun k a hk ha hz => ?_) (fun k a hk ha => ?_) H locs hP hD hS ls hl
            · by_cases e : a = i
              · subst e; exact hp.1 k hk
              · rw [hp.2 k a (by omega) e]; exact g1 k a hk ha hz
            · by_cases e : a = i
              · subst e; exact hp.1 k hk
              · rw [hp.2 k a (by omega) e]; exact g2 k a hk (by omega)
      refine lv_iconst (v := nI 0) C.1 C.2.1 d_X_rebuild_18 (by decide) ?_
      refine lv_istore_n (lv' := [(2, .int (nI (0))), (1, .int (nI (cnt (d + 2) de))), (0, .ref (q 0))]) C.1 C.2.1 d_X_rebuild_19 rfl hl (by decide) rfl (fun ls hl => ?_)
      exact loop1 (bl + 1) 0 ce (by omega) (by omega) hI.2.1 (fun k a hk ha => absurd ha (by omega)) _ _ hP hD hS ls hl
    · refine lv_iconst (v := nI 0) C.1 C.2.1 d_X_rebuild_16 (by decide) ?_
      exact hret (ce, de) hK hP hD hS d_X_rebuild_17 rfl (Or.inl ⟨Or.inr ((nI_eq (by omega) (by omega)).mp (show nI _ = nI 0 from h13)), rfl, rfl, rfl⟩)

set_option maxHeartbeats 4000000 in
set_option maxRecDepth 100000 in
theorem c_X_ctor (l : Launch) (D : va_G) (h0 : Nat) (u v : Int32) (dn bn : Nat) (sz : Nat) (hdn : clN u 20 = nI dn) (hbn : clN v 40 = nI bn) : wrV (S := (Nat → Nat) × (Nat → Nat)) l D [(h0, .inr (0, [.int 0, .int 0, .null, .null, .null, .null, .int 0]))] [] (fun z => wX z.1 z.2 dn bn 0 (fun _ => 0) (fun _ => 0) (fun _ => 0) (fun _ => 0)) (fun z => kX z.2) y_X_ctor b_X_ctor 3 1 4 1668 [.ref h0, .int u, .int v] sz (fun z => z.1 0 = h0) := by
  refine wrV.of (own := "TwoLost") (by decide) rfl (Nat.le_of_ble_eq_true rfl) ?_
  intro p e s m args below meth c Q A hin C hK hP hD hS hA hret ls hl
  have hl : lv_has ls 3 [(0, .ref h0), (1, .int u), (2, .int v)] := hl
  refine lv_aload_n C.1 C.2.1 d_X_ctor_0 rfl (lv_at hl 0 rfl) ?_
  refine W.objInit C.1 C.2.1 C.2.2.2.1 (C.2.2.2.2 _ k_8) (C.2.2.2.2 _ k_9) (C.2.2.2.2 _ k_10) rfl (by rw [C.2.2.1]; exact hl.1) rfl d_X_ctor_1 (Nat.le_of_ble_eq_true rfl) (Nat.le_of_ble_eq_true rfl) ?_
  refine W.eq (g2 := F0 m 4 ls []) rfl ?_
  refine lv_aload_n C.1 C.2.1 d_X_ctor_4 rfl (lv_at hl 0 rfl) ?_
  refine lv_sipush (v := nI 510) C.1 C.2.1 d_X_ctor_5 (by decide) ?_
  refine va_newa (atype := .int) (ty := .int) (N' := 510) (a0 := (510, .inl (fun _ => 0))) C.1 C.2.1 (C.2.2.2.2 _ k_36) rfl hK hP hD hS hA (fun cA => rfl) (by decide) (by decide) (by decide) (Nat.le_of_ble_eq_true rfl) (Nat.le_of_ble_eq_true rfl) d_X_ctor_8 (fun q1 c1 H hK hP hD hS => ?_)
  have hK : va_K D classes [(c1, .int)] s := hK
  have hP : va_P D classes [(h0, .inr (0, [.int 0, .int 0, .null, .null, .null, .null, .int 0])), (q1, .inl (c1, 510, .inl (fun _ => 0)))] H := hP
  have hD : va_D A [(h0, .inr (0, [.int 0, .int 0, .null, .null, .null, .null, .int 0])), (q1, .inl (c1, 510, .inl (fun _ => 0)))] := hD
  refine W.widen (k := 1) (n := 510) (Nat.le_of_ble_eq_true rfl) (Nat.le_of_ble_eq_true rfl) ?_
  refine va_putF (D := D) (ci := 0) (v := .ref q1) (ty := .array .int) (C := R_X) (T := F_X) (N := 7) C.1 C.2.1 C.2.2.2.2 i_X t_X t_X_ok n_X C.2.2.2.1 hK hP hD hS 0 rfl rfl 2 (by decide) (C.2.2.2.2 _ k_16) (fun _ h9 => h9) rfl hin rfl (by decide +kernel) rfl rfl (Nat.le_of_ble_eq_true rfl) d_X_ctor_10 (fun H locs hP hD hS => ?_)
  have hP : va_P D classes [(h0, .inr (0, [.int 0, .int 0, .ref q1, .null, .null, .null, .int 0])), (q1, .inl (c1, 510, .inl (fun _ => 0)))] H := hP
  have hD : va_D A [(h0, .inr (0, [.int 0, .int 0, .ref q1, .null, .null, .null, .int 0])), (q1, .inl (c1, 510, .inl (fun _ => 0)))] := hD
  refine lv_aload_n C.1 C.2.1 d_X_ctor_13 rfl (lv_at hl 0 rfl) ?_
  refine lv_sipush (v := nI 256) C.1 C.2.1 d_X_ctor_14 (by decide) ?_
  refine va_newa (atype := .int) (ty := .int) (N' := 256) (a0 := (256, .inl (fun _ => 0))) C.1 C.2.1 (C.2.2.2.2 _ k_36) rfl hK hP hD hS hA (fun cA => rfl) (by decide) (by decide) (by decide) (Nat.le_of_ble_eq_true rfl) (Nat.le_of_ble_eq_true rfl) d_X_ctor_17 (fun q2 c2 H hK hP hD hS => ?_)
  have hK : va_K D classes [(c1, .int), (c2, .int)] s := hK
  have hP : va_P D classes [(h0, .inr (0, [.int 0, .int 0, .ref q1, .null, .null, .null, .int 0])), (q1, .inl (c1, 510, .inl (fun _ => 0))), (q2, .inl (c2, 256, .inl (fun _ => 0)))] H := hP
  have hD : va_D A [(h0, .inr (0, [.int 0, .int 0, .ref q1, .null, .null, .null, .int 0])), (q1, .inl (c1, 510, .inl (fun _ => 0))), (q2, .inl (c2, 256, .inl (fun _ => 0)))] := hD
  refine W.widen (k := 2) (n := 766) (Nat.le_of_ble_eq_true rfl) (Nat.le_of_ble_eq_true rfl) ?_
  refine va_putF (D := D) (ci := 0) (v := .ref q2) (ty := .array .int) (C := R_X) (T := F_X) (N := 7) C.1 C.2.1 C.2.2.2.2 i_X t_X t_X_ok n_X C.2.2.2.1 hK hP hD hS 0 rfl rfl 3 (by decide) (C.2.2.2.2 _ k_17) (fun _ h9 => h9) rfl hin rfl (by decide +kernel) rfl rfl (Nat.le_of_ble_eq_true rfl) d_X_ctor_19 (fun H locs hP hD hS => ?_)
  have hP : va_P D classes [(h0, .inr (0, [.int 0, .int 0, .ref q1, .ref q2, .null, .null, .int 0])), (q1, .inl (c1, 510, .inl (fun _ => 0))), (q2, .inl (c2, 256, .inl (fun _ => 0)))] H := hP
  have hD : va_D A [(h0, .inr (0, [.int 0, .int 0, .ref q1, .ref q2, .null, .null, .int 0])), (q1, .inl (c1, 510, .inl (fun _ => 0))), (q2, .inl (c2, 256, .inl (fun _ => 0)))] := hD
  refine lv_aload_n C.1 C.2.1 d_X_ctor_22 rfl (lv_at hl 0 rfl) ?_
  refine lv_sipush (v := nI 880) C.1 C.2.1 d_X_ctor_23 (by decide) ?_
  refine va_newa (atype := .int) (ty := .int) (N' := 880) (a0 := (880, .inl (fun _ => 0))) C.1 C.2.1 (C.2.2.2.2 _ k_36) rfl hK hP hD hS hA (fun cA => rfl) (by decide) (by decide) (by decide) (Nat.le_of_ble_eq_true rfl) (Nat.le_of_ble_eq_true rfl) d_X_ctor_26 (fun q3 c3 H hK hP hD hS => ?_)
  have hK : va_K D classes [(c1, .int), (c2, .int), (c3, .int)] s := hK
  have hP : va_P D classes [(h0, .inr (0, [.int 0, .int 0, .ref q1, .ref q2, .null, .null, .int 0])), (q1, .inl (c1, 510, .inl (fun _ => 0))), (q2, .inl (c2, 256, .inl (fun _ => 0))), (q3, .inl (c3, 880, .inl (fun _ => 0)))] H := hP
  have hD : va_D A [(h0, .inr (0, [.int 0, .int 0, .ref q1, .ref q2, .null, .null, .int 0])), (q1, .inl (c1, 510, .inl (fun _ => 0))), (q2, .inl (c2, 256, .inl (fun _ => 0))), (q3, .inl (c3, 880, .inl (fun _ => 0)))] := hD
  refine W.widen (k := 3) (n := 1646) (Nat.le_of_ble_eq_true rfl) (Nat.le_of_ble_eq_true rfl) ?_
  refine va_putF (D := D) (ci := 0) (v := .ref q3) (ty := .array .int) (C := R_X) (T := F_X) (N := 7) C.1 C.2.1 C.2.2.2.2 i_X t_X t_X_ok n_X C.2.2.2.1 hK hP hD hS 0 rfl rfl 4 (by decide) (C.2.2.2.2 _ k_18) (fun _ h9 => h9) rfl hin rfl (by decide +kernel) rfl rfl (Nat.le_of_ble_eq_true rfl) d_X_ctor_28 (fun H locs hP hD hS => ?_)
  have hP : va_P D classes [(h0, .inr (0, [.int 0, .int 0, .ref q1, .ref q2, .ref q3, .null, .int 0])), (q1, .inl (c1, 510, .inl (fun _ => 0))), (q2, .inl (c2, 256, .inl (fun _ => 0))), (q3, .inl (c3, 880, .inl (fun _ => 0)))] H := hP
  have hD : va_D A [(h0, .inr (0, [.int 0, .int 0, .ref q1, .ref q2, .ref q3, .null, .int 0])), (q1, .inl (c1, 510, .inl (fun _ => 0))), (q2, .inl (c2, 256, .inl (fun _ => 0))), (q3, .inl (c3, 880, .inl (fun _ => 0)))] := hD
  refine lv_aload_n C.1 C.2.1 d_X_ctor_31 rfl (lv_at hl 0 rfl) ?_
  refine lv_bipush (v := nI 22) C.1 C.2.1 d_X_ctor_32 (by decide) ?_
  refine va_newa (atype := .boolean) (ty := .boolean) (N' := 22) (a0 := (22, .inl (fun _ => 0))) C.1 C.2.1 (C.2.2.2.2 _ k_37) rfl hK hP hD hS hA (fun cA => rfl) (by decide) (by decide) (by decide) (Nat.le_of_ble_eq_true rfl) (Nat.le_of_ble_eq_true rfl) d_X_ctor_34 (fun q4 c4 H hK hP hD hS => ?_)
  have hK : va_K D classes [(c1, .int), (c2, .int), (c3, .int), (c4, .boolean)] s := hK
  have hP : va_P D classes [(h0, .inr (0, [.int 0, .int 0, .ref q1, .ref q2, .ref q3, .null, .int 0])), (q1, .inl (c1, 510, .inl (fun _ => 0))), (q2, .inl (c2, 256, .inl (fun _ => 0))), (q3, .inl (c3, 880, .inl (fun _ => 0))), (q4, .inl (c4, 22, .inl (fun _ => 0)))] H := hP
  have hD : va_D A [(h0, .inr (0, [.int 0, .int 0, .ref q1, .ref q2, .ref q3, .null, .int 0])), (q1, .inl (c1, 510, .inl (fun _ => 0))), (q2, .inl (c2, 256, .inl (fun _ => 0))), (q3, .inl (c3, 880, .inl (fun _ => 0))), (q4, .inl (c4, 22, .inl (fun _ => 0)))] := hD
  refine W.widen (k := 4) (n := 1668) (Nat.le_of_ble_eq_true rfl) (Nat.le_of_ble_eq_true rfl) ?_
  refine va_putF (D := D) (ci := 0) (v := .ref q4) (ty := .array .boolean) (C := R_X) (T := F_X) (N := 7) C.1 C.2.1 C.2.2.2.2 i_X t_X t_X_ok n_X C.2.2.2.1 hK hP hD hS 0 rfl rfl 5 (by decide) (C.2.2.2.2 _ k_19) (fun _ h9 => h9) rfl hin rfl (by decide +kernel) rfl rfl (Nat.le_of_ble_eq_true rfl) d_X_ctor_36 (fun H locs hP hD hS => ?_)
  have hP : va_P D classes [(h0, .inr (0, [.int 0, .int 0, .ref q1, .ref q2, .ref q3, .ref q4, .int 0])), (q1, .inl (c1, 510, .inl (fun _ => 0))), (q2, .inl (c2, 256, .inl (fun _ => 0))), (q3, .inl (c3, 880, .inl (fun _ => 0))), (q4, .inl (c4, 22, .inl (fun _ => 0)))] H := hP
  have hD : va_D A [(h0, .inr (0, [.int 0, .int 0, .ref q1, .ref q2, .ref q3, .ref q4, .int 0])), (q1, .inl (c1, 510, .inl (fun _ => 0))), (q2, .inl (c2, 256, .inl (fun _ => 0))), (q3, .inl (c3, 880, .inl (fun _ => 0))), (q4, .inl (c4, 22, .inl (fun _ => 0)))] := hD
  refine lv_aload_n C.1 C.2.1 d_X_ctor_39 rfl (lv_at hl 0 rfl) ?_
  refine lv_iload_n C.1 C.2.1 d_X_ctor_40 rfl (lv_at hl 1 rfl) ?_
  refine lv_bipush (v := nI 20) C.1 C.2.1 d_X_ctor_41 (by decide) ?_
  refine rdM.callS (nA := 2) (c_X_within l D u 20) C (hK.sub (tys' := []) [] rfl) (fun _ _ h => by simp at h) g_X_X_within (by decide +kernel) rfl (by decide) ⟨Nat.le_of_ble_eq_true rfl, Nat.le_of_ble_eq_true rfl⟩ ⟨Nat.le_of_ble_eq_true rfl, Nat.le_of_ble_eq_true rfl⟩ hl.1 (Nat.le_of_ble_eq_true rfl) d_X_ctor_43 rfl (fun r hr => ?_)
  refine lv_eq (y := nI dn) (hr.trans hdn) ?_
  refine va_putF (D := D) (ci := 0) (v := .int (nI dn)) (ty := .int) (C := R_X) (T := F_X) (N := 7) C.1 C.2.1 C.2.2.2.2 i_X t_X t_X_ok n_X C.2.2.2.1 hK hP hD hS 0 rfl rfl 0 (by decide) (C.2.2.2.2 _ k_14) (fun _ h9 => h9) rfl hin rfl (by decide +kernel) rfl rfl (Nat.le_of_ble_eq_true rfl) d_X_ctor_46 (fun H locs hP hD hS => ?_)
  have hP : va_P D classes [(h0, .inr (0, [.int (nI dn), .int 0, .ref q1, .ref q2, .ref q3, .ref q4, .int 0])), (q1, .inl (c1, 510, .inl (fun _ => 0))), (q2, .inl (c2, 256, .inl (fun _ => 0))), (q3, .inl (c3, 880, .inl (fun _ => 0))), (q4, .inl (c4, 22, .inl (fun _ => 0)))] H := hP
  have hD : va_D A [(h0, .inr (0, [.int (nI dn), .int 0, .ref q1, .ref q2, .ref q3, .ref q4, .int 0])), (q1, .inl (c1, 510, .inl (fun _ => 0))), (q2, .inl (c2, 256, .inl (fun _ => 0))), (q3, .inl (c3, 880, .inl (fun _ => 0))), (q4, .inl (c4, 22, .inl (fun _ => 0)))] := hD
  refine lv_aload_n C.1 C.2.1 d_X_ctor_49 rfl (lv_at hl 0 rfl) ?_
  refine lv_iload_n C.1 C.2.1 d_X_ctor_50 rfl (lv_at hl 2 rfl) ?_
  refine lv_bipush (v := nI 40) C.1 C.2.1 d_X_ctor_51 (by decide) ?_
  refine rdM.callS (nA := 2) (c_X_within l D v 40) C (hK.sub (tys' := []) [] rfl) (fun _ _ h => by simp at h) g_X_X_within (by decide +kernel) rfl (by decide) ⟨Nat.le_of_ble_eq_true rfl, Nat.le_of_ble_eq_true rfl⟩ ⟨Nat.le_of_ble_eq_true rfl, Nat.le_of_ble_eq_true rfl⟩ hl.1 (Nat.le_of_ble_eq_true rfl) d_X_ctor_53 rfl (fun r hr => ?_)
  refine lv_eq (y := nI bn) (hr.trans hbn) ?_
  refine va_putF (D := D) (ci := 0) (v := .int (nI bn)) (ty := .int) (C := R_X) (T := F_X) (N := 7) C.1 C.2.1 C.2.2.2.2 i_X t_X t_X_ok n_X C.2.2.2.1 hK hP hD hS 0 rfl rfl 1 (by decide) (C.2.2.2.2 _ k_15) (fun _ h9 => h9) rfl hin rfl (by decide +kernel) rfl rfl (Nat.le_of_ble_eq_true rfl) d_X_ctor_56 (fun H locs hP hD hS => ?_)
  have hP : va_P D classes [(h0, .inr (0, [.int (nI dn), .int (nI bn), .ref q1, .ref q2, .ref q3, .ref q4, .int 0])), (q1, .inl (c1, 510, .inl (fun _ => 0))), (q2, .inl (c2, 256, .inl (fun _ => 0))), (q3, .inl (c3, 880, .inl (fun _ => 0))), (q4, .inl (c4, 22, .inl (fun _ => 0)))] H := hP
  have hD : va_D A [(h0, .inr (0, [.int (nI dn), .int (nI bn), .ref q1, .ref q2, .ref q3, .ref q4, .int 0])), (q1, .inl (c1, 510, .inl (fun _ => 0))), (q2, .inl (c2, 256, .inl (fun _ => 0))), (q3, .inl (c3, 880, .inl (fun _ => 0))), (q4, .inl (c4, 22, .inl (fun _ => 0)))] := hD
  exact hret ((fun i => match i with | 0 => h0 | 1 => q1 | 2 => q2 | 3 => q3 | _ => q4), (fun i => match i with | 1 => c1 | 2 => c2 | 3 => c3 | _ => c4)) hK hP hD hS d_X_ctor_59 rfl
end
section
/-! PART 13: TwoLostModel, methods that only read (printed by gen_m1.py) -/

theorem m1_sub (x : Int32) : x + Int32.ofInt (-1) = x - nI 1 := by rw [Int32.sub_eq_add_neg, show -nI 1 = Int32.ofInt (-1) by decide]
abbrev okP (u b : Int32) : Prop := ¬ u < 0 ∧ u < b

set_option maxHeartbeats 4000000 in
set_option maxRecDepth 100000 in
theorem c_M_isDisk (l : Launch) (D : va_G) (q k : Nat → Nat) (d bl : Nat) (rd : Int32) (mp kp fl : Nat → Int32) (u : Int32) : rdM l D (wM q k d bl rd mp kp fl) (kM k) y_M_isDisk b_M_isDisk 2 (some .boolean) 0 [.ref (q 0), .int u] (fun r => r = if okD rd u (nI (d + 2)) then nI 1 else nI 0) := by
  refine rdM.of (own := "TwoLostModel") (by decide) rfl (Nat.le_of_ble_eq_true rfl) ?_
  intro p e s m args below meth c Q C hK hP hret ls hl
  have hl : lv_has ls 2 [(0, .ref (q 0)), (1, .int u)] := hl
  refine lv_aload_n C.1 C.2.1 d_M_isDisk_0 rfl (lv_at hl 0 rfl) ?_
  refine gm_rd C hK hP d_M_isDisk_1 ?_
  refine lv_if_eq (tgt := 25) C.1 C.2.1 d_M_isDisk_4 (by decide) (fun h4 => ?_) (fun h4 => ?_)
  · refine lv_iconst (v := nI 0) C.1 C.2.1 d_M_isDisk_25 (by decide) ?_
    exact hret d_M_isDisk_26 nz0 (if_neg (fun z => z.1 h4)).symm
  · refine lv_iload_n C.1 C.2.1 d_M_isDisk_7 rfl (lv_at hl 1 rfl) ?_
    refine lv_if_lt (tgt := 25) C.1 C.2.1 d_M_isDisk_8 (by decide) (fun h8 => ?_) (fun h8 => ?_)
    · refine lv_iconst (v := nI 0) C.1 C.2.1 d_M_isDisk_25 (by decide) ?_
      exact hret d_M_isDisk_26 nz0 (if_neg (fun z => z.2.1 h8)).symm
    · refine lv_iload_n C.1 C.2.1 d_M_isDisk_11 rfl (lv_at hl 1 rfl) ?_
      refine lv_aload_n C.1 C.2.1 d_M_isDisk_12 rfl (lv_at hl 0 rfl) ?_
      refine gm_d C hK hP d_M_isDisk_13 ?_
      refine lv_iconst (v := nI 2) C.1 C.2.1 d_M_isDisk_16 (by decide) ?_
      refine lv_iadd C.1 C.2.1 d_M_isDisk_17 ?_
      refine lv_eq (nI_add _ _) ?_
      refine lv_icmp_ge (tgt := 25) C.1 C.2.1 d_M_isDisk_18 (by decide) (fun h18 => ?_) (fun h18 => ?_)
      · refine lv_iconst (v := nI 0) C.1 C.2.1 d_M_isDisk_25 (by decide) ?_
        exact hret d_M_isDisk_26 nz0 (if_neg (fun z => Int32.not_lt.mpr h18 z.2.2)).symm
      · refine lv_iconst (v := nI 1) C.1 C.2.1 d_M_isDisk_21 (by decide) ?_
        refine lv_goto (tgt := 26) C.1 C.2.1 d_M_isDisk_22 (by decide) ?_
        exact hret d_M_isDisk_26 nz1 (if_pos ⟨h4, h8, Int32.not_le.mp h18⟩).symm

section KM_id
variable {p : Program} {l : Launch} {e : Env} {R : Room} {s : State} {m : MethodId} {args : Array Value} {below : List Frame} {meth : Method} {c : Code} {H H0 : Heap} {locs : List Loc} {cells slots nL : Nat} {Q : State → Prop}
variable {cc : ByteArray} {pc : Nat} {ls : Array Slot} {rest : List Value} {D : va_G} {A : Nat → Prop} {own : String}
variable {q k : Nat → Nat} {d bl : Nat} {rd : Int32} {ex lg ce de mp kp fl : Nat → Int32}
theorem k_M_isDisk {u : Int32} (C : CallFix p m c cc nL s args tb "TwoLostModel") (hK : va_K D classes (kM k) s) (hP : va_P D classes (wM q k d bl rd mp kp fl) H) (hR : 1 ≤ R.frames ∧ 25 * 1 ≤ R.locals) (hf : cells ≤ R.cells ∧ slots ≤ R.slots) (hls : ls.size = nL) (hrest : (rest.map fun v => v.category).sum ≤ 8) (hdg : decode cc pc = .ok (.invokevirtual 45, 3)) (kk : W p l e R s m args below meth c H locs cells slots Q (F0 m (pc + 3) ls (.int (if okD rd u (nI (d + 2)) then nI 1 else nI 0) :: rest))) : W p l e R s m args below meth c H locs cells slots Q (F0 m pc ls (.int u :: .ref (q 0) :: rest)) := rdM.call (nA := 1) (ci := 1) (cq := (R_M, F_M, 6)) (c_M_isDisk l D q k d bl rd mp kp fl u) C hK hP g_M_M_isDisk rfl rfl (by decide +kernel) rfl (by decide) hR hf hls hrest hdg rfl (fun r hr => by subst hr; exact kk)
end KM_id

set_option maxHeartbeats 4000000 in
set_option maxRecDepth 100000 in
theorem c_M_isPlace (l : Launch) (D : va_G) (q k : Nat → Nat) (d bl : Nat) (rd : Int32) (mp kp fl : Nat → Int32) (u : Int32) : rdM l D (wM q k d bl rd mp kp fl) (kM k) y_M_isPlace b_M_isPlace 2 (some .boolean) 0 [.ref (q 0), .int u] (fun r => r = if okP u (nI bl) then nI 1 else nI 0) := by
  refine rdM.of (own := "TwoLostModel") (by decide) rfl (Nat.le_of_ble_eq_true rfl) ?_
  intro p e s m args below meth c Q C hK hP hret ls hl
  have hl : lv_has ls 2 [(0, .ref (q 0)), (1, .int u)] := hl
  refine lv_iload_n C.1 C.2.1 d_M_isPlace_0 rfl (lv_at hl 1 rfl) ?_
  refine lv_if_lt (tgt := 16) C.1 C.2.1 d_M_isPlace_1 (by decide) (fun h1 => ?_) (fun h1 => ?_)
  · refine lv_iconst (v := nI 0) C.1 C.2.1 d_M_isPlace_16 (by decide) ?_
    exact hret d_M_isPlace_17 nz0 (if_neg (fun z => z.1 h1)).symm
  · refine lv_iload_n C.1 C.2.1 d_M_isPlace_4 rfl (lv_at hl 1 rfl) ?_
    refine lv_aload_n C.1 C.2.1 d_M_isPlace_5 rfl (lv_at hl 0 rfl) ?_
    refine gm_bl C hK hP d_M_isPlace_6 ?_
    refine lv_icmp_ge (tgt := 16) C.1 C.2.1 d_M_isPlace_9 (by decide) (fun h9 => ?_) (fun h9 => ?_)
    · refine lv_iconst (v := nI 0) C.1 C.2.1 d_M_isPlace_16 (by decide) ?_
      exact hret d_M_isPlace_17 nz0 (if_neg (fun z => Int32.not_lt.mpr h9 z.2)).symm
    · refine lv_iconst (v := nI 1) C.1 C.2.1 d_M_isPlace_12 (by decide) ?_
      refine lv_goto (tgt := 17) C.1 C.2.1 d_M_isPlace_13 (by decide) ?_
      exact hret d_M_isPlace_17 nz1 (if_pos ⟨h1, Int32.not_le.mp h9⟩).symm

section KM_ip
variable {p : Program} {l : Launch} {e : Env} {R : Room} {s : State} {m : MethodId} {args : Array Value} {below : List Frame} {meth : Method} {c : Code} {H H0 : Heap} {locs : List Loc} {cells slots nL : Nat} {Q : State → Prop}
variable {cc : ByteArray} {pc : Nat} {ls : Array Slot} {rest : List Value} {D : va_G} {A : Nat → Prop} {own : String}
variable {q k : Nat → Nat} {d bl : Nat} {rd : Int32} {ex lg ce de mp kp fl : Nat → Int32}
theorem k_M_isPlace {u : Int32} (C : CallFix p m c cc nL s args tb "TwoLostModel") (hK : va_K D classes (kM k) s) (hP : va_P D classes (wM q k d bl rd mp kp fl) H) (hR : 1 ≤ R.frames ∧ 25 * 1 ≤ R.locals) (hf : cells ≤ R.cells ∧ slots ≤ R.slots) (hls : ls.size = nL) (hrest : (rest.map fun v => v.category).sum ≤ 8) (hdg : decode cc pc = .ok (.invokevirtual 31, 3)) (kk : W p l e R s m args below meth c H locs cells slots Q (F0 m (pc + 3) ls (.int (if okP u (nI bl) then nI 1 else nI 0) :: rest))) : W p l e R s m args below meth c H locs cells slots Q (F0 m pc ls (.int u :: .ref (q 0) :: rest)) := rdM.call (nA := 1) (ci := 1) (cq := (R_M, F_M, 6)) (c_M_isPlace l D q k d bl rd mp kp fl u) C hK hP g_M_M_isPlace rfl rfl (by decide +kernel) rfl (by decide) hR hf hls hrest hdg rfl (fun r hr => by subst hr; exact kk)
end KM_ip

set_option maxHeartbeats 4000000 in
set_option maxRecDepth 100000 in
theorem c_M_isData (l : Launch) (D : va_G) (q k : Nat → Nat) (d bl : Nat) (rd : Int32) (mp kp fl : Nat → Int32) (u v : Int32) : rdM l D (wM q k d bl rd mp kp fl) (kM k) y_M_isData b_M_isData 3 (some .boolean) 1 [.ref (q 0), .int u, .int v] (fun r => r = if okC rd u v (nI d) (nI bl) then nI 1 else nI 0) := by
  refine rdM.of (own := "TwoLostModel") (by decide) rfl (Nat.le_of_ble_eq_true rfl) ?_
  intro p e s m args below meth c Q C hK hP hret ls hl
  have hl : lv_has ls 3 [(0, .ref (q 0)), (1, .int u), (2, .int v)] := hl
  refine lv_aload_n C.1 C.2.1 d_M_isData_0 rfl (lv_at hl 0 rfl) ?_
  refine gm_rd C hK hP d_M_isData_1 ?_
  refine lv_if_eq (tgt := 31) C.1 C.2.1 d_M_isData_4 (by decide) (fun h4 => ?_) (fun h4 => ?_)
  · refine lv_iconst (v := nI 0) C.1 C.2.1 d_M_isData_31 (by decide) ?_
    exact hret d_M_isData_32 nz0 (if_neg (fun z => z.1 h4)).symm
  · refine lv_iload_n C.1 C.2.1 d_M_isData_7 rfl (lv_at hl 1 rfl) ?_
    refine lv_if_lt (tgt := 31) C.1 C.2.1 d_M_isData_8 (by decide) (fun h8 => ?_) (fun h8 => ?_)
    · refine lv_iconst (v := nI 0) C.1 C.2.1 d_M_isData_31 (by decide) ?_
      exact hret d_M_isData_32 nz0 (if_neg (fun z => z.2.1 h8)).symm
    · refine lv_iload_n C.1 C.2.1 d_M_isData_11 rfl (lv_at hl 1 rfl) ?_
      refine lv_aload_n C.1 C.2.1 d_M_isData_12 rfl (lv_at hl 0 rfl) ?_
      refine gm_d C hK hP d_M_isData_13 ?_
      refine lv_icmp_ge (tgt := 31) C.1 C.2.1 d_M_isData_16 (by decide) (fun h16 => ?_) (fun h16 => ?_)
      · refine lv_iconst (v := nI 0) C.1 C.2.1 d_M_isData_31 (by decide) ?_
        exact hret d_M_isData_32 nz0 (if_neg (fun z => Int32.not_lt.mpr h16 z.2.2.1)).symm
      · refine lv_aload_n C.1 C.2.1 d_M_isData_19 rfl (lv_at hl 0 rfl) ?_
        refine lv_iload_n C.1 C.2.1 d_M_isData_20 rfl (lv_at hl 2 rfl) ?_
        refine k_M_isPlace C hK hP ⟨Nat.le_of_ble_eq_true rfl, Nat.le_of_ble_eq_true rfl⟩ ⟨Nat.le_of_ble_eq_true rfl, Nat.le_of_ble_eq_true rfl⟩ hl.1 (Nat.le_of_ble_eq_true rfl) d_M_isData_21 (?_)
        by_cases hp : okP v (nI bl)
        · rw [if_pos hp]
          refine lv_if_eq (tgt := 31) C.1 C.2.1 d_M_isData_24 (by decide) (fun h24 => ?_) (fun h24 => ?_)
          · exact absurd h24 (by decide)
          · refine lv_iconst (v := nI 1) C.1 C.2.1 d_M_isData_27 (by decide) ?_
            refine lv_goto (tgt := 32) C.1 C.2.1 d_M_isData_28 (by decide) ?_
            exact hret d_M_isData_32 nz1 (if_pos ⟨h4, h8, Int32.not_le.mp h16, hp.1, hp.2⟩).symm
        · rw [if_neg hp]
          refine lv_if_eq (tgt := 31) C.1 C.2.1 d_M_isData_24 (by decide) (fun h24 => ?_) (fun h24 => ?_)
          · refine lv_iconst (v := nI 0) C.1 C.2.1 d_M_isData_31 (by decide) ?_
            exact hret d_M_isData_32 nz0 (if_neg (fun z => hp ⟨z.2.2.2.1, z.2.2.2.2⟩)).symm
          · exact absurd rfl h24

section KM_ida
variable {p : Program} {l : Launch} {e : Env} {R : Room} {s : State} {m : MethodId} {args : Array Value} {below : List Frame} {meth : Method} {c : Code} {H H0 : Heap} {locs : List Loc} {cells slots nL : Nat} {Q : State → Prop}
variable {cc : ByteArray} {pc : Nat} {ls : Array Slot} {rest : List Value} {D : va_G} {A : Nat → Prop} {own : String}
variable {q k : Nat → Nat} {d bl : Nat} {rd : Int32} {ex lg ce de mp kp fl : Nat → Int32}
theorem k_M_isData {u v : Int32} (C : CallFix p m c cc nL s args tb "TwoLostModel") (hK : va_K D classes (kM k) s) (hP : va_P D classes (wM q k d bl rd mp kp fl) H) (hR : 2 ≤ R.frames ∧ 25 * 2 ≤ R.locals) (hf : cells ≤ R.cells ∧ slots ≤ R.slots) (hls : ls.size = nL) (hrest : (rest.map fun v => v.category).sum ≤ 8) (hdg : decode cc pc = .ok (.invokevirtual 35, 3)) (kk : W p l e R s m args below meth c H locs cells slots Q (F0 m (pc + 3) ls (.int (if okC rd u v (nI d) (nI bl) then nI 1 else nI 0) :: rest))) : W p l e R s m args below meth c H locs cells slots Q (F0 m pc ls (.int v :: .int u :: .ref (q 0) :: rest)) := rdM.call (nA := 2) (ci := 1) (cq := (R_M, F_M, 6)) (c_M_isData l D q k d bl rd mp kp fl u v) C hK hP g_M_M_isData rfl rfl (by decide +kernel) rfl (by decide) hR hf hls hrest hdg rfl (fun r hr => by subst hr; exact kk)
end KM_ida

set_option maxHeartbeats 4000000 in
set_option maxRecDepth 100000 in
theorem c_M_timesX (l : Launch) (D : va_G) (v : Int32) : rdM l D [] [] y_M_timesX b_M_timesX 3 (some .int) 0 [.int v] (fun r => r = tx v) := by
  refine rdM.of (own := "TwoLostModel") (by decide) rfl (Nat.le_of_ble_eq_true rfl) ?_
  intro p e s m args below meth c Q C hK hP hret ls hl
  have hl : lv_has ls 3 [(0, .int v)] := hl
  refine lv_iload_n C.1 C.2.1 d_M_timesX_0 rfl (lv_at hl 0 rfl) ?_
  refine lv_ldc C.1 C.2.1 C.2.2.2.1 (C.2.2.2.2 _ k_191) d_M_timesX_1 ?_
  refine lv_iand C.1 C.2.1 d_M_timesX_3 ?_
  refine lv_iconst (v := nI 1) C.1 C.2.1 d_M_timesX_4 (by decide) ?_
  refine lv_ishl C.1 C.2.1 d_M_timesX_5 ?_
  refine lv_topi (fun v_6 e_v_6 => ?_)
  refine lv_istore_n (lv' := [(1, .int v_6), (0, .int v)]) C.1 C.2.1 d_M_timesX_6 rfl hl (by decide) rfl (fun ls hl => ?_)
  refine lv_iload_n C.1 C.2.1 d_M_timesX_7 rfl (lv_at hl 1 rfl) ?_
  refine lv_bipush (v := nI 7) C.1 C.2.1 d_M_timesX_8 (by decide) ?_
  refine lv_iushr C.1 C.2.1 d_M_timesX_10 rfl ?_
  refine lv_ldc C.1 C.2.1 C.2.2.2.1 (C.2.2.2.2 _ k_192) d_M_timesX_11 ?_
  refine lv_iand C.1 C.2.1 d_M_timesX_13 ?_
  refine lv_topi (fun v_14 e_v_14 => ?_)
  refine lv_istore_n (lv' := [(2, .int v_14), (1, .int v_6), (0, .int v)]) C.1 C.2.1 d_M_timesX_14 rfl hl (by decide) rfl (fun ls hl => ?_)
  refine lv_iload_n C.1 C.2.1 d_M_timesX_15 rfl (lv_at hl 1 rfl) ?_
  refine lv_iload_n C.1 C.2.1 d_M_timesX_16 rfl (lv_at hl 0 rfl) ?_
  refine lv_ixor C.1 C.2.1 d_M_timesX_17 ?_
  refine lv_iload_n C.1 C.2.1 d_M_timesX_18 rfl (lv_at hl 0 rfl) ?_
  refine lv_iconst (v := nI 2) C.1 C.2.1 d_M_timesX_19 (by decide) ?_
  refine lv_ishl C.1 C.2.1 d_M_timesX_20 ?_
  refine lv_ixor C.1 C.2.1 d_M_timesX_21 ?_
  refine lv_iload_n C.1 C.2.1 d_M_timesX_22 rfl (lv_at hl 0 rfl) ?_
  refine lv_iconst (v := nI 3) C.1 C.2.1 d_M_timesX_23 (by decide) ?_
  refine lv_ishl C.1 C.2.1 d_M_timesX_24 ?_
  refine lv_ixor C.1 C.2.1 d_M_timesX_25 ?_
  refine lv_iload_n C.1 C.2.1 d_M_timesX_26 rfl (lv_at hl 0 rfl) ?_
  refine lv_iconst (v := nI 4) C.1 C.2.1 d_M_timesX_27 (by decide) ?_
  refine lv_ishl C.1 C.2.1 d_M_timesX_28 ?_
  refine lv_ixor C.1 C.2.1 d_M_timesX_29 ?_
  refine hret d_M_timesX_30 rfl ?_
  show _ = tx v
  rw [e_v_6, e_v_14]
  rfl

section KM_tx
variable {p : Program} {l : Launch} {e : Env} {R : Room} {s : State} {m : MethodId} {args : Array Value} {below : List Frame} {meth : Method} {c : Code} {H H0 : Heap} {locs : List Loc} {cells slots nL : Nat} {Q : State → Prop}
variable {cc : ByteArray} {pc : Nat} {ls : Array Slot} {rest : List Value} {D : va_G} {A : Nat → Prop} {own : String}
variable {q k : Nat → Nat} {d bl : Nat} {rd : Int32} {ex lg ce de mp kp fl : Nat → Int32}
theorem k_M_timesX {v : Int32} (C : CallFix p m c cc nL s args tb "TwoLostModel") (hK : va_K D classes (kM k) s) (hP : va_P D classes (wM q k d bl rd mp kp fl) H) (hR : 1 ≤ R.frames ∧ 25 * 1 ≤ R.locals) (hf : cells ≤ R.cells ∧ slots ≤ R.slots) (hls : ls.size = nL) (hrest : (rest.map fun v => v.category).sum ≤ 8) (hdg : decode cc pc = .ok (.invokestatic 41, 3)) (kk : W p l e R s m args below meth c H locs cells slots Q (F0 m (pc + 3) ls (.int (tx v) :: rest))) : W p l e R s m args below meth c H locs cells slots Q (F0 m pc ls (.int v :: rest)) := rdM.callS (nA := 1) (c_M_timesX l D v) C (hK.sub (tys' := []) [] rfl) (fun _ _ h => by simp at h) g_M_M_timesX (by decide +kernel) rfl (by decide) hR hf hls hrest hdg rfl (fun r hr => by subst hr; exact kk)
end KM_tx

set_option maxHeartbeats 4000000 in
set_option maxRecDepth 100000 in
theorem c_M_due (l : Launch) (D : va_G) (q k : Nat → Nat) (d bl : Nat) (rd : Int32) (mp kp fl : Nat → Int32) (x a : Nat) (hd1 : 1 ≤ d) (hd : d ≤ 20) (hx : x < d + 2) (ha : a < 40) : rdM l D (wM q k d bl rd mp kp fl) (kM k) y_M_due b_M_due 5 (some .int) 1 [.ref (q 0), .int (nI (x)), .int (nI (a))] (fun r => r = du d mp x a) := by
  refine rdM.of (own := "TwoLostModel") (by decide) rfl (Nat.le_of_ble_eq_true rfl) ?_
  intro p e s m args below meth c Q C hK hP hret ls hl
  have hl : lv_has ls 5 [(0, .ref (q 0)), (1, .int (nI (x))), (2, .int (nI (a)))] := hl
  refine lv_iload_n C.1 C.2.1 d_M_due_0 rfl (lv_at hl 1 rfl) ?_
  refine lv_aload_n C.1 C.2.1 d_M_due_1 rfl (lv_at hl 0 rfl) ?_
  refine gm_d C hK hP d_M_due_2 ?_
  refine bn_ge (tgt := 20) C d_M_due_5 (by decide) (by omega) (by omega) (fun h5 => ?_) (fun h5 => ?_)
  · refine lv_iconst (v := nI 0) C.1 C.2.1 d_M_due_20 (by decide) ?_
    refine lv_istore_n (lv' := [(3, .int (nI (0))), (0, .ref (q 0)), (1, .int (nI (x))), (2, .int (nI (a)))]) C.1 C.2.1 d_M_due_21 rfl hl (by decide) rfl (fun ls hl => ?_)
    refine lv_aload_n C.1 C.2.1 d_M_due_22 rfl (lv_at hl 1 rfl) ?_
    refine gm_d C hK hP d_M_due_23 ?_
    refine lv_iconst (v := nI 1) C.1 C.2.1 d_M_due_26 (by decide) ?_
    refine lv_isub C.1 C.2.1 d_M_due_27 ?_
    refine lv_eq (pk_sub (by omega)) ?_
    refine lv_istore (lv' := [(4, .int (nI (d - 1))), (3, .int (nI (0))), (0, .ref (q 0)), (1, .int (nI (x))), (2, .int (nI (a)))]) C.1 C.2.1 d_M_due_28 hl (by decide) rfl (fun ls hl => ?_)
    have loop : ∀ (j : Nat) (v iv : Int32), j ≤ d → iv = nI j - nI 1 → (x = d → ps j (fun t => mp (40 * t + a)) ^^^ v = ps d (fun t => mp (40 * t + a))) → (x = d + 1 → ps j (fun t => tp t (mp (40 * t + a))) ^^^ tp j v = ps d (fun t => tp t (mp (40 * t + a)))) → ∀ ls, lv_has ls 5 [(4, .int iv), (3, .int v), (0, .ref (q 0)), (1, .int (nI (x))), (2, .int (nI (a)))] → W p l e (rmL 1 0 0) s m args below meth c s.heap [] 0 0 Q (F0 m 30 ls []) := by
      intro j
      induction j with
      | zero =>
        intro v iv hj hiv g1 g2 ls hl
        refine lv_iload C.1 C.2.1 d_M_due_30 (lv_at hl 0 rfl) ?_
        refine lv_if_lt (tgt := 71) C.1 C.2.1 d_M_due_32 (by decide) (fun h32 => ?_) (fun h32 => ?_)
        · refine lv_iload_n C.1 C.2.1 d_M_due_71 rfl (lv_at hl 1 rfl) ?_
          refine hret d_M_due_72 rfl ?_
          show v = du d mp x a
          by_cases hxd : x = d
          · have g := g1 hxd
            rw [show ps 0 (fun t => mp (40 * t + a)) = 0 from rfl, Int32.zero_xor] at g
            rw [g, hxd, du_p]
          · have hxq : x = d + 1 := by omega
            have g := g2 hxq
            rw [show ps 0 (fun t => tp t (mp (40 * t + a))) = 0 from rfl, Int32.zero_xor, show tp 0 v = v from rfl] at g
            rw [g, hxq, du_q]
        · exact absurd (by rw [hiv]; decide) h32
      | succ j ih =>
        intro v iv hj hiv g1 g2 ls hl
        have hiv : iv = nI j := by rw [hiv]; exact nI_pred j
        subst hiv
        refine lv_iload C.1 C.2.1 d_M_due_30 (lv_at hl 0 rfl) ?_
        refine lv_if_lt (tgt := 71) C.1 C.2.1 d_M_due_32 (by decide) (fun h32 => ?_) (fun h32 => ?_)
        · exact absurd h32 (nI_pos (by omega))
        · refine lv_iload_n C.1 C.2.1 d_M_due_35 rfl (lv_at hl 3 rfl) ?_
          refine lv_aload_n C.1 C.2.1 d_M_due_36 rfl (lv_at hl 2 rfl) ?_
          refine gm_d C hK hP d_M_due_37 ?_
          refine bn_ne (tgt := 47) C d_M_due_40 (by decide) (by omega) (by omega) (fun h40 => ?_) (fun h40 => ?_)
          · refine lv_iload_n C.1 C.2.1 d_M_due_47 rfl (lv_at hl 1 rfl) ?_
            refine k_M_timesX C hK hP ⟨Nat.le_of_ble_eq_true rfl, Nat.le_of_ble_eq_true rfl⟩ ⟨Nat.le_of_ble_eq_true rfl, Nat.le_of_ble_eq_true rfl⟩ hl.1 (Nat.le_of_ble_eq_true rfl) d_M_due_48 (?_)
            refine lv_aload_n C.1 C.2.1 d_M_due_51 rfl (lv_at hl 2 rfl) ?_
            refine gm_mp C hK hP d_M_due_52 ?_
            refine lv_bipush (v := nI 40) C.1 C.2.1 d_M_due_55 (by decide) ?_
            refine lv_iload C.1 C.2.1 d_M_due_57 (lv_at hl 0 rfl) ?_
            refine lv_imul C.1 C.2.1 d_M_due_59 ?_
            refine lv_eq (pk_mul _ _) ?_
            refine lv_iload_n C.1 C.2.1 d_M_due_60 rfl (lv_at hl 4 rfl) ?_
            refine lv_iadd C.1 C.2.1 d_M_due_61 ?_
            refine lv_eq (nI_add _ _) ?_
            refine ml_mp C hK hP (j := (40 * j) + a) (by omega) d_M_due_62 ?_
            refine lv_ixor C.1 C.2.1 d_M_due_63 ?_
            refine lv_topi (fun v2 e_v2 => ?_)
            refine lv_istore_n (lv' := [(3, .int v2), (4, .int (nI (j))), (0, .ref (q 0)), (1, .int (nI (x))), (2, .int (nI (a)))]) C.1 C.2.1 d_M_due_64 rfl hl (by decide) rfl (fun ls hl => ?_)
            obtain ⟨iv2, hiv2⟩ : ∃ y : Int32, y = nI j - nI 1 := ⟨_, rfl⟩
            refine lv_iinc (v := iv2) (lv' := [(4, .int iv2), (3, .int v2), (0, .ref (q 0)), (1, .int (nI (x))), (2, .int (nI (a)))]) C.1 C.2.1 d_M_due_65 hl (k := 1) rfl (by rw [hiv2]; exact m1_sub _) (by decide) rfl (fun ls hl => ?_)
            refine lv_goto (tgt := 30) C.1 C.2.1 d_M_due_68 (by decide) ?_
            refine ih v2 iv2 (by omega) hiv2 (fun z => absurd z h40) (fun z => ?_) ls hl
            rw [← g2 z, e_v2, tp_lin, show tp j (tx v) = tp (j + 1) v from (tp_add j 1 v).symm]
            show _ = (ps j _ ^^^ tp j (mp (40 * j + a))) ^^^ tp (j + 1) v
            rw [Int32.xor_assoc, Int32.xor_comm (tp j (mp (40 * j + a)))]
          · refine lv_iload_n C.1 C.2.1 d_M_due_43 rfl (lv_at hl 1 rfl) ?_
            refine lv_goto (tgt := 51) C.1 C.2.1 d_M_due_44 (by decide) ?_
            refine lv_aload_n C.1 C.2.1 d_M_due_51 rfl (lv_at hl 2 rfl) ?_
            refine gm_mp C hK hP d_M_due_52 ?_
            refine lv_bipush (v := nI 40) C.1 C.2.1 d_M_due_55 (by decide) ?_
            refine lv_iload C.1 C.2.1 d_M_due_57 (lv_at hl 0 rfl) ?_
            refine lv_imul C.1 C.2.1 d_M_due_59 ?_
            refine lv_eq (pk_mul _ _) ?_
            refine lv_iload_n C.1 C.2.1 d_M_due_60 rfl (lv_at hl 4 rfl) ?_
            refine lv_iadd C.1 C.2.1 d_M_due_61 ?_
            refine lv_eq (nI_add _ _) ?_
            refine ml_mp C hK hP (j := (40 * j) + a) (by omega) d_M_due_62 ?_
            refine lv_ixor C.1 C.2.1 d_M_due_63 ?_
            refine lv_topi (fun v2 e_v2 => ?_)
            refine lv_istore_n (lv' := [(3, .int v2), (4, .int (nI (j))), (0, .ref (q 0)), (1, .int (nI (x))), (2, .int (nI (a)))]) C.1 C.2.1 d_M_due_64 rfl hl (by decide) rfl (fun ls hl => ?_)
            obtain ⟨iv2, hiv2⟩ : ∃ y : Int32, y = nI j - nI 1 := ⟨_, rfl⟩
            refine lv_iinc (v := iv2) (lv' := [(4, .int iv2), (3, .int v2), (0, .ref (q 0)), (1, .int (nI (x))), (2, .int (nI (a)))]) C.1 C.2.1 d_M_due_65 hl (k := 1) rfl (by rw [hiv2]; exact m1_sub _) (by decide) rfl (fun ls hl => ?_)
            refine lv_goto (tgt := 30) C.1 C.2.1 d_M_due_68 (by decide) ?_
            refine ih v2 iv2 (by omega) hiv2 (fun z => ?_) (fun z => absurd z (by omega)) ls hl
            rw [← g1 z, e_v2]
            show _ = (ps j _ ^^^ mp (40 * j + a)) ^^^ v
            rw [Int32.xor_assoc, Int32.xor_comm (mp (40 * j + a))]
    exact loop d 0 _ (by omega) (pk_sub hd1).symm (fun _ => Int32.xor_zero) (fun _ => by rw [tp_0, Int32.xor_zero]) ls (lv_sub hl [0, 1, 2, 3, 4] rfl)
  · refine lv_aload_n C.1 C.2.1 d_M_due_8 rfl (lv_at hl 0 rfl) ?_
    refine gm_mp C hK hP d_M_due_9 ?_
    refine lv_bipush (v := nI 40) C.1 C.2.1 d_M_due_12 (by decide) ?_
    refine lv_iload_n C.1 C.2.1 d_M_due_14 rfl (lv_at hl 1 rfl) ?_
    refine lv_imul C.1 C.2.1 d_M_due_15 ?_
    refine lv_eq (pk_mul _ _) ?_
    refine lv_iload_n C.1 C.2.1 d_M_due_16 rfl (lv_at hl 2 rfl) ?_
    refine lv_iadd C.1 C.2.1 d_M_due_17 ?_
    refine lv_eq (nI_add _ _) ?_
    refine ml_mp C hK hP (j := (40 * x) + a) (by omega) d_M_due_18 ?_
    exact hret d_M_due_19 rfl (du_d h5).symm

section KM_due
variable {p : Program} {l : Launch} {e : Env} {R : Room} {s : State} {m : MethodId} {args : Array Value} {below : List Frame} {meth : Method} {c : Code} {H H0 : Heap} {locs : List Loc} {cells slots nL : Nat} {Q : State → Prop}
variable {cc : ByteArray} {pc : Nat} {ls : Array Slot} {rest : List Value} {D : va_G} {A : Nat → Prop} {own : String}
variable {q k : Nat → Nat} {d bl : Nat} {rd : Int32} {ex lg ce de mp kp fl : Nat → Int32}
theorem k_M_due {x a : Nat} (C : CallFix p m c cc nL s args tb "TwoLostModel") (hK : va_K D classes (kM k) s) (hP : va_P D classes (wM q k d bl rd mp kp fl) H) (hd1 : 1 ≤ d) (hd : d ≤ 20) (hx : x < d + 2) (ha : a < 40) (hR : 2 ≤ R.frames ∧ 25 * 2 ≤ R.locals) (hf : cells ≤ R.cells ∧ slots ≤ R.slots) (hls : ls.size = nL) (hrest : (rest.map fun v => v.category).sum ≤ 8) (hdg : decode cc pc = .ok (.invokevirtual 52, 3)) (kk : W p l e R s m args below meth c H locs cells slots Q (F0 m (pc + 3) ls (.int (du d mp x a) :: rest))) : W p l e R s m args below meth c H locs cells slots Q (F0 m pc ls (.int (nI a) :: .int (nI x) :: .ref (q 0) :: rest)) := rdM.call (nA := 2) (ci := 1) (cq := (R_M, F_M, 6)) (c_M_due l D q k d bl rd mp kp fl x a hd1 hd hx ha) C hK hP g_M_M_due rfl rfl (by decide +kernel) rfl (by decide) hR hf hls hrest hdg rfl (fun r hr => by subst hr; exact kk)
end KM_due

set_option maxHeartbeats 4000000 in
set_option maxRecDepth 100000 in
theorem c_M_read (l : Launch) (D : va_G) (q k : Nat → Nat) (d bl : Nat) (rd : Int32) (mp kp fl : Nat → Int32) (u v : Int32) (hd : d ≤ 20) (hbl : bl ≤ 40) : rdM l D (wM q k d bl rd mp kp fl) (kM k) y_M_read b_M_read 3 (some .int) 2 [.ref (q 0), .int u, .int v] (fun r => r = if okC rd u v (nI d) (nI bl) then mp (40 * u.toNatClampNeg + v.toNatClampNeg) else nI 0) := by
  refine rdM.of (own := "TwoLostModel") (by decide) rfl (Nat.le_of_ble_eq_true rfl) ?_
  intro p e s m args below meth c Q C hK hP hret ls hl
  have hl : lv_has ls 3 [(0, .ref (q 0)), (1, .int u), (2, .int v)] := hl
  refine lv_aload_n C.1 C.2.1 d_M_read_0 rfl (lv_at hl 0 rfl) ?_
  refine lv_iload_n C.1 C.2.1 d_M_read_1 rfl (lv_at hl 1 rfl) ?_
  refine lv_iload_n C.1 C.2.1 d_M_read_2 rfl (lv_at hl 2 rfl) ?_
  refine k_M_isData C hK hP ⟨Nat.le_of_ble_eq_true rfl, Nat.le_of_ble_eq_true rfl⟩ ⟨Nat.le_of_ble_eq_true rfl, Nat.le_of_ble_eq_true rfl⟩ hl.1 (Nat.le_of_ble_eq_true rfl) d_M_read_3 (?_)
  by_cases hok : okC rd u v (nI d) (nI bl)
  · rw [if_pos hok]
    obtain ⟨i, hi, ei⟩ := ok_n (by omega) hok.2.1 hok.2.2.1
    obtain ⟨j, hj, ej⟩ := ok_n (by omega) hok.2.2.2.1 hok.2.2.2.2
    rw [if_pos hok] at hret
    subst ei
    subst ej
    rw [nI_clamp (by omega), nI_clamp (by omega)] at hret
    refine lv_if_eq (tgt := 23) C.1 C.2.1 d_M_read_6 (by decide) (fun h6 => ?_) (fun h6 => ?_)
    · exact absurd h6 (by decide)
    · refine lv_aload_n C.1 C.2.1 d_M_read_9 rfl (lv_at hl 0 rfl) ?_
      refine gm_mp C hK hP d_M_read_10 ?_
      refine lv_bipush (v := nI 40) C.1 C.2.1 d_M_read_13 (by decide) ?_
      refine lv_iload_n C.1 C.2.1 d_M_read_15 rfl (lv_at hl 1 rfl) ?_
      refine lv_imul C.1 C.2.1 d_M_read_16 ?_
      refine lv_eq (pk_mul _ _) ?_
      refine lv_iload_n C.1 C.2.1 d_M_read_17 rfl (lv_at hl 2 rfl) ?_
      refine lv_iadd C.1 C.2.1 d_M_read_18 ?_
      refine lv_eq (nI_add _ _) ?_
      refine ml_mp C hK hP (j := (40 * i) + j) (by omega) d_M_read_19 ?_
      refine lv_goto (tgt := 24) C.1 C.2.1 d_M_read_20 (by decide) ?_
      exact hret d_M_read_24 rfl rfl
  · rw [if_neg hok]
    rw [if_neg hok] at hret
    refine lv_if_eq (tgt := 23) C.1 C.2.1 d_M_read_6 (by decide) (fun h6 => ?_) (fun h6 => ?_)
    · refine lv_iconst (v := nI 0) C.1 C.2.1 d_M_read_23 (by decide) ?_
      exact hret d_M_read_24 rfl rfl
    · exact absurd rfl h6

set_option maxHeartbeats 4000000 in
set_option maxRecDepth 100000 in
theorem c_M_raw (l : Launch) (D : va_G) (q k : Nat → Nat) (d bl : Nat) (rd : Int32) (mp kp fl : Nat → Int32) (u v : Int32) (hd1 : 1 ≤ d) (hd : d ≤ 20) (hbl : bl ≤ 40) : rdM l D (wM q k d bl rd mp kp fl) (kM k) y_M_raw b_M_raw 3 (some .int) 2 [.ref (q 0), .int u, .int v] (fun r => r = if okC rd u v (nI (d + 2)) (nI bl) then (if fl u.toNatClampNeg = 0 then du d mp u.toNatClampNeg v.toNatClampNeg else kp (40 * u.toNatClampNeg + v.toNatClampNeg)) else nI 0) := by
  refine rdM.of (own := "TwoLostModel") (by decide) rfl (Nat.le_of_ble_eq_true rfl) ?_
  intro p e s m args below meth c Q C hK hP hret ls hl
  have hl : lv_has ls 3 [(0, .ref (q 0)), (1, .int u), (2, .int v)] := hl
  refine lv_aload_n C.1 C.2.1 d_M_raw_0 rfl (lv_at hl 0 rfl) ?_
  refine lv_iload_n C.1 C.2.1 d_M_raw_1 rfl (lv_at hl 1 rfl) ?_
  refine k_M_isDisk C hK hP ⟨Nat.le_of_ble_eq_true rfl, Nat.le_of_ble_eq_true rfl⟩ ⟨Nat.le_of_ble_eq_true rfl, Nat.le_of_ble_eq_true rfl⟩ hl.1 (Nat.le_of_ble_eq_true rfl) d_M_raw_2 (?_)
  by_cases h1 : okD rd u (nI (d + 2))
  · rw [if_pos h1]
    refine lv_if_eq (tgt := 16) C.1 C.2.1 d_M_raw_5 (by decide) (fun h5 => ?_) (fun h5 => ?_)
    · exact absurd h5 (by decide)
    · refine lv_aload_n C.1 C.2.1 d_M_raw_8 rfl (lv_at hl 0 rfl) ?_
      refine lv_iload_n C.1 C.2.1 d_M_raw_9 rfl (lv_at hl 2 rfl) ?_
      refine k_M_isPlace C hK hP ⟨Nat.le_of_ble_eq_true rfl, Nat.le_of_ble_eq_true rfl⟩ ⟨Nat.le_of_ble_eq_true rfl, Nat.le_of_ble_eq_true rfl⟩ hl.1 (Nat.le_of_ble_eq_true rfl) d_M_raw_10 (?_)
      by_cases h2 : okP v (nI bl)
      · rw [if_pos h2]
        have hok : okC rd u v (nI (d + 2)) (nI bl) := ⟨h1.1, h1.2.1, h1.2.2, h2.1, h2.2⟩
        obtain ⟨i, hi, ei⟩ := ok_n (by omega) hok.2.1 hok.2.2.1
        obtain ⟨j, hj, ej⟩ := ok_n (by omega) hok.2.2.2.1 hok.2.2.2.2
        rw [if_pos hok] at hret
        subst ei
        subst ej
        rw [nI_clamp (by omega), nI_clamp (by omega)] at hret
        refine lv_if_ne (tgt := 18) C.1 C.2.1 d_M_raw_13 (by decide) (fun h13 => ?_) (fun h13 => ?_)
        · refine lv_aload_n C.1 C.2.1 d_M_raw_18 rfl (lv_at hl 0 rfl) ?_
          refine gm_fl C hK hP d_M_raw_19 ?_
          refine lv_iload_n C.1 C.2.1 d_M_raw_22 rfl (lv_at hl 1 rfl) ?_
          refine ml_fl C hK hP (j := i) (by omega) d_M_raw_23 ?_
          refine lv_if_eq (tgt := 41) C.1 C.2.1 d_M_raw_24 (by decide) (fun h24 => ?_) (fun h24 => ?_)
          · refine lv_aload_n C.1 C.2.1 d_M_raw_41 rfl (lv_at hl 0 rfl) ?_
            refine lv_iload_n C.1 C.2.1 d_M_raw_42 rfl (lv_at hl 1 rfl) ?_
            refine lv_iload_n C.1 C.2.1 d_M_raw_43 rfl (lv_at hl 2 rfl) ?_
            refine k_M_due C hK hP hd1 hd hi (by omega) ⟨Nat.le_of_ble_eq_true rfl, Nat.le_of_ble_eq_true rfl⟩ ⟨Nat.le_of_ble_eq_true rfl, Nat.le_of_ble_eq_true rfl⟩ hl.1 (Nat.le_of_ble_eq_true rfl) d_M_raw_44 (?_)
            exact hret d_M_raw_47 rfl (if_pos h24).symm
          · refine lv_aload_n C.1 C.2.1 d_M_raw_27 rfl (lv_at hl 0 rfl) ?_
            refine gm_kp C hK hP d_M_raw_28 ?_
            refine lv_bipush (v := nI 40) C.1 C.2.1 d_M_raw_31 (by decide) ?_
            refine lv_iload_n C.1 C.2.1 d_M_raw_33 rfl (lv_at hl 1 rfl) ?_
            refine lv_imul C.1 C.2.1 d_M_raw_34 ?_
            refine lv_eq (pk_mul _ _) ?_
            refine lv_iload_n C.1 C.2.1 d_M_raw_35 rfl (lv_at hl 2 rfl) ?_
            refine lv_iadd C.1 C.2.1 d_M_raw_36 ?_
            refine lv_eq (nI_add _ _) ?_
            refine ml_kp C hK hP (j := (40 * i) + j) (by omega) d_M_raw_37 ?_
            refine lv_goto (tgt := 47) C.1 C.2.1 d_M_raw_38 (by decide) ?_
            exact hret d_M_raw_47 rfl (if_neg h24).symm
        · exact absurd h13 (by decide)
      · rw [if_neg h2]
        refine lv_if_ne (tgt := 18) C.1 C.2.1 d_M_raw_13 (by decide) (fun h13 => ?_) (fun h13 => ?_)
        · exact absurd rfl h13
        · refine lv_iconst (v := nI 0) C.1 C.2.1 d_M_raw_16 (by decide) ?_
          exact hret d_M_raw_17 rfl (if_neg (fun z => h2 ⟨z.2.2.2.1, z.2.2.2.2⟩)).symm
  · rw [if_neg h1]
    refine lv_if_eq (tgt := 16) C.1 C.2.1 d_M_raw_5 (by decide) (fun h5 => ?_) (fun h5 => ?_)
    · refine lv_iconst (v := nI 0) C.1 C.2.1 d_M_raw_16 (by decide) ?_
      exact hret d_M_raw_17 rfl (if_neg (fun z => h1 ⟨z.1, z.2.1, z.2.2.1⟩)).symm
    · exact absurd rfl h5

section KM_raw
variable {p : Program} {l : Launch} {e : Env} {R : Room} {s : State} {m : MethodId} {args : Array Value} {below : List Frame} {meth : Method} {c : Code} {H H0 : Heap} {locs : List Loc} {cells slots nL : Nat} {Q : State → Prop}
variable {cc : ByteArray} {pc : Nat} {ls : Array Slot} {rest : List Value} {D : va_G} {A : Nat → Prop} {own : String}
variable {q k : Nat → Nat} {d bl : Nat} {rd : Int32} {ex lg ce de mp kp fl : Nat → Int32}
theorem k_M_raw {u v : Int32} (C : CallFix p m c cc nL s args tb "TwoLostModel") (hK : va_K D classes (kM k) s) (hP : va_P D classes (wM q k d bl rd mp kp fl) H) (hd1 : 1 ≤ d) (hd : d ≤ 20) (hbl : bl ≤ 40) (hR : 3 ≤ R.frames ∧ 25 * 3 ≤ R.locals) (hf : cells ≤ R.cells ∧ slots ≤ R.slots) (hls : ls.size = nL) (hrest : (rest.map fun v => v.category).sum ≤ 8) (hdg : decode cc pc = .ok (.invokevirtual 56, 3)) (kk : W p l e R s m args below meth c H locs cells slots Q (F0 m (pc + 3) ls (.int (if okC rd u v (nI (d + 2)) (nI bl) then (if fl u.toNatClampNeg = 0 then du d mp u.toNatClampNeg v.toNatClampNeg else kp (40 * u.toNatClampNeg + v.toNatClampNeg)) else nI 0) :: rest))) : W p l e R s m args below meth c H locs cells slots Q (F0 m pc ls (.int v :: .int u :: .ref (q 0) :: rest)) := rdM.call (nA := 2) (ci := 1) (cq := (R_M, F_M, 6)) (c_M_raw l D q k d bl rd mp kp fl u v hd1 hd hbl) C hK hP g_M_M_raw rfl rfl (by decide +kernel) rfl (by decide) hR hf hls hrest hdg rfl (fun r hr => by subst hr; exact kk)
theorem raw_n {x a : Nat} {M kp2 : Nat → Int32} (hrd : ¬ rd = 0) (hd : d ≤ 20) (hbl : bl ≤ 40) (hx : x < d + 2) (ha : a < bl) (hf : fl x = 0) : (if okC rd (nI x) (nI a) (nI (d + 2)) (nI bl) then (if fl (nI x).toNatClampNeg = 0 then du d M (nI x).toNatClampNeg (nI a).toNatClampNeg else kp2 (40 * (nI x).toNatClampNeg + (nI a).toNatClampNeg)) else nI 0) = du d M x a := by
  rw [if_pos ⟨hrd, nI_pos (by omega), nI_lt hx (by omega), nI_pos (by omega), nI_lt ha (by omega)⟩, nI_clamp (by omega), nI_clamp (by omega), if_pos hf]
end KM_raw

set_option maxHeartbeats 4000000 in
set_option maxRecDepth 100000 in
theorem c_M_alive (l : Launch) (D : va_G) (q k : Nat → Nat) (d bl : Nat) (rd : Int32) (mp kp fl : Nat → Int32) (u : Int32) (hd : d ≤ 20) : rdM l D (wM q k d bl rd mp kp fl) (kM k) y_M_alive b_M_alive 2 (some .boolean) 1 [.ref (q 0), .int u] (fun r => r = if okD rd u (nI (d + 2)) ∧ fl u.toNatClampNeg = 0 then nI 1 else nI 0) := by
  refine rdM.of (own := "TwoLostModel") (by decide) rfl (Nat.le_of_ble_eq_true rfl) ?_
  intro p e s m args below meth c Q C hK hP hret ls hl
  have hl : lv_has ls 2 [(0, .ref (q 0)), (1, .int u)] := hl
  refine lv_aload_n C.1 C.2.1 d_M_alive_0 rfl (lv_at hl 0 rfl) ?_
  refine lv_iload_n C.1 C.2.1 d_M_alive_1 rfl (lv_at hl 1 rfl) ?_
  refine k_M_isDisk C hK hP ⟨Nat.le_of_ble_eq_true rfl, Nat.le_of_ble_eq_true rfl⟩ ⟨Nat.le_of_ble_eq_true rfl, Nat.le_of_ble_eq_true rfl⟩ hl.1 (Nat.le_of_ble_eq_true rfl) d_M_alive_2 (?_)
  by_cases h1 : okD rd u (nI (d + 2))
  · rw [if_pos h1]
    obtain ⟨i, hi, ei⟩ := ok_n (by omega) h1.2.1 h1.2.2
    subst ei
    rw [nI_clamp (by omega)] at hret
    refine lv_if_eq (tgt := 21) C.1 C.2.1 d_M_alive_5 (by decide) (fun h5 => ?_) (fun h5 => ?_)
    · exact absurd h5 (by decide)
    · refine lv_aload_n C.1 C.2.1 d_M_alive_8 rfl (lv_at hl 0 rfl) ?_
      refine gm_fl C hK hP d_M_alive_9 ?_
      refine lv_iload_n C.1 C.2.1 d_M_alive_12 rfl (lv_at hl 1 rfl) ?_
      refine ml_fl C hK hP (j := i) (by omega) d_M_alive_13 ?_
      refine lv_if_ne (tgt := 21) C.1 C.2.1 d_M_alive_14 (by decide) (fun h14 => ?_) (fun h14 => ?_)
      · refine lv_iconst (v := nI 0) C.1 C.2.1 d_M_alive_21 (by decide) ?_
        exact hret d_M_alive_22 nz0 (if_neg (fun z => h14 z.2)).symm
      · refine lv_iconst (v := nI 1) C.1 C.2.1 d_M_alive_17 (by decide) ?_
        refine lv_goto (tgt := 22) C.1 C.2.1 d_M_alive_18 (by decide) ?_
        exact hret d_M_alive_22 nz1 (if_pos ⟨h1, h14⟩).symm
  · rw [if_neg h1]
    refine lv_if_eq (tgt := 21) C.1 C.2.1 d_M_alive_5 (by decide) (fun h5 => ?_) (fun h5 => ?_)
    · refine lv_iconst (v := nI 0) C.1 C.2.1 d_M_alive_21 (by decide) ?_
      exact hret d_M_alive_22 nz0 (if_neg (fun z => h1 z.1)).symm
    · exact absurd rfl h5

set_option maxHeartbeats 4000000 in
set_option maxRecDepth 100000 in
theorem c_M_lost (l : Launch) (D : va_G) (q k : Nat → Nat) (d bl : Nat) (rd : Int32) (mp kp fl : Nat → Int32)  : rdM l D (wM q k d bl rd mp kp fl) (kM k) y_M_lost b_M_lost 3 (some .int) 0 [.ref (q 0)] (fun r => r = nI (cnt 22 fl)) := by
  refine rdM.of (own := "TwoLostModel") (by decide) rfl (Nat.le_of_ble_eq_true rfl) ?_
  intro p e s m args below meth c Q C hK hP hret ls hl
  have hl : lv_has ls 3 [(0, .ref (q 0))] := hl
  refine lv_iconst (v := nI 0) C.1 C.2.1 d_M_lost_0 (by decide) ?_
  refine lv_istore_n (lv' := [(1, .int (nI (0))), (0, .ref (q 0))]) C.1 C.2.1 d_M_lost_1 rfl hl (by decide) rfl (fun ls hl => ?_)
  refine lv_iconst (v := nI 0) C.1 C.2.1 d_M_lost_2 (by decide) ?_
  refine lv_istore_n (lv' := [(2, .int (nI (0))), (1, .int (nI (0))), (0, .ref (q 0))]) C.1 C.2.1 d_M_lost_3 rfl hl (by decide) rfl (fun ls hl => ?_)
  have loop : ∀ (n i : Nat), i ≤ 22 → 23 ≤ i + n → ∀ ls, lv_has ls 3 [(2, .int (nI i)), (1, .int (nI (cnt i fl))), (0, .ref (q 0))] → W p l e (rmL 0 0 0) s m args below meth c s.heap [] 0 0 Q (F0 m 4 ls []) := by
    intro n
    induction n with
    | zero => intro i h1 h2; exact absurd h2 (by omega)
    | succ n ih =>
      intro i hi hin ls hl
      refine lv_iload_n C.1 C.2.1 d_M_lost_4 rfl (lv_at hl 0 rfl) ?_
      refine lv_bipush (v := nI 22) C.1 C.2.1 d_M_lost_5 (by decide) ?_
      refine bn_ge (tgt := 33) C d_M_lost_7 (by decide) (by omega) (by omega) (fun h7 => ?_) (fun h7 => ?_)
      · refine lv_iload_n C.1 C.2.1 d_M_lost_33 rfl (lv_at hl 1 rfl) ?_
        refine hret d_M_lost_34 rfl ?_
        show nI _ = nI _
        rw [show i = 22 by omega]
      · refine lv_aload_n C.1 C.2.1 d_M_lost_10 rfl (lv_at hl 2 rfl) ?_
        refine gm_fl C hK hP d_M_lost_11 ?_
        refine lv_iload_n C.1 C.2.1 d_M_lost_14 rfl (lv_at hl 0 rfl) ?_
        refine ml_fl C hK hP (j := i) (by omega) d_M_lost_15 ?_
        refine lv_if_eq (tgt := 25) C.1 C.2.1 d_M_lost_16 (by decide) (fun h16 => ?_) (fun h16 => ?_)
        · refine lv_iload_n C.1 C.2.1 d_M_lost_25 rfl (lv_at hl 1 rfl) ?_
          refine lv_istore_n (lv' := [(1, .int (nI (cnt i fl))), (2, .int (nI (i))), (0, .ref (q 0))]) C.1 C.2.1 d_M_lost_26 rfl hl (by decide) rfl (fun ls hl => ?_)
          refine lv_iinc (v := nI (i + 1)) (lv' := [(2, .int (nI (i + 1))), (1, .int (nI (cnt i fl))), (0, .ref (q 0))]) C.1 C.2.1 d_M_lost_27 hl (k := 1) rfl (by exact nI_add _ _) (by decide) rfl (fun ls hl => ?_)
          refine lv_goto (tgt := 4) C.1 C.2.1 d_M_lost_30 (by decide) ?_
          exact ih (i + 1) (by omega) (by omega) ls (by rw [cnt_s0 h16]; exact lv_sub hl [0, 1, 2] rfl)
        · refine lv_iload_n C.1 C.2.1 d_M_lost_19 rfl (lv_at hl 1 rfl) ?_
          refine lv_iconst (v := nI 1) C.1 C.2.1 d_M_lost_20 (by decide) ?_
          refine lv_iadd C.1 C.2.1 d_M_lost_21 ?_
          refine lv_eq (nI_add _ _) ?_
          refine lv_goto (tgt := 26) C.1 C.2.1 d_M_lost_22 (by decide) ?_
          refine lv_istore_n (lv' := [(1, .int (nI ((cnt i fl) + 1))), (2, .int (nI (i))), (0, .ref (q 0))]) C.1 C.2.1 d_M_lost_26 rfl hl (by decide) rfl (fun ls hl => ?_)
          refine lv_iinc (v := nI (i + 1)) (lv' := [(2, .int (nI (i + 1))), (1, .int (nI ((cnt i fl) + 1))), (0, .ref (q 0))]) C.1 C.2.1 d_M_lost_27 hl (k := 1) rfl (by exact nI_add _ _) (by decide) rfl (fun ls hl => ?_)
          refine lv_goto (tgt := 4) C.1 C.2.1 d_M_lost_30 (by decide) ?_
          exact ih (i + 1) (by omega) (by omega) ls (by rw [cnt_s1 h16]; exact lv_sub hl [0, 1, 2] rfl)
  exact loop 23 0 (by omega) (by omega) ls (lv_sub hl [0, 1, 2] rfl)

section KM_lost
variable {p : Program} {l : Launch} {e : Env} {R : Room} {s : State} {m : MethodId} {args : Array Value} {below : List Frame} {meth : Method} {c : Code} {H H0 : Heap} {locs : List Loc} {cells slots nL : Nat} {Q : State → Prop}
variable {cc : ByteArray} {pc : Nat} {ls : Array Slot} {rest : List Value} {D : va_G} {A : Nat → Prop} {own : String}
variable {q k : Nat → Nat} {d bl : Nat} {rd : Int32} {ex lg ce de mp kp fl : Nat → Int32}
theorem k_M_lost  (C : CallFix p m c cc nL s args tb "TwoLostModel") (hK : va_K D classes (kM k) s) (hP : va_P D classes (wM q k d bl rd mp kp fl) H) (hR : 1 ≤ R.frames ∧ 25 * 1 ≤ R.locals) (hf : cells ≤ R.cells ∧ slots ≤ R.slots) (hls : ls.size = nL) (hrest : (rest.map fun v => v.category).sum ≤ 8) (hdg : decode cc pc = .ok (.invokevirtual 48, 3)) (kk : W p l e R s m args below meth c H locs cells slots Q (F0 m (pc + 3) ls (.int (nI (cnt 22 fl)) :: rest))) : W p l e R s m args below meth c H locs cells slots Q (F0 m pc ls (.ref (q 0) :: rest)) := rdM.call (nA := 0) (ci := 1) (cq := (R_M, F_M, 6)) (c_M_lost l D q k d bl rd mp kp fl) C hK hP g_M_M_lost rfl rfl (by decide +kernel) rfl (by decide) hR hf hls hrest hdg rfl (fun r hr => by subst hr; exact kk)
end KM_lost

set_option maxHeartbeats 4000000 in
set_option maxRecDepth 100000 in
theorem c_M_scrub (l : Launch) (D : va_G) (q k : Nat → Nat) (d bl : Nat) (rd : Int32) (mp kp fl : Nat → Int32)  (hd1 : 1 ≤ d) (hd : d ≤ 20) (hbl : bl ≤ 40) : rdM l D (wM q k d bl rd mp kp fl) (kM k) y_M_scrub b_M_scrub 5 (some .int) 3 [.ref (q 0)] (fun r => r = nI 0) := by
  refine rdM.of (own := "TwoLostModel") (by decide) rfl (Nat.le_of_ble_eq_true rfl) ?_
  intro p e s m args below meth c Q C hK hP hret ls hl
  have hl : lv_has ls 5 [(0, .ref (q 0))] := hl
  refine lv_iconst (v := nI 0) C.1 C.2.1 d_M_scrub_0 (by decide) ?_
  refine lv_istore_n (lv' := [(1, .int (nI (0))), (0, .ref (q 0))]) C.1 C.2.1 d_M_scrub_1 rfl hl (by decide) rfl (fun ls hl => ?_)
  refine lv_iconst (v := nI 0) C.1 C.2.1 d_M_scrub_2 (by decide) ?_
  refine lv_istore_n (lv' := [(2, .int (nI (0))), (1, .int (nI (0))), (0, .ref (q 0))]) C.1 C.2.1 d_M_scrub_3 rfl hl (by decide) rfl (fun ls hl => ?_)
  have loop : ∀ (n i : Nat), i ≤ bl → bl + 1 ≤ i + n → ∀ ls, lv_has ls 5 [(2, .int (nI i)), (1, .int (nI 0)), (0, .ref (q 0))] → W p l e (rmL 3 0 0) s m args below meth c s.heap [] 0 0 Q (F0 m 4 ls []) := by
    intro n
    induction n with
    | zero => intro i h1 h2; exact absurd h2 (by omega)
    | succ n ih =>
      intro i hi hin ls hl
      refine lv_iload_n C.1 C.2.1 d_M_scrub_4 rfl (lv_at hl 0 rfl) ?_
      refine lv_aload_n C.1 C.2.1 d_M_scrub_5 rfl (lv_at hl 2 rfl) ?_
      refine gm_bl C hK hP d_M_scrub_6 ?_
      refine bn_ge (tgt := 127) C d_M_scrub_9 (by decide) (by omega) (by omega) (fun h9 => ?_) (fun h9 => ?_)
      · refine lv_iload_n C.1 C.2.1 d_M_scrub_127 rfl (lv_at hl 1 rfl) ?_
        exact hret d_M_scrub_128 rfl rfl
      · refine lv_aload_n C.1 C.2.1 d_M_scrub_12 rfl (lv_at hl 2 rfl) ?_
        refine gm_rd C hK hP d_M_scrub_13 ?_
        refine lv_if_eq (tgt := 127) C.1 C.2.1 d_M_scrub_16 (by decide) (fun h16 => ?_) (fun h16 => ?_)
        · refine lv_iload_n C.1 C.2.1 d_M_scrub_127 rfl (lv_at hl 1 rfl) ?_
          exact hret d_M_scrub_128 rfl rfl
        · have st104 : ∀ ls, lv_has ls 5 [(4, .int (nI (1))), (3, .int (nI (1))), (2, .int (nI (i))), (1, .int (nI (0))), (0, .ref (q 0))] → W p l e (rmL 3 0 0) s m args below meth c s.heap [] 0 0 Q (F0 m 104 ls []) := by
            intro ls hl
            refine lv_iload_n C.1 C.2.1 d_M_scrub_104 rfl (lv_at hl 1 rfl) ?_
            refine lv_if_eq (tgt := 117) C.1 C.2.1 d_M_scrub_105 (by decide) (fun h105 => ?_) (fun h105 => ?_)
            · exact absurd h105 (by decide)
            · refine lv_iload C.1 C.2.1 d_M_scrub_108 (lv_at hl 0 rfl) ?_
              refine lv_if_eq (tgt := 117) C.1 C.2.1 d_M_scrub_110 (by decide) (fun h110 => ?_) (fun h110 => ?_)
              · exact absurd h110 (by decide)
              · refine lv_iload_n C.1 C.2.1 d_M_scrub_113 rfl (lv_at hl 3 rfl) ?_
                refine lv_goto (tgt := 120) C.1 C.2.1 d_M_scrub_114 (by decide) ?_
                refine lv_istore_n (lv' := [(1, .int (nI (0))), (4, .int (nI (1))), (3, .int (nI (1))), (2, .int (nI (i))), (0, .ref (q 0))]) C.1 C.2.1 d_M_scrub_120 rfl hl (by decide) rfl (fun ls hl => ?_)
                refine lv_iinc (v := nI (i + 1)) (lv' := [(2, .int (nI (i + 1))), (1, .int (nI (0))), (4, .int (nI (1))), (3, .int (nI (1))), (0, .ref (q 0))]) C.1 C.2.1 d_M_scrub_121 hl (k := 3) rfl (by exact nI_add _ _) (by decide) rfl (fun ls hl => ?_)
                refine lv_goto (tgt := 4) C.1 C.2.1 d_M_scrub_124 (by decide) ?_
                exact ih (i + 1) (by omega) (by omega) ls (lv_sub hl [0, 1, 4] rfl)
          have st58 : ∀ ls, lv_has ls 5 [(3, .int (nI (1))), (2, .int (nI (i))), (1, .int (nI (0))), (0, .ref (q 0))] → W p l e (rmL 3 0 0) s m args below meth c s.heap [] 0 0 Q (F0 m 58 ls []) := by
            intro ls hl
            refine lv_aload_n C.1 C.2.1 d_M_scrub_58 rfl (lv_at hl 3 rfl) ?_
            refine gm_fl C hK hP d_M_scrub_59 ?_
            refine lv_aload_n C.1 C.2.1 d_M_scrub_62 rfl (lv_at hl 3 rfl) ?_
            refine gm_d C hK hP d_M_scrub_63 ?_
            refine lv_iconst (v := nI 1) C.1 C.2.1 d_M_scrub_66 (by decide) ?_
            refine lv_iadd C.1 C.2.1 d_M_scrub_67 ?_
            refine lv_eq (nI_add _ _) ?_
            refine ml_fl C hK hP (j := d + 1) (by omega) d_M_scrub_68 ?_
            refine lv_if_ne (tgt := 97) C.1 C.2.1 d_M_scrub_69 (by decide) (fun h69 => ?_) (fun h69 => ?_)
            · refine lv_iconst (v := nI 1) C.1 C.2.1 d_M_scrub_97 (by decide) ?_
              refine lv_goto (tgt := 102) C.1 C.2.1 d_M_scrub_98 (by decide) ?_
              refine lv_istore (lv' := [(4, .int (nI (1))), (3, .int (nI (1))), (2, .int (nI (i))), (1, .int (nI (0))), (0, .ref (q 0))]) C.1 C.2.1 d_M_scrub_102 hl (by decide) rfl (fun ls hl => ?_)
              exact st104 ls hl
            · refine lv_aload_n C.1 C.2.1 d_M_scrub_72 rfl (lv_at hl 3 rfl) ?_
              refine lv_aload_n C.1 C.2.1 d_M_scrub_73 rfl (lv_at hl 3 rfl) ?_
              refine gm_d C hK hP d_M_scrub_74 ?_
              refine lv_iconst (v := nI 1) C.1 C.2.1 d_M_scrub_77 (by decide) ?_
              refine lv_iadd C.1 C.2.1 d_M_scrub_78 ?_
              refine lv_eq (nI_add _ _) ?_
              refine lv_iload_n C.1 C.2.1 d_M_scrub_79 rfl (lv_at hl 1 rfl) ?_
              refine k_M_raw C hK hP hd1 hd hbl ⟨Nat.le_of_ble_eq_true rfl, Nat.le_of_ble_eq_true rfl⟩ ⟨Nat.le_of_ble_eq_true rfl, Nat.le_of_ble_eq_true rfl⟩ hl.1 (Nat.le_of_ble_eq_true rfl) d_M_scrub_80 (?_)
              refine lv_eq (y := (du d mp (d + 1) i)) (raw_n h16 hd hbl (by omega) h9 h69) ?_
              refine lv_aload_n C.1 C.2.1 d_M_scrub_83 rfl (lv_at hl 3 rfl) ?_
              refine lv_aload_n C.1 C.2.1 d_M_scrub_84 rfl (lv_at hl 3 rfl) ?_
              refine gm_d C hK hP d_M_scrub_85 ?_
              refine lv_iconst (v := nI 1) C.1 C.2.1 d_M_scrub_88 (by decide) ?_
              refine lv_iadd C.1 C.2.1 d_M_scrub_89 ?_
              refine lv_eq (nI_add _ _) ?_
              refine lv_iload_n C.1 C.2.1 d_M_scrub_90 rfl (lv_at hl 1 rfl) ?_
              refine k_M_due C hK hP hd1 hd (by omega) (by omega) ⟨Nat.le_of_ble_eq_true rfl, Nat.le_of_ble_eq_true rfl⟩ ⟨Nat.le_of_ble_eq_true rfl, Nat.le_of_ble_eq_true rfl⟩ hl.1 (Nat.le_of_ble_eq_true rfl) d_M_scrub_91 (?_)
              refine lv_icmp_ne (tgt := 101) C.1 C.2.1 d_M_scrub_94 (by decide) (fun h94 => ?_) (fun h94 => ?_)
              · exact absurd rfl h94
              · refine lv_iconst (v := nI 1) C.1 C.2.1 d_M_scrub_97 (by decide) ?_
                refine lv_goto (tgt := 102) C.1 C.2.1 d_M_scrub_98 (by decide) ?_
                refine lv_istore (lv' := [(4, .int (nI (1))), (3, .int (nI (1))), (2, .int (nI (i))), (1, .int (nI (0))), (0, .ref (q 0))]) C.1 C.2.1 d_M_scrub_102 hl (by decide) rfl (fun ls hl => ?_)
                exact st104 ls hl
          refine lv_aload_n C.1 C.2.1 d_M_scrub_19 rfl (lv_at hl 2 rfl) ?_
          refine gm_fl C hK hP d_M_scrub_20 ?_
          refine lv_aload_n C.1 C.2.1 d_M_scrub_23 rfl (lv_at hl 2 rfl) ?_
          refine gm_d C hK hP d_M_scrub_24 ?_
          refine ml_fl C hK hP (j := d) (by omega) d_M_scrub_27 ?_
          refine lv_if_ne (tgt := 52) C.1 C.2.1 d_M_scrub_28 (by decide) (fun h28 => ?_) (fun h28 => ?_)
          · refine lv_iconst (v := nI 1) C.1 C.2.1 d_M_scrub_52 (by decide) ?_
            refine lv_goto (tgt := 57) C.1 C.2.1 d_M_scrub_53 (by decide) ?_
            refine lv_istore_n (lv' := [(3, .int (nI (1))), (2, .int (nI (i))), (1, .int (nI (0))), (0, .ref (q 0))]) C.1 C.2.1 d_M_scrub_57 rfl hl (by decide) rfl (fun ls hl => ?_)
            exact st58 ls hl
          · refine lv_aload_n C.1 C.2.1 d_M_scrub_31 rfl (lv_at hl 2 rfl) ?_
            refine lv_aload_n C.1 C.2.1 d_M_scrub_32 rfl (lv_at hl 2 rfl) ?_
            refine gm_d C hK hP d_M_scrub_33 ?_
            refine lv_iload_n C.1 C.2.1 d_M_scrub_36 rfl (lv_at hl 0 rfl) ?_
            refine k_M_raw C hK hP hd1 hd hbl ⟨Nat.le_of_ble_eq_true rfl, Nat.le_of_ble_eq_true rfl⟩ ⟨Nat.le_of_ble_eq_true rfl, Nat.le_of_ble_eq_true rfl⟩ hl.1 (Nat.le_of_ble_eq_true rfl) d_M_scrub_37 (?_)
            refine lv_eq (y := (du d mp d i)) (raw_n h16 hd hbl (by omega) h9 h28) ?_
            refine lv_aload_n C.1 C.2.1 d_M_scrub_40 rfl (lv_at hl 2 rfl) ?_
            refine lv_aload_n C.1 C.2.1 d_M_scrub_41 rfl (lv_at hl 2 rfl) ?_
            refine gm_d C hK hP d_M_scrub_42 ?_
            refine lv_iload_n C.1 C.2.1 d_M_scrub_45 rfl (lv_at hl 0 rfl) ?_
            refine k_M_due C hK hP hd1 hd (by omega) (by omega) ⟨Nat.le_of_ble_eq_true rfl, Nat.le_of_ble_eq_true rfl⟩ ⟨Nat.le_of_ble_eq_true rfl, Nat.le_of_ble_eq_true rfl⟩ hl.1 (Nat.le_of_ble_eq_true rfl) d_M_scrub_46 (?_)
            refine lv_icmp_ne (tgt := 56) C.1 C.2.1 d_M_scrub_49 (by decide) (fun h49 => ?_) (fun h49 => ?_)
            · exact absurd rfl h49
            · refine lv_iconst (v := nI 1) C.1 C.2.1 d_M_scrub_52 (by decide) ?_
              refine lv_goto (tgt := 57) C.1 C.2.1 d_M_scrub_53 (by decide) ?_
              refine lv_istore_n (lv' := [(3, .int (nI (1))), (2, .int (nI (i))), (1, .int (nI (0))), (0, .ref (q 0))]) C.1 C.2.1 d_M_scrub_57 rfl hl (by decide) rfl (fun ls hl => ?_)
              exact st58 ls hl
  exact loop (bl + 1) 0 (by omega) (by omega) ls (lv_sub hl [0, 1, 2] rfl)
end
section
/-! PART 14: TwoLostModel, methods that write: init, write, fail, smash, rebuild, the constructor (printed by gen_m2.py) -/

set_option maxHeartbeats 4000000 in
set_option maxRecDepth 100000 in
theorem c_M_init (l : Launch) (D : va_G) (q k : Nat → Nat) (d bl : Nat) (rd : Int32) (mp kp fl : Nat → Int32)  (sz : Nat) : wrV (S := (Nat → Int32) × (Nat → Int32)) l D (wM q k d bl rd mp kp fl) (kM k) (fun u => wM q k d bl (nI 1) u.1 kp u.2) (fun _ => (kM k)) y_M_init b_M_init 2 0 0 0 [.ref (q 0)] sz (fun u => (∀ j, j < 800 → u.1 j = 0) ∧ ∀ j, j < 22 → u.2 j = 0) := by
  refine wrV.of (own := "TwoLostModel") (by decide) rfl (Nat.le_of_ble_eq_true rfl) ?_
  intro p e s m args below meth c Q A hin C hK hP hD hS hA hret ls hl
  have hl : lv_has ls 2 [(0, .ref (q 0))] := hl
  have loop2 : ∀ (n i : Nat) (mp fl : Nat → Int32), i ≤ 22 → 23 ≤ i + n → (∀ j, j < 800 → mp j = 0) → (∀ j, j < i → fl j = 0) → ∀ (H : Heap) (locs : List Loc), va_P D classes (wM q k d bl (nI 1) mp kp fl) H → va_D A (wM q k d bl (nI 1) mp kp fl) → va_S A s.heap H locs → ∀ ls, lv_has ls 2 [(1, .int (nI (i))), (0, .ref (q 0))] → W p l e (rmL 0 0 0) s m args below meth c H locs 0 0 Q (F0 m 29 ls []) := by
    intro n
    induction n with
    | zero => intro i mp fl h1 h2; exact absurd h2 (by omega)
    | succ n ih =>
      intro i mp fl hi hin g1 g2 H locs hP hD hS ls hl
      refine lv_iload_n C.1 C.2.1 d_M_init_29 rfl (lv_at hl 0 rfl) ?_
      refine lv_bipush (v := nI 22) C.1 C.2.1 d_M_init_30 (by decide) ?_
      refine bn_ge (tgt := 48) C d_M_init_32 (by decide) (by omega) (by omega) (fun h32 => ?_) (fun h32 => ?_)
      · exact hret (mp, fl) hK hP hD hS d_M_init_48 ⟨g1, fun j hj => g2 j (by omega)⟩
      · refine lv_aload_n C.1 C.2.1 d_M_init_35 rfl (lv_at hl 1 rfl) ?_
        refine gm_fl C hK hP d_M_init_36 ?_
        refine lv_iload_n C.1 C.2.1 d_M_init_39 rfl (lv_at hl 0 rfl) ?_
        refine lv_iconst (v := nI 0) C.1 C.2.1 d_M_init_40 (by decide) ?_
        refine ms_fl C hK hP hD hS (j := i) (by omega) nb0 d_M_init_41 (fun H locs hP hD hS => ?_)
        refine lv_iinc (v := nI (i + 1)) (lv' := [(1, .int (nI (i + 1))), (0, .ref (q 0))]) C.1 C.2.1 d_M_init_42 hl (k := 0) rfl (by exact nI_add _ _) (by decide) rfl (fun ls hl => ?_)
        refine lv_goto (tgt := 29) C.1 C.2.1 d_M_init_45 (by decide) ?_
        exact ih (i + 1) mp _ (by omega) (by omega) g1 (z_step g2) H locs hP hD hS ls hl
  have loop1 : ∀ (n i : Nat) (mp fl : Nat → Int32), i ≤ 800 → 801 ≤ i + n → (∀ j, j < i → mp j = 0) → ∀ (H : Heap) (locs : List Loc), va_P D classes (wM q k d bl (nI 1) mp kp fl) H → va_D A (wM q k d bl (nI 1) mp kp fl) → va_S A s.heap H locs → ∀ ls, lv_has ls 2 [(1, .int (nI (i))), (0, .ref (q 0))] → W p l e (rmL 0 0 0) s m args below meth c H locs 0 0 Q (F0 m 7 ls []) := by
    intro n
    induction n with
    | zero => intro i mp fl h1 h2; exact absurd h2 (by omega)
    | succ n ih =>
      intro i mp fl hi hin g1 H locs hP hD hS ls hl
      refine lv_iload_n C.1 C.2.1 d_M_init_7 rfl (lv_at hl 0 rfl) ?_
      refine lv_sipush (v := nI 800) C.1 C.2.1 d_M_init_8 (by decide) ?_
      refine bn_ge (tgt := 27) C d_M_init_11 (by decide) (by omega) (by omega) (fun h11 => ?_) (fun h11 => ?_)
      · refine lv_iconst (v := nI 0) C.1 C.2.1 d_M_init_27 (by decide) ?_
        refine lv_istore_n (lv' := [(1, .int (nI (0))), (0, .ref (q 0))]) C.1 C.2.1 d_M_init_28 rfl hl (by decide) rfl (fun ls hl => ?_)
        exact loop2 23 0 mp fl (by omega) (by omega) (fun j hj => g1 j (by omega)) (fun j hj => absurd hj (by omega)) H locs hP hD hS ls hl
      · refine lv_aload_n C.1 C.2.1 d_M_init_14 rfl (lv_at hl 1 rfl) ?_
        refine gm_mp C hK hP d_M_init_15 ?_
        refine lv_iload_n C.1 C.2.1 d_M_init_18 rfl (lv_at hl 0 rfl) ?_
        refine lv_iconst (v := nI 0) C.1 C.2.1 d_M_init_19 (by decide) ?_
        refine ms_mp C hK hP hD hS (j := i) (by omega) d_M_init_20 (fun H locs hP hD hS => ?_)
        refine lv_iinc (v := nI (i + 1)) (lv' := [(1, .int (nI (i + 1))), (0, .ref (q 0))]) C.1 C.2.1 d_M_init_21 hl (k := 0) rfl (by exact nI_add _ _) (by decide) rfl (fun ls hl => ?_)
        refine lv_goto (tgt := 7) C.1 C.2.1 d_M_init_24 (by decide) ?_
        exact ih (i + 1) _ fl (by omega) (by omega) (z_step g1) H locs hP hD hS ls hl
  refine lv_aload_n C.1 C.2.1 d_M_init_0 rfl (lv_at hl 0 rfl) ?_
  refine lv_iconst (v := nI 1) C.1 C.2.1 d_M_init_1 (by decide) ?_
  refine mp_rd C hK hP hD hS d_M_init_2 (fun H locs hP hD hS => ?_)
  refine lv_iconst (v := nI 0) C.1 C.2.1 d_M_init_5 (by decide) ?_
  refine lv_istore_n (lv' := [(1, .int (nI (0))), (0, .ref (q 0))]) C.1 C.2.1 d_M_init_6 rfl hl (by decide) rfl (fun ls hl => ?_)
  exact loop1 801 0 mp fl (by omega) (by omega) (fun j hj => absurd hj (by omega)) H locs hP hD hS ls hl

set_option maxHeartbeats 4000000 in
set_option maxRecDepth 100000 in
theorem c_M_write (l : Launch) (D : va_G) (q k : Nat → Nat) (d bl : Nat) (rd : Int32) (mp kp fl : Nat → Int32) (u v w : Int32) (sz : Nat) (hd : d ≤ 20) (hbl : bl ≤ 40) : wrI (S := Nat → Int32) l D (wM q k d bl rd mp kp fl) (kM k) (fun f => wM q k d bl rd f kp fl) (fun _ => (kM k)) y_M_write b_M_write 4 (some .boolean) 2 0 0 [.ref (q 0), .int u, .int v, .int w] sz (fun r f => (okC rd u v (nI d) (nI bl) ∧ r = nI 1 ∧ f = upd mp (40 * u.toNatClampNeg + v.toNatClampNeg) w) ∨ (¬ okC rd u v (nI d) (nI bl) ∧ r = nI 0 ∧ f = mp)) := by
  refine wrI.of (own := "TwoLostModel") (by decide) rfl (Nat.le_of_ble_eq_true rfl) ?_
  intro p e s m args below meth c Q A C hK hP hD hS hA hret ls hl
  have hl : lv_has ls 4 [(0, .ref (q 0)), (1, .int u), (2, .int v), (3, .int w)] := hl
  refine lv_aload_n C.1 C.2.1 d_M_write_0 rfl (lv_at hl 0 rfl) ?_
  refine lv_iload_n C.1 C.2.1 d_M_write_1 rfl (lv_at hl 1 rfl) ?_
  refine lv_iload_n C.1 C.2.1 d_M_write_2 rfl (lv_at hl 2 rfl) ?_
  refine k_M_isData C hK hP ⟨Nat.le_of_ble_eq_true rfl, Nat.le_of_ble_eq_true rfl⟩ ⟨Nat.le_of_ble_eq_true rfl, Nat.le_of_ble_eq_true rfl⟩ hl.1 (Nat.le_of_ble_eq_true rfl) d_M_write_3 (?_)
  by_cases hok : okC rd u v (nI d) (nI bl)
  · rw [if_pos hok]
    obtain ⟨i, hi, ei⟩ := ok_n (by omega) hok.2.1 hok.2.2.1
    obtain ⟨j, hj, ej⟩ := ok_n (by omega) hok.2.2.2.1 hok.2.2.2.2
    subst ei
    subst ej
    have ec : (nI i).toNatClampNeg = i := nI_clamp (by omega)
    have ec2 : (nI j).toNatClampNeg = j := nI_clamp (by omega)
    refine lv_if_ne (tgt := 11) C.1 C.2.1 d_M_write_6 (by decide) (fun h6 => ?_) (fun h6 => ?_)
    · refine lv_aload_n C.1 C.2.1 d_M_write_11 rfl (lv_at hl 0 rfl) ?_
      refine gm_mp C hK hP d_M_write_12 ?_
      refine lv_bipush (v := nI 40) C.1 C.2.1 d_M_write_15 (by decide) ?_
      refine lv_iload_n C.1 C.2.1 d_M_write_17 rfl (lv_at hl 1 rfl) ?_
      refine lv_imul C.1 C.2.1 d_M_write_18 ?_
      refine lv_eq (pk_mul _ _) ?_
      refine lv_iload_n C.1 C.2.1 d_M_write_19 rfl (lv_at hl 2 rfl) ?_
      refine lv_iadd C.1 C.2.1 d_M_write_20 ?_
      refine lv_eq (nI_add _ _) ?_
      refine lv_iload_n C.1 C.2.1 d_M_write_21 rfl (lv_at hl 3 rfl) ?_
      refine ms_mp C hK hP hD hS (j := (40 * i) + j) (by omega) d_M_write_22 (fun H locs hP hD hS => ?_)
      refine lv_iconst (v := nI 1) C.1 C.2.1 d_M_write_23 (by decide) ?_
      exact hret _ hK hP hD hS d_M_write_24 nz1 (Or.inl ⟨hok, rfl, by rw [ec, ec2]⟩)
    · exact absurd h6 (by decide)
  · rw [if_neg hok]
    refine lv_if_ne (tgt := 11) C.1 C.2.1 d_M_write_6 (by decide) (fun h6 => ?_) (fun h6 => ?_)
    · exact absurd rfl h6
    · refine lv_iconst (v := nI 0) C.1 C.2.1 d_M_write_9 (by decide) ?_
      exact hret mp hK hP hD hS d_M_write_10 nz0 (Or.inr ⟨hok, rfl, rfl⟩)

set_option maxHeartbeats 4000000 in
set_option maxRecDepth 100000 in
theorem c_M_smash (l : Launch) (D : va_G) (q k : Nat → Nat) (d bl : Nat) (rd : Int32) (mp kp fl : Nat → Int32) (u v w : Int32) (sz : Nat) (hd : d ≤ 20) (hbl : bl ≤ 40) : wrI (S := Nat → Int32) l D (wM q k d bl rd mp kp fl) (kM k) (fun f => wM q k d bl rd mp f fl) (fun _ => (kM k)) y_M_smash b_M_smash 4 (some .boolean) 1 0 0 [.ref (q 0), .int u, .int v, .int w] sz (fun r f => (okC rd u v (nI (d + 2)) (nI bl) ∧ ¬ fl u.toNatClampNeg = 0 ∧ r = nI 1 ∧ f = upd kp (40 * u.toNatClampNeg + v.toNatClampNeg) w) ∨ (¬ (okC rd u v (nI (d + 2)) (nI bl) ∧ ¬ fl u.toNatClampNeg = 0) ∧ r = nI 0 ∧ f = kp)) := by
  refine wrI.of (own := "TwoLostModel") (by decide) rfl (Nat.le_of_ble_eq_true rfl) ?_
  intro p e s m args below meth c Q A C hK hP hD hS hA hret ls hl
  have hl : lv_has ls 4 [(0, .ref (q 0)), (1, .int u), (2, .int v), (3, .int w)] := hl
  refine lv_aload_n C.1 C.2.1 d_M_smash_0 rfl (lv_at hl 0 rfl) ?_
  refine lv_iload_n C.1 C.2.1 d_M_smash_1 rfl (lv_at hl 1 rfl) ?_
  refine k_M_isDisk C hK hP ⟨Nat.le_of_ble_eq_true rfl, Nat.le_of_ble_eq_true rfl⟩ ⟨Nat.le_of_ble_eq_true rfl, Nat.le_of_ble_eq_true rfl⟩ hl.1 (Nat.le_of_ble_eq_true rfl) d_M_smash_2 (?_)
  by_cases h1 : okD rd u (nI (d + 2))
  · rw [if_pos h1]
    refine lv_if_eq (tgt := 25) C.1 C.2.1 d_M_smash_5 (by decide) (fun h5 => ?_) (fun h5 => ?_)
    · exact absurd h5 (by decide)
    · refine lv_aload_n C.1 C.2.1 d_M_smash_8 rfl (lv_at hl 0 rfl) ?_
      refine lv_iload_n C.1 C.2.1 d_M_smash_9 rfl (lv_at hl 2 rfl) ?_
      refine k_M_isPlace C hK hP ⟨Nat.le_of_ble_eq_true rfl, Nat.le_of_ble_eq_true rfl⟩ ⟨Nat.le_of_ble_eq_true rfl, Nat.le_of_ble_eq_true rfl⟩ hl.1 (Nat.le_of_ble_eq_true rfl) d_M_smash_10 (?_)
      by_cases h2 : okP v (nI bl)
      · rw [if_pos h2]
        have hok : okC rd u v (nI (d + 2)) (nI bl) := ⟨h1.1, h1.2.1, h1.2.2, h2.1, h2.2⟩
        obtain ⟨i, hi, ei⟩ := ok_n (by omega) hok.2.1 hok.2.2.1
        obtain ⟨j, hj, ej⟩ := ok_n (by omega) hok.2.2.2.1 hok.2.2.2.2
        subst ei
        subst ej
        have ec : (nI i).toNatClampNeg = i := nI_clamp (by omega)
        have ec2 : (nI j).toNatClampNeg = j := nI_clamp (by omega)
        refine lv_if_eq (tgt := 25) C.1 C.2.1 d_M_smash_13 (by decide) (fun h13 => ?_) (fun h13 => ?_)
        · exact absurd h13 (by decide)
        · refine lv_aload_n C.1 C.2.1 d_M_smash_16 rfl (lv_at hl 0 rfl) ?_
          refine gm_fl C hK hP d_M_smash_17 ?_
          refine lv_iload_n C.1 C.2.1 d_M_smash_20 rfl (lv_at hl 1 rfl) ?_
          refine ml_fl C hK hP (j := i) (by omega) d_M_smash_21 ?_
          refine lv_if_ne (tgt := 27) C.1 C.2.1 d_M_smash_22 (by decide) (fun h22 => ?_) (fun h22 => ?_)
          · refine lv_aload_n C.1 C.2.1 d_M_smash_27 rfl (lv_at hl 0 rfl) ?_
            refine gm_kp C hK hP d_M_smash_28 ?_
            refine lv_bipush (v := nI 40) C.1 C.2.1 d_M_smash_31 (by decide) ?_
            refine lv_iload_n C.1 C.2.1 d_M_smash_33 rfl (lv_at hl 1 rfl) ?_
            refine lv_imul C.1 C.2.1 d_M_smash_34 ?_
            refine lv_eq (pk_mul _ _) ?_
            refine lv_iload_n C.1 C.2.1 d_M_smash_35 rfl (lv_at hl 2 rfl) ?_
            refine lv_iadd C.1 C.2.1 d_M_smash_36 ?_
            refine lv_eq (nI_add _ _) ?_
            refine lv_iload_n C.1 C.2.1 d_M_smash_37 rfl (lv_at hl 3 rfl) ?_
            refine ms_kp C hK hP hD hS (j := (40 * i) + j) (by omega) d_M_smash_38 (fun H locs hP hD hS => ?_)
            refine lv_iconst (v := nI 1) C.1 C.2.1 d_M_smash_39 (by decide) ?_
            exact hret _ hK hP hD hS d_M_smash_40 nz1 (Or.inl ⟨hok, by rw [ec]; exact h22, rfl, by rw [ec, ec2]⟩)
          · refine lv_iconst (v := nI 0) C.1 C.2.1 d_M_smash_25 (by decide) ?_
            exact hret kp hK hP hD hS d_M_smash_26 nz0 (Or.inr ⟨fun z => z.2 (by rw [ec]; exact h22), rfl, rfl⟩)
      · rw [if_neg h2]
        refine lv_if_eq (tgt := 25) C.1 C.2.1 d_M_smash_13 (by decide) (fun h13 => ?_) (fun h13 => ?_)
        · refine lv_iconst (v := nI 0) C.1 C.2.1 d_M_smash_25 (by decide) ?_
          exact hret kp hK hP hD hS d_M_smash_26 nz0 (Or.inr ⟨fun z => h2 ⟨z.1.2.2.2.1, z.1.2.2.2.2⟩, rfl, rfl⟩)
        · exact absurd rfl h13
  · rw [if_neg h1]
    refine lv_if_eq (tgt := 25) C.1 C.2.1 d_M_smash_5 (by decide) (fun h5 => ?_) (fun h5 => ?_)
    · refine lv_iconst (v := nI 0) C.1 C.2.1 d_M_smash_25 (by decide) ?_
      exact hret kp hK hP hD hS d_M_smash_26 nz0 (Or.inr ⟨fun z => h1 ⟨z.1.1, z.1.2.1, z.1.2.2.1⟩, rfl, rfl⟩)
    · exact absurd rfl h5

set_option maxHeartbeats 4000000 in
set_option maxRecDepth 100000 in
theorem c_M_rebuild (l : Launch) (D : va_G) (q k : Nat → Nat) (d bl : Nat) (rd : Int32) (mp kp fl : Nat → Int32)  (sz : Nat) : wrI (S := Nat → Int32) l D (wM q k d bl rd mp kp fl) (kM k) (fun f => wM q k d bl rd mp kp f) (fun _ => (kM k)) y_M_rebuild b_M_rebuild 3 (some .int) 1 0 0 [.ref (q 0)] sz (fun r f => r = nI (cnt 22 fl) ∧ ∀ j, j < 22 → f j = 0) := by
  refine wrI.of (own := "TwoLostModel") (by decide) rfl (Nat.le_of_ble_eq_true rfl) ?_
  intro p e s m args below meth c Q A C hK hP hD hS hA hret ls hl
  have hl : lv_has ls 3 [(0, .ref (q 0))] := hl
  refine lv_aload_n C.1 C.2.1 d_M_rebuild_0 rfl (lv_at hl 0 rfl) ?_
  refine k_M_lost C hK hP ⟨Nat.le_of_ble_eq_true rfl, Nat.le_of_ble_eq_true rfl⟩ ⟨Nat.le_of_ble_eq_true rfl, Nat.le_of_ble_eq_true rfl⟩ hl.1 (Nat.le_of_ble_eq_true rfl) d_M_rebuild_1 (?_)
  refine lv_istore_n (lv' := [(1, .int (nI (cnt 22 fl))), (0, .ref (q 0))]) C.1 C.2.1 d_M_rebuild_4 rfl hl (by decide) rfl (fun ls hl => ?_)
  refine lv_iconst (v := nI 0) C.1 C.2.1 d_M_rebuild_5 (by decide) ?_
  refine lv_istore_n (lv' := [(2, .int (nI (0))), (1, .int (nI (cnt 22 fl))), (0, .ref (q 0))]) C.1 C.2.1 d_M_rebuild_6 rfl hl (by decide) rfl (fun ls hl => ?_)
  have loop : ∀ (n i : Nat) (ff : Nat → Int32), i ≤ 22 → 23 ≤ i + n → (∀ j, j < i → ff j = 0) → ∀ (H : Heap) (locs : List Loc), va_P D classes (wM q k d bl rd mp kp ff) H → va_D A (wM q k d bl rd mp kp ff) → va_S A s.heap H locs → ∀ ls, lv_has ls 3 [(2, .int (nI (i))), (1, .int (nI (cnt 22 fl))), (0, .ref (q 0))] → W p l e (rmL 1 0 0) s m args below meth c H locs 0 0 Q (F0 m 7 ls []) := by
    intro n
    induction n with
    | zero => intro i ff h1 h2; exact absurd h2 (by omega)
    | succ n ih =>
      intro i ff hi hin g1 H locs hP hD hS ls hl
      refine lv_iload_n C.1 C.2.1 d_M_rebuild_7 rfl (lv_at hl 0 rfl) ?_
      refine lv_bipush (v := nI 22) C.1 C.2.1 d_M_rebuild_8 (by decide) ?_
      refine bn_ge (tgt := 26) C d_M_rebuild_10 (by decide) (by omega) (by omega) (fun h10 => ?_) (fun h10 => ?_)
      · refine lv_iload_n C.1 C.2.1 d_M_rebuild_26 rfl (lv_at hl 1 rfl) ?_
        exact hret ff hK hP hD hS d_M_rebuild_27 rfl ⟨rfl, fun j hj => g1 j (by omega)⟩
      · refine lv_aload_n C.1 C.2.1 d_M_rebuild_13 rfl (lv_at hl 2 rfl) ?_
        refine gm_fl C hK hP d_M_rebuild_14 ?_
        refine lv_iload_n C.1 C.2.1 d_M_rebuild_17 rfl (lv_at hl 0 rfl) ?_
        refine lv_iconst (v := nI 0) C.1 C.2.1 d_M_rebuild_18 (by decide) ?_
        refine ms_fl C hK hP hD hS (j := i) (by omega) nb0 d_M_rebuild_19 (fun H locs hP hD hS => ?_)
        refine lv_iinc (v := nI (i + 1)) (lv' := [(2, .int (nI (i + 1))), (1, .int (nI (cnt 22 fl))), (0, .ref (q 0))]) C.1 C.2.1 d_M_rebuild_20 hl (k := 0) rfl (by exact nI_add _ _) (by decide) rfl (fun ls hl => ?_)
        refine lv_goto (tgt := 7) C.1 C.2.1 d_M_rebuild_23 (by decide) ?_
        exact ih (i + 1) _ (by omega) (by omega) (z_step g1) H locs hP hD hS ls hl
  exact loop 23 0 fl (by omega) (by omega) (fun j hj => absurd hj (by omega)) _ _ hP hD hS ls hl

set_option maxHeartbeats 4000000 in
set_option maxRecDepth 100000 in
theorem c_M_fail (l : Launch) (D : va_G) (q k : Nat → Nat) (d bl : Nat) (rd : Int32) (mp kp fl : Nat → Int32) (u : Int32) (sz : Nat) (hd1 : 1 ≤ d) (hd : d ≤ 20) (hbl : bl ≤ 40) : wrI (S := (Nat → Int32) × (Nat → Int32)) l D (wM q k d bl rd mp kp fl) (kM k) (fun z => wM q k d bl rd mp z.1 z.2) (fun _ => (kM k)) y_M_fail b_M_fail 3 (some .boolean) 2 0 0 [.ref (q 0), .int u] sz (fun r z => (okD rd u (nI (d + 2)) ∧ fl u.toNatClampNeg = 0 ∧ ¬ cnt 22 fl = 2 ∧ r = nI 1 ∧ z.2 = upd fl u.toNatClampNeg (nI 1) ∧ (∀ a, a < bl → z.1 (40 * u.toNatClampNeg + a) = du d mp u.toNatClampNeg a) ∧ ∀ k a, a < 40 → k ≠ u.toNatClampNeg → z.1 (40 * k + a) = kp (40 * k + a)) ∨ (¬ (okD rd u (nI (d + 2)) ∧ fl u.toNatClampNeg = 0 ∧ ¬ cnt 22 fl = 2) ∧ r = nI 0 ∧ z.1 = kp ∧ z.2 = fl)) := by
  refine wrI.of (own := "TwoLostModel") (by decide) rfl (Nat.le_of_ble_eq_true rfl) ?_
  intro p e s m args below meth c Q A C hK hP hD hS hA hret ls hl
  have hl : lv_has ls 3 [(0, .ref (q 0)), (1, .int u)] := hl
  have hcl := cnt_le 22 fl
  refine lv_aload_n C.1 C.2.1 d_M_fail_0 rfl (lv_at hl 0 rfl) ?_
  refine lv_iload_n C.1 C.2.1 d_M_fail_1 rfl (lv_at hl 1 rfl) ?_
  refine k_M_isDisk C hK hP ⟨Nat.le_of_ble_eq_true rfl, Nat.le_of_ble_eq_true rfl⟩ ⟨Nat.le_of_ble_eq_true rfl, Nat.le_of_ble_eq_true rfl⟩ hl.1 (Nat.le_of_ble_eq_true rfl) d_M_fail_2 (?_)
  by_cases h1 : okD rd u (nI (d + 2))
  · rw [if_pos h1]
    obtain ⟨x, hx, ex⟩ := ok_n (by omega) h1.2.1 h1.2.2
    subst ex
    have ec : (nI x).toNatClampNeg = x := nI_clamp (by omega)
    rw [ec] at hret
    refine lv_if_eq (tgt := 25) C.1 C.2.1 d_M_fail_5 (by decide) (fun h5 => ?_) (fun h5 => ?_)
    · exact absurd h5 (by decide)
    · refine lv_aload_n C.1 C.2.1 d_M_fail_8 rfl (lv_at hl 0 rfl) ?_
      refine gm_fl C hK hP d_M_fail_9 ?_
      refine lv_iload_n C.1 C.2.1 d_M_fail_12 rfl (lv_at hl 1 rfl) ?_
      refine ml_fl C hK hP (j := x) (by omega) d_M_fail_13 ?_
      refine lv_if_ne (tgt := 25) C.1 C.2.1 d_M_fail_14 (by decide) (fun h14 => ?_) (fun h14 => ?_)
      · refine lv_iconst (v := nI 0) C.1 C.2.1 d_M_fail_25 (by decide) ?_
        exact hret (kp, fl) hK hP hD hS d_M_fail_26 nz0 (Or.inr ⟨fun z => h14 z.2.1, rfl, rfl, rfl⟩)
      · refine lv_aload_n C.1 C.2.1 d_M_fail_17 rfl (lv_at hl 0 rfl) ?_
        refine k_M_lost C hK hP ⟨Nat.le_of_ble_eq_true rfl, Nat.le_of_ble_eq_true rfl⟩ ⟨Nat.le_of_ble_eq_true rfl, Nat.le_of_ble_eq_true rfl⟩ hl.1 (Nat.le_of_ble_eq_true rfl) d_M_fail_18 (?_)
        refine lv_iconst (v := nI 2) C.1 C.2.1 d_M_fail_21 (by decide) ?_
        refine bn_ne (tgt := 27) C d_M_fail_22 (by decide) (by omega) (by omega) (fun h22 => ?_) (fun h22 => ?_)
        · refine lv_iconst (v := nI 0) C.1 C.2.1 d_M_fail_27 (by decide) ?_
          refine lv_istore_n (lv' := [(2, .int (nI (0))), (0, .ref (q 0)), (1, .int (nI (x)))]) C.1 C.2.1 d_M_fail_28 rfl hl (by decide) rfl (fun ls hl => ?_)
          have loop : ∀ (n i : Nat) (kk : Nat → Int32), i ≤ bl → bl + 1 ≤ i + n → (∀ a, a < i → kk (40 * x + a) = du d mp x a) → (∀ k a, a < 40 → k ≠ x → kk (40 * k + a) = kp (40 * k + a)) → ∀ (H : Heap) (locs : List Loc), va_P D classes (wM q k d bl rd mp kk fl) H → va_D A (wM q k d bl rd mp kk fl) → va_S A s.heap H locs → ∀ ls, lv_has ls 3 [(2, .int (nI (i))), (0, .ref (q 0)), (1, .int (nI (x)))] → W p l e (rmL 2 0 0) s m args below meth c H locs 0 0 Q (F0 m 29 ls []) := by
            intro n
            induction n with
            | zero => intro i kk h1 h2; exact absurd h2 (by omega)
            | succ n ih =>
              intro i kk hi hin g1 g2 H locs hP hD hS ls hl
              refine lv_iload_n C.1 C.2.1 d_M_fail_29 rfl (lv_at hl 0 rfl) ?_
              refine lv_aload_n C.1 C.2.1 d_M_fail_30 rfl (lv_at hl 1 rfl) ?_
              refine gm_bl C hK hP d_M_fail_31 ?_
              refine bn_ge (tgt := 60) C d_M_fail_34 (by decide) (by omega) (by omega) (fun h34 => ?_) (fun h34 => ?_)
              · refine lv_aload_n C.1 C.2.1 d_M_fail_60 rfl (lv_at hl 1 rfl) ?_
                refine gm_fl C hK hP d_M_fail_61 ?_
                refine lv_iload_n C.1 C.2.1 d_M_fail_64 rfl (lv_at hl 2 rfl) ?_
                refine lv_iconst (v := nI 1) C.1 C.2.1 d_M_fail_65 (by decide) ?_
                refine ms_fl C hK hP hD hS (j := x) (by omega) nb1 d_M_fail_66 (fun H locs hP hD hS => ?_)
                refine lv_iconst (v := nI 1) C.1 C.2.1 d_M_fail_67 (by decide) ?_
                exact hret (kk, _) hK hP hD hS d_M_fail_68 nz1 (Or.inl ⟨h1, h14, h22, rfl, rfl, fun a ha => g1 a (by omega), g2⟩)
              · refine lv_aload_n C.1 C.2.1 d_M_fail_37 rfl (lv_at hl 1 rfl) ?_
                refine gm_kp C hK hP d_M_fail_38 ?_
                refine lv_bipush (v := nI 40) C.1 C.2.1 d_M_fail_41 (by decide) ?_
                refine lv_iload_n C.1 C.2.1 d_M_fail_43 rfl (lv_at hl 2 rfl) ?_
                refine lv_imul C.1 C.2.1 d_M_fail_44 ?_
                refine lv_eq (pk_mul _ _) ?_
                refine lv_iload_n C.1 C.2.1 d_M_fail_45 rfl (lv_at hl 0 rfl) ?_
                refine lv_iadd C.1 C.2.1 d_M_fail_46 ?_
                refine lv_eq (nI_add _ _) ?_
                refine lv_aload_n C.1 C.2.1 d_M_fail_47 rfl (lv_at hl 1 rfl) ?_
                refine lv_iload_n C.1 C.2.1 d_M_fail_48 rfl (lv_at hl 2 rfl) ?_
                refine lv_iload_n C.1 C.2.1 d_M_fail_49 rfl (lv_at hl 0 rfl) ?_
                refine k_M_due C hK hP hd1 hd hx (by omega) ⟨Nat.le_of_ble_eq_true rfl, Nat.le_of_ble_eq_true rfl⟩ ⟨Nat.le_of_ble_eq_true rfl, Nat.le_of_ble_eq_true rfl⟩ hl.1 (Nat.le_of_ble_eq_true rfl) d_M_fail_50 (?_)
                refine ms_kp C hK hP hD hS (j := (40 * x) + i) (by omega) d_M_fail_53 (fun H locs hP hD hS => ?_)
                refine lv_iinc (v := nI (i + 1)) (lv' := [(2, .int (nI (i + 1))), (0, .ref (q 0)), (1, .int (nI (x)))]) C.1 C.2.1 d_M_fail_54 hl (k := 0) rfl (by exact nI_add _ _) (by decide) rfl (fun ls hl => ?_)
                refine lv_goto (tgt := 29) C.1 C.2.1 d_M_fail_57 (by decide) ?_
                refine ih (i + 1) _ (by omega) (by omega) (fun a ha => ?_) (fun k a ha hk => by rw [pk_un (by omega)]; exact g2 k a ha hk) H locs hP hD hS ls hl
                by_cases e : a = i
                · subst e; exact pk_us
                · rw [pk_un (by omega)]; exact g1 a (by omega)
          exact loop (bl + 1) 0 kp (by omega) (by omega) (fun a ha => absurd ha (by omega)) (fun k a ha hk => rfl) _ _ hP hD hS ls hl
        · refine lv_iconst (v := nI 0) C.1 C.2.1 d_M_fail_25 (by decide) ?_
          exact hret (kp, fl) hK hP hD hS d_M_fail_26 nz0 (Or.inr ⟨fun z => z.2.2 h22, rfl, rfl, rfl⟩)
  · rw [if_neg h1]
    refine lv_if_eq (tgt := 25) C.1 C.2.1 d_M_fail_5 (by decide) (fun h5 => ?_) (fun h5 => ?_)
    · refine lv_iconst (v := nI 0) C.1 C.2.1 d_M_fail_25 (by decide) ?_
      exact hret (kp, fl) hK hP hD hS d_M_fail_26 nz0 (Or.inr ⟨fun z => h1 z.1, rfl, rfl, rfl⟩)
    · exact absurd rfl h5

set_option maxHeartbeats 4000000 in
set_option maxRecDepth 100000 in
theorem c_M_ctor (l : Launch) (D : va_G) (h0 : Nat) (u v : Int32) (dn bn : Nat) (sz : Nat) (hdn : clN u 20 = nI dn) (hbn : clN v 40 = nI bn) : wrV (S := (Nat → Nat) × (Nat → Nat)) l D [(h0, .inr (1, [.int 0, .int 0, .int 0, .null, .null, .null]))] [] (fun z => wM z.1 z.2 dn bn 0 (fun _ => 0) (fun _ => 0) (fun _ => 0)) (fun z => kM z.2) y_M_ctor b_M_ctor 3 1 3 1702 [.ref h0, .int u, .int v] sz (fun z => z.1 0 = h0) := by
  refine wrV.of (own := "TwoLostModel") (by decide) rfl (Nat.le_of_ble_eq_true rfl) ?_
  intro p e s m args below meth c Q A hin C hK hP hD hS hA hret ls hl
  have hl : lv_has ls 3 [(0, .ref h0), (1, .int u), (2, .int v)] := hl
  refine lv_aload_n C.1 C.2.1 d_M_ctor_0 rfl (lv_at hl 0 rfl) ?_
  refine W.objInit C.1 C.2.1 C.2.2.2.1 (C.2.2.2.2 _ k_132) (C.2.2.2.2 _ k_9) (C.2.2.2.2 _ k_10) rfl (by rw [C.2.2.1]; exact hl.1) rfl d_M_ctor_1 (Nat.le_of_ble_eq_true rfl) (Nat.le_of_ble_eq_true rfl) ?_
  refine W.eq (g2 := F0 m 4 ls []) rfl ?_
  refine lv_aload_n C.1 C.2.1 d_M_ctor_4 rfl (lv_at hl 0 rfl) ?_
  refine lv_sipush (v := nI 800) C.1 C.2.1 d_M_ctor_5 (by decide) ?_
  refine va_newa (atype := .int) (ty := .int) (N' := 800) (a0 := (800, .inl (fun _ => 0))) C.1 C.2.1 (C.2.2.2.2 _ k_36) rfl hK hP hD hS hA (fun cA => rfl) (by decide) (by decide) (by decide) (Nat.le_of_ble_eq_true rfl) (Nat.le_of_ble_eq_true rfl) d_M_ctor_8 (fun q1 c1 H hK hP hD hS => ?_)
  have hK : va_K D classes [(c1, .int)] s := hK
  have hP : va_P D classes [(h0, .inr (1, [.int 0, .int 0, .int 0, .null, .null, .null])), (q1, .inl (c1, 800, .inl (fun _ => 0)))] H := hP
  have hD : va_D A [(h0, .inr (1, [.int 0, .int 0, .int 0, .null, .null, .null])), (q1, .inl (c1, 800, .inl (fun _ => 0)))] := hD
  refine W.widen (k := 1) (n := 800) (Nat.le_of_ble_eq_true rfl) (Nat.le_of_ble_eq_true rfl) ?_
  refine va_putF (D := D) (ci := 1) (v := .ref q1) (ty := .array .int) (C := R_M) (T := F_M) (N := 6) C.1 C.2.1 C.2.2.2.2 i_M t_M t_M_ok n_M C.2.2.2.1 hK hP hD hS 0 rfl rfl 3 (by decide) (C.2.2.2.2 _ k_136) (fun _ h9 => h9) rfl hin rfl (by decide +kernel) rfl rfl (Nat.le_of_ble_eq_true rfl) d_M_ctor_10 (fun H locs hP hD hS => ?_)
  have hP : va_P D classes [(h0, .inr (1, [.int 0, .int 0, .int 0, .ref q1, .null, .null])), (q1, .inl (c1, 800, .inl (fun _ => 0)))] H := hP
  have hD : va_D A [(h0, .inr (1, [.int 0, .int 0, .int 0, .ref q1, .null, .null])), (q1, .inl (c1, 800, .inl (fun _ => 0)))] := hD
  refine lv_aload_n C.1 C.2.1 d_M_ctor_13 rfl (lv_at hl 0 rfl) ?_
  refine lv_sipush (v := nI 880) C.1 C.2.1 d_M_ctor_14 (by decide) ?_
  refine va_newa (atype := .int) (ty := .int) (N' := 880) (a0 := (880, .inl (fun _ => 0))) C.1 C.2.1 (C.2.2.2.2 _ k_36) rfl hK hP hD hS hA (fun cA => rfl) (by decide) (by decide) (by decide) (Nat.le_of_ble_eq_true rfl) (Nat.le_of_ble_eq_true rfl) d_M_ctor_17 (fun q2 c2 H hK hP hD hS => ?_)
  have hK : va_K D classes [(c1, .int), (c2, .int)] s := hK
  have hP : va_P D classes [(h0, .inr (1, [.int 0, .int 0, .int 0, .ref q1, .null, .null])), (q1, .inl (c1, 800, .inl (fun _ => 0))), (q2, .inl (c2, 880, .inl (fun _ => 0)))] H := hP
  have hD : va_D A [(h0, .inr (1, [.int 0, .int 0, .int 0, .ref q1, .null, .null])), (q1, .inl (c1, 800, .inl (fun _ => 0))), (q2, .inl (c2, 880, .inl (fun _ => 0)))] := hD
  refine W.widen (k := 2) (n := 1680) (Nat.le_of_ble_eq_true rfl) (Nat.le_of_ble_eq_true rfl) ?_
  refine va_putF (D := D) (ci := 1) (v := .ref q2) (ty := .array .int) (C := R_M) (T := F_M) (N := 6) C.1 C.2.1 C.2.2.2.2 i_M t_M t_M_ok n_M C.2.2.2.1 hK hP hD hS 0 rfl rfl 4 (by decide) (C.2.2.2.2 _ k_137) (fun _ h9 => h9) rfl hin rfl (by decide +kernel) rfl rfl (Nat.le_of_ble_eq_true rfl) d_M_ctor_19 (fun H locs hP hD hS => ?_)
  have hP : va_P D classes [(h0, .inr (1, [.int 0, .int 0, .int 0, .ref q1, .ref q2, .null])), (q1, .inl (c1, 800, .inl (fun _ => 0))), (q2, .inl (c2, 880, .inl (fun _ => 0)))] H := hP
  have hD : va_D A [(h0, .inr (1, [.int 0, .int 0, .int 0, .ref q1, .ref q2, .null])), (q1, .inl (c1, 800, .inl (fun _ => 0))), (q2, .inl (c2, 880, .inl (fun _ => 0)))] := hD
  refine lv_aload_n C.1 C.2.1 d_M_ctor_22 rfl (lv_at hl 0 rfl) ?_
  refine lv_bipush (v := nI 22) C.1 C.2.1 d_M_ctor_23 (by decide) ?_
  refine va_newa (atype := .boolean) (ty := .boolean) (N' := 22) (a0 := (22, .inl (fun _ => 0))) C.1 C.2.1 (C.2.2.2.2 _ k_37) rfl hK hP hD hS hA (fun cA => rfl) (by decide) (by decide) (by decide) (Nat.le_of_ble_eq_true rfl) (Nat.le_of_ble_eq_true rfl) d_M_ctor_25 (fun q3 c3 H hK hP hD hS => ?_)
  have hK : va_K D classes [(c1, .int), (c2, .int), (c3, .boolean)] s := hK
  have hP : va_P D classes [(h0, .inr (1, [.int 0, .int 0, .int 0, .ref q1, .ref q2, .null])), (q1, .inl (c1, 800, .inl (fun _ => 0))), (q2, .inl (c2, 880, .inl (fun _ => 0))), (q3, .inl (c3, 22, .inl (fun _ => 0)))] H := hP
  have hD : va_D A [(h0, .inr (1, [.int 0, .int 0, .int 0, .ref q1, .ref q2, .null])), (q1, .inl (c1, 800, .inl (fun _ => 0))), (q2, .inl (c2, 880, .inl (fun _ => 0))), (q3, .inl (c3, 22, .inl (fun _ => 0)))] := hD
  refine W.widen (k := 3) (n := 1702) (Nat.le_of_ble_eq_true rfl) (Nat.le_of_ble_eq_true rfl) ?_
  refine va_putF (D := D) (ci := 1) (v := .ref q3) (ty := .array .boolean) (C := R_M) (T := F_M) (N := 6) C.1 C.2.1 C.2.2.2.2 i_M t_M t_M_ok n_M C.2.2.2.1 hK hP hD hS 0 rfl rfl 5 (by decide) (C.2.2.2.2 _ k_138) (fun _ h9 => h9) rfl hin rfl (by decide +kernel) rfl rfl (Nat.le_of_ble_eq_true rfl) d_M_ctor_27 (fun H locs hP hD hS => ?_)
  have hP : va_P D classes [(h0, .inr (1, [.int 0, .int 0, .int 0, .ref q1, .ref q2, .ref q3])), (q1, .inl (c1, 800, .inl (fun _ => 0))), (q2, .inl (c2, 880, .inl (fun _ => 0))), (q3, .inl (c3, 22, .inl (fun _ => 0)))] H := hP
  have hD : va_D A [(h0, .inr (1, [.int 0, .int 0, .int 0, .ref q1, .ref q2, .ref q3])), (q1, .inl (c1, 800, .inl (fun _ => 0))), (q2, .inl (c2, 880, .inl (fun _ => 0))), (q3, .inl (c3, 22, .inl (fun _ => 0)))] := hD
  have st77 : ∀ (H : Heap) (locs : List Loc), va_P D classes [(h0, .inr (1, [.int (nI dn), .int 0, .int 0, .ref q1, .ref q2, .ref q3])), (q1, .inl (c1, 800, .inl (fun _ => 0))), (q2, .inl (c2, 880, .inl (fun _ => 0))), (q3, .inl (c3, 22, .inl (fun _ => 0)))] H → va_D A [(h0, .inr (1, [.int (nI dn), .int 0, .int 0, .ref q1, .ref q2, .ref q3])), (q1, .inl (c1, 800, .inl (fun _ => 0))), (q2, .inl (c2, 880, .inl (fun _ => 0))), (q3, .inl (c3, 22, .inl (fun _ => 0)))] → va_S A s.heap H locs → W p l e (rmL 1 3 1702) s m args below meth c H locs 3 1702 Q (F0 m 77 ls [.int (nI bn), .ref h0]) := by
    intro H locs hP hD hS
    refine va_putF (D := D) (ci := 1) (v := .int (nI bn)) (ty := .int) (C := R_M) (T := F_M) (N := 6) C.1 C.2.1 C.2.2.2.2 i_M t_M t_M_ok n_M C.2.2.2.1 hK hP hD hS 0 rfl rfl 1 (by decide) (C.2.2.2.2 _ k_134) (fun _ h9 => h9) rfl hin rfl (by decide +kernel) rfl rfl (Nat.le_of_ble_eq_true rfl) d_M_ctor_77 (fun H locs hP hD hS => ?_)
    have hP : va_P D classes [(h0, .inr (1, [.int (nI dn), .int (nI bn), .int 0, .ref q1, .ref q2, .ref q3])), (q1, .inl (c1, 800, .inl (fun _ => 0))), (q2, .inl (c2, 880, .inl (fun _ => 0))), (q3, .inl (c3, 22, .inl (fun _ => 0)))] H := hP
    have hD : va_D A [(h0, .inr (1, [.int (nI dn), .int (nI bn), .int 0, .ref q1, .ref q2, .ref q3])), (q1, .inl (c1, 800, .inl (fun _ => 0))), (q2, .inl (c2, 880, .inl (fun _ => 0))), (q3, .inl (c3, 22, .inl (fun _ => 0)))] := hD
    exact hret ((fun i => match i with | 0 => h0 | 1 => q1 | 2 => q2 | _ => q3), (fun i => match i with | 1 => c1 | 2 => c2 | _ => c3)) hK hP hD hS d_M_ctor_80 rfl
  have st52 : W p l e (rmL 1 3 1702) s m args below meth c H locs 3 1702 Q (F0 m 52 ls [.int (nI dn), .ref h0]) := by
    refine va_putF (D := D) (ci := 1) (v := .int (nI dn)) (ty := .int) (C := R_M) (T := F_M) (N := 6) C.1 C.2.1 C.2.2.2.2 i_M t_M t_M_ok n_M C.2.2.2.1 hK hP hD hS 0 rfl rfl 0 (by decide) (C.2.2.2.2 _ k_133) (fun _ h9 => h9) rfl hin rfl (by decide +kernel) rfl rfl (Nat.le_of_ble_eq_true rfl) d_M_ctor_52 (fun H locs hP hD hS => ?_)
    have hP : va_P D classes [(h0, .inr (1, [.int (nI dn), .int 0, .int 0, .ref q1, .ref q2, .ref q3])), (q1, .inl (c1, 800, .inl (fun _ => 0))), (q2, .inl (c2, 880, .inl (fun _ => 0))), (q3, .inl (c3, 22, .inl (fun _ => 0)))] H := hP
    have hD : va_D A [(h0, .inr (1, [.int (nI dn), .int 0, .int 0, .ref q1, .ref q2, .ref q3])), (q1, .inl (c1, 800, .inl (fun _ => 0))), (q2, .inl (c2, 880, .inl (fun _ => 0))), (q3, .inl (c3, 22, .inl (fun _ => 0)))] := hD
    refine lv_aload_n C.1 C.2.1 d_M_ctor_55 rfl (lv_at hl 0 rfl) ?_
    refine lv_iload_n C.1 C.2.1 d_M_ctor_56 rfl (lv_at hl 2 rfl) ?_
    refine lv_iconst (v := nI 1) C.1 C.2.1 d_M_ctor_57 (by decide) ?_
    refine lv_icmp_ge (tgt := 65) C.1 C.2.1 d_M_ctor_58 (by decide) (fun h1 => ?_) (fun h1 => ?_)
    · refine lv_iload_n C.1 C.2.1 d_M_ctor_65 rfl (lv_at hl 2 rfl) ?_
      refine lv_bipush (v := nI 40) C.1 C.2.1 d_M_ctor_66 (by decide) ?_
      refine lv_icmp_le (tgt := 76) C.1 C.2.1 d_M_ctor_68 (by decide) (fun h2 => ?_) (fun h2 => ?_)
      · refine lv_iload_n C.1 C.2.1 d_M_ctor_76 rfl (lv_at hl 2 rfl) ?_
        refine lv_eq (y := nI bn) (by rw [← hbn]; unfold clN; rw [if_neg (Int32.not_lt.mpr h1), if_pos h2]) ?_
        exact st77 H locs hP hD hS
      · refine lv_bipush (v := nI 40) C.1 C.2.1 d_M_ctor_71 (by decide) ?_
        refine lv_goto (tgt := 77) C.1 C.2.1 d_M_ctor_73 (by decide) ?_
        refine lv_eq (y := nI bn) (by rw [← hbn]; unfold clN; rw [if_neg (Int32.not_lt.mpr h1), if_neg h2]) ?_
        exact st77 H locs hP hD hS
    · refine lv_iconst (v := nI 1) C.1 C.2.1 d_M_ctor_61 (by decide) ?_
      refine lv_goto (tgt := 77) C.1 C.2.1 d_M_ctor_62 (by decide) ?_
      refine lv_eq (y := nI bn) (by rw [← hbn]; unfold clN; rw [if_pos (Int32.not_le.mp h1)]) ?_
      exact st77 H locs hP hD hS
  refine lv_aload_n C.1 C.2.1 d_M_ctor_30 rfl (lv_at hl 0 rfl) ?_
  refine lv_iload_n C.1 C.2.1 d_M_ctor_31 rfl (lv_at hl 1 rfl) ?_
  refine lv_iconst (v := nI 1) C.1 C.2.1 d_M_ctor_32 (by decide) ?_
  refine lv_icmp_ge (tgt := 40) C.1 C.2.1 d_M_ctor_33 (by decide) (fun h1 => ?_) (fun h1 => ?_)
  · refine lv_iload_n C.1 C.2.1 d_M_ctor_40 rfl (lv_at hl 1 rfl) ?_
    refine lv_bipush (v := nI 20) C.1 C.2.1 d_M_ctor_41 (by decide) ?_
    refine lv_icmp_le (tgt := 51) C.1 C.2.1 d_M_ctor_43 (by decide) (fun h2 => ?_) (fun h2 => ?_)
    · refine lv_iload_n C.1 C.2.1 d_M_ctor_51 rfl (lv_at hl 1 rfl) ?_
      refine lv_eq (y := nI dn) (by rw [← hdn]; unfold clN; rw [if_neg (Int32.not_lt.mpr h1), if_pos h2]) ?_
      exact st52
    · refine lv_bipush (v := nI 20) C.1 C.2.1 d_M_ctor_46 (by decide) ?_
      refine lv_goto (tgt := 52) C.1 C.2.1 d_M_ctor_48 (by decide) ?_
      refine lv_eq (y := nI dn) (by rw [← hdn]; unfold clN; rw [if_neg (Int32.not_lt.mpr h1), if_neg h2]) ?_
      exact st52
  · refine lv_iconst (v := nI 1) C.1 C.2.1 d_M_ctor_36 (by decide) ?_
    refine lv_goto (tgt := 52) C.1 C.2.1 d_M_ctor_37 (by decide) ?_
    refine lv_eq (y := nI dn) (by rw [← hdn]; unfold clN; rw [if_pos (Int32.not_le.mp h1)]) ?_
    exact st52
end
section
/-! PART 15: what holds between the class and its reference, kept by every call (no program in sight) -/
def rel (d bl : Nat) (rd : Int32) (ex lg ce de mp kp fl : Nat → Int32) : Prop :=
  (rd = 0 ∧ ∀ j, j < 22 → de j = 0 ∧ fl j = 0) ∨ (rd = nI 1 ∧ XI d bl mp ex lg ce de ∧ (∀ j, j < 22 → de j = fl j) ∧ (∀ j, d + 2 ≤ j → j < 22 → de j = 0) ∧ ∀ k a, k < d + 2 → a < bl → ¬ de k = 0 → ce (40 * k + a) = kp (40 * k + a))
theorem nI1_ne : ¬ nI 1 = 0 := by decide
theorem rel.hI {d bl : Nat} {rd : Int32} {ex lg ce de mp kp fl : Nat → Int32} (h : rel d bl rd ex lg ce de mp kp fl) (hr : ¬ rd = 0) : XI d bl mp ex lg ce de := by
  rcases h with h | h
  · exact absurd h.1 hr
  · exact h.2.1
theorem rel.go {d bl : Nat} {rd : Int32} {ex lg ce de mp kp fl : Nat → Int32} (h : rel d bl rd ex lg ce de mp kp fl) (hr : ¬ rd = 0) : rd = nI 1 ∧ XI d bl mp ex lg ce de ∧ (∀ j, j < 22 → de j = fl j) ∧ (∀ j, d + 2 ≤ j → j < 22 → de j = 0) ∧ ∀ k a, k < d + 2 → a < bl → ¬ de k = 0 → ce (40 * k + a) = kp (40 * k + a) := by
  rcases h with h | h
  · exact absurd h.1 hr
  · exact h
theorem rel.cnt {d bl : Nat} {rd : Int32} {ex lg ce de mp kp fl : Nat → Int32} (hd : d ≤ 20) (h : rel d bl rd ex lg ce de mp kp fl) : cnt (d + 2) de = cnt 22 fl := by
  rcases h with h | h
  · rw [cnt_z (fun j hj => (h.2 j (by omega)).1), cnt_z (fun j hj => (h.2 j hj).2)]
  · rw [← cnt_congr (f := de) (g := fl) h.2.2.1]
    exact (cnt_ext (by omega) h.2.2.2.1).symm
theorem rel.de {d bl : Nat} {rd : Int32} {ex lg ce de mp kp fl : Nat → Int32} (h : rel d bl rd ex lg ce de mp kp fl) {j : Nat} (hj : j < 22) : de j = fl j := by
  rcases h with h | h
  · rw [(h.2 j hj).1, (h.2 j hj).2]
  · exact h.2.2.1 j hj
theorem rel_0 {d bl : Nat} : rel d bl 0 (fun _ => 0) (fun _ => 0) (fun _ => 0) (fun _ => 0) (fun _ => 0) (fun _ => 0) (fun _ => 0) := Or.inl ⟨rfl, fun _ _ => ⟨rfl, rfl⟩⟩
theorem cnt_zero {f : Nat → Int32} {n : Nat} (h : cnt n f = 0) : ∀ j, j < n → f j = 0 := by
  intro j hj
  by_cases z : f j = 0
  · exact z
  · have h1 := cnt_s1 z
    have h2 := cnt_mono (f := f) (show j + 1 ≤ n by omega)
    omega
theorem ok_in {rd u v : Int32} {n b : Nat} (hn : n < 2 ^ 31) (hb : b < 2 ^ 31) (h : okC rd u v (nI n) (nI b)) : u.toNatClampNeg < n ∧ v.toNatClampNeg < b := by
  obtain ⟨i, hi, ei⟩ := ok_n hn h.2.1 h.2.2.1
  obtain ⟨j, hj, ej⟩ := ok_n hb h.2.2.2.1 h.2.2.2.2
  rw [ei, ej, nI_clamp (by omega), nI_clamp (by omega)]
  exact ⟨hi, hj⟩
theorem okd_in {rd u : Int32} {n : Nat} (hn : n < 2 ^ 31) (h : okD rd u (nI n)) : u.toNatClampNeg < n := by
  obtain ⟨i, hi, ei⟩ := ok_n hn h.2.1 h.2.2
  rw [ei, nI_clamp (by omega)]
  exact hi
/-- init -/
theorem rel_init {d bl : Nat} {ex lg ce de mp kp fl : Nat → Int32} (hd1 : 1 ≤ d) (hd : d ≤ 20) (hbl : bl ≤ 40) (hT : TB ex lg) (hc : ∀ j, j < 880 → ce j = 0) (hz : ∀ j, j < 22 → de j = 0) (hm : ∀ j, j < 800 → mp j = 0) (hf : ∀ j, j < 22 → fl j = 0) : rel d bl (nI 1) ex lg ce de mp kp fl := by
  refine Or.inr ⟨rfl, ⟨hT, ?_, ?_⟩, fun j hj => by rw [hz j hj, hf j hj], fun j _ hj => hz j hj, fun k a hk ha hn => absurd (hz k (by omega)) hn⟩
  · intro k a hk ha _
    rw [hc _ (by omega)]
    by_cases h1 : k < d
    · rw [du_d h1, hm _ (by omega)]
    · by_cases h2 : k = d
      · subst h2
        rw [du_p, ps_z (fun t ht => hm _ (by omega))]
      · have h3 : k = d + 1 := by omega
        subst h3
        rw [du_q, ps_z (fun t ht => by show tp t (mp (40 * t + a)) = 0; rw [hm _ (by omega), tp_0])]
  · rw [cnt_z (fun j hj => hz j (by omega))]
    exact Nat.zero_le 2
/-- write -/
theorem rel_write {d bl : Nat} {rd w : Int32} {ex lg ce de mp kp fl c2 : Nat → Int32} {x : Nat} (h : rel d bl rd ex lg ce de mp kp fl) (hr : ¬ rd = 0) (hA : AL d bl (upd mp x w) c2 de) (hk : ∀ k a, k < d + 2 → a < bl → ¬ de k = 0 → c2 (40 * k + a) = ce (40 * k + a)) : rel d bl rd ex lg c2 de (upd mp x w) kp fl := by
  obtain ⟨h1, h2, h3, h4, h5⟩ := h.go hr
  exact Or.inr ⟨h1, ⟨h2.1, hA, h2.2.2⟩, h3, h4, fun k a hk1 ha hn => by rw [hk k a hk1 ha hn, h5 k a hk1 ha hn]⟩
/-- fail -/
theorem rel_fail {d bl x : Nat} {rd : Int32} {ex lg ce de mp kp fl k2 : Nat → Int32} (hbl : bl ≤ 40) (h : rel d bl rd ex lg ce de mp kp fl) (hr : ¬ rd = 0) (hx : x < d + 2) (h0 : de x = 0) (hc : ¬ cnt (d + 2) de = 2) (g1 : ∀ a, a < bl → k2 (40 * x + a) = du d mp x a) (g2 : ∀ k a, a < 40 → k ≠ x → k2 (40 * k + a) = kp (40 * k + a)) : rel d bl rd ex lg ce (upd de x (nI 1)) mp k2 (upd fl x (nI 1)) := by
  obtain ⟨h1, h2, h3, h4, h5⟩ := h.go hr
  refine Or.inr ⟨h1, ⟨h2.1, ?_, ?_⟩, ?_, ?_, ?_⟩
  · intro k a hk ha hz
    by_cases e : k = x
    · subst e; rw [pk_us] at hz; exact absurd hz nI1_ne
    · rw [pk_un e] at hz; exact h2.2.1 k a hk ha hz
  · have := (cnt_up (n := d + 2) (nI 1) h0).1
    have := h2.2.2
    omega
  · intro j hj
    by_cases e : j = x
    · subst e; rw [pk_us, pk_us]
    · rw [pk_un e, pk_un e]; exact h3 j hj
  · intro j hj hj2
    rw [pk_un (by omega)]
    exact h4 j hj hj2
  · intro k a hk ha hn
    by_cases e : k = x
    · subst e; rw [g1 a ha]; exact h2.2.1 k a hk ha h0
    · rw [pk_un e] at hn; rw [g2 k a (by omega) e]; exact h5 k a hk ha hn
/-- smash -/
theorem rel_smash {d bl x y : Nat} {rd w : Int32} {ex lg ce de mp kp fl : Nat → Int32} (hbl : bl ≤ 40) (h : rel d bl rd ex lg ce de mp kp fl) (hr : ¬ rd = 0) (hx : x < d + 2) (hy : y < bl) (h0 : ¬ de x = 0) : rel d bl rd ex lg (upd ce (40 * x + y) w) de mp (upd kp (40 * x + y) w) fl := by
  obtain ⟨h1, h2, h3, h4, h5⟩ := h.go hr
  refine Or.inr ⟨h1, ⟨h2.1, ?_, h2.2.2⟩, h3, h4, ?_⟩
  · intro k a hk ha hz
    have e : k ≠ x := fun e => h0 (by rw [← e]; exact hz)
    rw [pk_un (by omega)]
    exact h2.2.1 k a hk ha hz
  · intro k a hk ha hn
    by_cases e : 40 * k + a = 40 * x + y
    · rw [e, pk_us, pk_us]
    · rw [pk_un e, pk_un e]; exact h5 k a hk ha hn
/-- rebuild -/
theorem rel_reb0 {d bl : Nat} {rd : Int32} {ex lg ce de mp kp fl f2 : Nat → Int32} (hd : d ≤ 20) (h : rel d bl rd ex lg ce de mp kp fl) (hz : rd = 0 ∨ cnt (d + 2) de = 0) (hf : ∀ j, j < 22 → f2 j = 0) : rel d bl rd ex lg ce de mp kp f2 ∧ cnt 22 fl = 0 := by
  refine ⟨?_, ?_⟩
  · rcases h with h | h
    · exact Or.inl ⟨h.1, fun j hj => ⟨(h.2 j hj).1, hf j hj⟩⟩
    · have hz : cnt (d + 2) de = 0 := by
        rcases hz with z | z
        · rw [h.1] at z; exact absurd z nI1_ne
        · exact z
      have h0 := cnt_zero hz
      have h22 : ∀ j, j < 22 → de j = 0 := fun j hj => by
        rcases Nat.lt_or_ge j (d + 2) with q | q
        · exact h0 j q
        · exact h.2.2.2.1 j q hj
      exact Or.inr ⟨h.1, h.2.1, fun j hj => by rw [h22 j hj, hf j hj], h.2.2.2.1, fun k a hk ha hn => absurd (h0 k hk) hn⟩
  · rw [← h.cnt hd]
    rcases hz with z | z
    · rcases h with h | h
      · exact cnt_z (fun j hj => (h.2 j (by omega)).1)
      · rw [h.1] at z; exact absurd z nI1_ne
    · exact z
theorem rel_reb1 {d bl : Nat} {rd : Int32} {ex lg ce de mp kp fl c2 d2 f2 : Nat → Int32} (hd : d ≤ 20) (h : rel d bl rd ex lg ce de mp kp fl) (hr : ¬ rd = 0) (hc : ∀ k a, k < d + 2 → a < bl → c2 (40 * k + a) = du d mp k a) (h1 : ∀ j, j < d + 2 → d2 j = 0) (h2 : ∀ j, d + 2 ≤ j → d2 j = de j) (hf : ∀ j, j < 22 → f2 j = 0) : rel d bl rd ex lg c2 d2 mp kp f2 := by
  obtain ⟨g1, g2, g3, g4, g5⟩ := h.go hr
  have h22 : ∀ j, j < 22 → d2 j = 0 := fun j hj => by
    rcases Nat.lt_or_ge j (d + 2) with q | q
    · exact h1 j q
    · rw [h2 j q]; exact g4 j q hj
  refine Or.inr ⟨g1, ⟨g2.1, fun k a hk ha _ => hc k a hk ha, ?_⟩, fun j hj => by rw [h22 j hj, hf j hj], fun j _ hj => h22 j hj, fun k a hk ha hn => absurd (h1 k hk) hn⟩
  rw [cnt_z h1]
  exact Nat.zero_le 2
/-- raw: both give the same -/
theorem rel_raw {d bl : Nat} {rd u v : Int32} {ex lg ce de mp kp fl : Nat → Int32} (hd : d ≤ 20) (hbl : bl ≤ 40) (h : rel d bl rd ex lg ce de mp kp fl) : (if okC rd u v (nI (d + 2)) (nI bl) then ce (40 * u.toNatClampNeg + v.toNatClampNeg) else nI 0) = (if okC rd u v (nI (d + 2)) (nI bl) then (if fl u.toNatClampNeg = 0 then du d mp u.toNatClampNeg v.toNatClampNeg else kp (40 * u.toNatClampNeg + v.toNatClampNeg)) else nI 0) := by
  by_cases hok : okC rd u v (nI (d + 2)) (nI bl)
  · obtain ⟨hu, hv⟩ := ok_in (by omega) (by omega) hok
    obtain ⟨h1, h2, h3, h4, h5⟩ := h.go hok.1
    rw [if_pos hok, if_pos hok]
    by_cases hz : de u.toNatClampNeg = 0
    · rw [if_pos (by rw [← h3 _ (by omega)]; exact hz)]
      exact h2.2.1 _ _ hu hv hz
    · rw [if_neg (by rw [← h3 _ (by omega)]; exact hz)]
      exact h5 _ _ hu hv hz
  · rw [if_neg hok, if_neg hok]
theorem rel_alive {d bl : Nat} {rd u : Int32} {ex lg ce de mp kp fl : Nat → Int32} (hd : d ≤ 20) (h : rel d bl rd ex lg ce de mp kp fl) : (if okD rd u (nI (d + 2)) ∧ de u.toNatClampNeg = 0 then nI 1 else nI 0) = (if okD rd u (nI (d + 2)) ∧ fl u.toNatClampNeg = 0 then nI 1 else nI 0) := by
  by_cases hok : okD rd u (nI (d + 2))
  · have hu := okd_in (by omega) hok
    rw [h.de (show u.toNatClampNeg < 22 by omega)]
  · rw [if_neg (fun z => hok z.1), if_neg (fun z => hok z.1)]
end
section
/-! PART 16: TwoLostLaw: cell, the calls from the law, its ten cases (printed by gen_law.py) -/

set_option maxHeartbeats 4000000 in
set_option maxRecDepth 100000 in
theorem c_L_cell (l : Launch) (b L j : Nat) (xs : Nat → Int32) (hL : L ≤ 2050) (hj : j < 2050) : Met l y_L_cell (Cond.code y_L_cell b_L_cell 2 (some .int) :: tb) (rmL 0 0 0) (va_Pc [.ref b, .int (nI j)] (fun U => va_X b L xs U U.heap)) (vp_Si (fun r => r = if j < L then xs j else 0)) 0 0 (fun _ => False) := by
  refine Met.ofW (cc := b_L_cell) (maxL := 2) (ret := some .int) (by decide) rfl ?_
  intro p e s m args below meth c s₁ B hml hv
  obtain ⟨rfl, hX⟩ := hv
  have hbl : b < s.heap.size := by
    obtain ⟨scr, h1, -⟩ := hX
    exact (Array.getElem?_eq_some_iff.mp h1).1
  have hx := B.exec
  have hb := B.bytes
  have hS : va_S (fun _ => False) s.heap s.heap [] := va_S.rf
  have hl := lv_entry ([.ref b, .int (nI j)]) (n := 2) (Nat.le_of_ble_eq_true rfl)
  rw [lg_entry_eq]
  generalize (lg_sl ([.ref b, .int (nI j)]) ++ List.replicate (2 - (lg_sl ([.ref b, .int (nI j)])).length) Slot.unset).toArray = ls at hl ⊢
  have hl : lv_has ls 2 [(0, .ref b), (1, .int (nI j))] := hl
  refine lv_iload_n hx hb d_L_cell_0 rfl (lv_at hl 1 rfl) ?_
  refine lv_aload_n hx hb d_L_cell_1 rfl (lv_at hl 0 rfl) ?_
  refine va_slen hx hb hX hbl (fun z => z) hS d_L_cell_2 ?_
  refine lv_eq (y := nI L) rfl ?_
  refine lv_icmp_ge (tgt := 12) hx hb d_L_cell_3 (by decide) (fun h3 => ?_) (fun h3 => ?_)
  · have h3 := (nI_leI (by omega) (by omega)).mp h3
    refine lv_iconst (v := 0) hx hb d_L_cell_12 (by decide) ?_
    exact W.iret hx hb B.returns (fun t ht hW => ⟨0, rfl, (if_neg (by omega)).symm, ht⟩) (fun q h => by cases h) d_L_cell_13 B.notSynchronized
  · have h3 : j < L := Nat.lt_of_not_le (fun z => h3 ((nI_leI (by omega) (by omega)).mpr z))
    refine lv_aload_n hx hb d_L_cell_6 rfl (lv_at hl 0 rfl) ?_
    refine lv_iload_n hx hb d_L_cell_7 rfl (lv_at hl 1 rfl) ?_
    refine va_sld hx hb hX hbl (fun z => z) hS (vp_in_nI h3 (by omega)) d_L_cell_8 ?_
    rw [nI_clamp (by omega)]
    refine lv_goto (tgt := 13) hx hb d_L_cell_9 (by decide) ?_
    exact W.iret hx hb B.returns (fun t ht hW => ⟨xs j, rfl, (if_pos h3).symm, ht⟩) (fun q h => by cases h) d_L_cell_13 B.notSynchronized

section L1
variable {p : Program} {l : Launch} {e : Env} {R : Room} {s : State} {m : MethodId} {args : Array Value} {below : List Frame} {meth : Method} {c : Code} {H H0 : Heap} {locs : List Loc} {cells slots nL : Nat} {Q : State → Prop}
variable {cc : ByteArray} {pc : Nat} {ls : Array Slot} {rest : List Value} {D : va_G} {A : Nat → Prop} {own : String}
variable {q k : Nat → Nat} {d bl : Nat} {rd : Int32} {ex lg ce de mp kp fl : Nat → Int32}
variable {b L : Nat} {xs : Nat → Int32}

theorem sl_n (C : CallFix p m c cc nL s args tb own) (hX : va_X b L xs s s.heap) (hb : b < s.heap.size) (hS : va_S (fun x : Nat => s.heap.size ≤ x) s.heap H locs) {j : Nat} (hj : j < L) (hL : L ≤ 2050) (hdg : decode cc pc = .ok (.iaload, 1)) (kk : W p l e R s m args below meth c H locs cells slots Q (F0 m (pc + 1) ls (.int (xs j) :: rest))) : W p l e R s m args below meth c H locs cells slots Q (F0 m pc ls (.int (nI j) :: .ref b :: rest)) := va_sld C.1 C.2.1 hX hb (Nat.not_le.mpr hb) hS (vp_in_nI hj (by omega)) hdg (by rw [nI_clamp (by omega)]; exact kk)
theorem k_L_cell {j : Nat} (C : CallFix p m c cc nL s args tb "TwoLostLaw") (hX : va_X b L xs s s.heap) (hb : b < s.heap.size) (hS : va_S (fun x : Nat => s.heap.size ≤ x) s.heap H locs) (hL : L ≤ 2050) (hj : j < 2050) (hR : 1 ≤ R.frames ∧ 25 * 1 ≤ R.locals) (hf : cells ≤ R.cells ∧ slots ≤ R.slots) (hls : ls.size = nL) (hrest : (rest.map fun v => v.category).sum ≤ 8) (hdg : decode cc pc = .ok (.invokestatic 9, 3)) (kk : W p l e R s m args below meth c H locs cells slots Q (F0 m (pc + 3) ls (.int (if j < L then xs j else 0) :: rest))) : W p l e R s m args below meth c H locs cells slots Q (F0 m pc ls (.int (nI j) :: .ref b :: rest)) :=
  vp_callSi (W.runS C (c_L_cell l b L j xs hL hj) (cwS 2 C.2.2.2.2 g_L_L_cell rfl rfl rfl (by decide +kernel) ⟨hR.1, by have := hR.2; show 8 + (2 + 11) + 25 * 0 ≤ _; omega⟩) ⟨fun a U g mk z => ⟨z.1, va_X.moved (u := U) (U := U.calling g mk a) (Vm.Alike.refl U.vm) z.2⟩, fun U hU hW => ⟨rfl, va_X.moved hW.alike (by rw [hU]; exact hX.kept (hS.2.1 b hb (Nat.not_le.mpr hb)))⟩⟩ rfl rfl hls rfl (lv_room hrest) hdg hf) (fun r hr => by subst hr; exact kk)

theorem k_L_X_read {M : Nat → Int32} {u v : Int32} (C : CallFix p m c cc nL s args tb "TwoLostLaw") (hK : va_K D classes (kX k) s) (hP : va_P D classes (wX q k d bl rd ex lg ce de) H) (hI : ¬ rd = 0 → XI d bl M ex lg ce de) (hd : d ≤ 20) (hbl : bl ≤ 40) (hR : 5 ≤ R.frames ∧ 25 * 5 ≤ R.locals) (hf : cells ≤ R.cells ∧ slots ≤ R.slots) (hls : ls.size = nL) (hrest : (rest.map fun v => v.category).sum ≤ 8) (hdg : decode cc pc = .ok (.invokevirtual 30, 3)) (kk : W p l e R s m args below meth c H locs cells slots Q (F0 m (pc + 3) ls (.int (if okC rd u v (nI d) (nI bl) then M (40 * u.toNatClampNeg + v.toNatClampNeg) else nI 0) :: rest))) : W p l e R s m args below meth c H locs cells slots Q (F0 m pc ls (.int v :: .int u :: .ref (q 0) :: rest)) := rdM.call (nA := 2) (ci := 0) (cq := (R_X, F_X, 7)) (c_X_read l D q k d bl rd ex lg ce de M u v hI hd hbl) C hK hP g_L_X_read rfl rfl (by decide +kernel) rfl (by decide) hR hf hls hrest hdg rfl (fun r hr => by subst hr; exact kk)

theorem k_L_X_raw {u v : Int32} (C : CallFix p m c cc nL s args tb "TwoLostLaw") (hK : va_K D classes (kX k) s) (hP : va_P D classes (wX q k d bl rd ex lg ce de) H) (hd : d ≤ 20) (hbl : bl ≤ 40) (hR : 2 ≤ R.frames ∧ 25 * 2 ≤ R.locals) (hf : cells ≤ R.cells ∧ slots ≤ R.slots) (hls : ls.size = nL) (hrest : (rest.map fun v => v.category).sum ≤ 8) (hdg : decode cc pc = .ok (.invokevirtual 44, 3)) (kk : W p l e R s m args below meth c H locs cells slots Q (F0 m (pc + 3) ls (.int (if okC rd u v (nI (d + 2)) (nI bl) then ce (40 * u.toNatClampNeg + v.toNatClampNeg) else nI 0) :: rest))) : W p l e R s m args below meth c H locs cells slots Q (F0 m pc ls (.int v :: .int u :: .ref (q 0) :: rest)) := rdM.call (nA := 2) (ci := 0) (cq := (R_X, F_X, 7)) (c_X_raw l D q k d bl rd ex lg ce de u v hd hbl) C hK hP g_L_X_raw rfl rfl (by decide +kernel) rfl (by decide) hR hf hls hrest hdg rfl (fun r hr => by subst hr; exact kk)

theorem k_L_X_alive {u : Int32} (C : CallFix p m c cc nL s args tb "TwoLostLaw") (hK : va_K D classes (kX k) s) (hP : va_P D classes (wX q k d bl rd ex lg ce de) H) (hd : d ≤ 20) (hR : 1 ≤ R.frames ∧ 25 * 1 ≤ R.locals) (hf : cells ≤ R.cells ∧ slots ≤ R.slots) (hls : ls.size = nL) (hrest : (rest.map fun v => v.category).sum ≤ 8) (hdg : decode cc pc = .ok (.invokevirtual 53, 3)) (kk : W p l e R s m args below meth c H locs cells slots Q (F0 m (pc + 3) ls (.int (if okD rd u (nI (d + 2)) ∧ de u.toNatClampNeg = 0 then nI 1 else nI 0) :: rest))) : W p l e R s m args below meth c H locs cells slots Q (F0 m pc ls (.int u :: .ref (q 0) :: rest)) := rdM.call (nA := 1) (ci := 0) (cq := (R_X, F_X, 7)) (c_X_alive l D q k d bl rd ex lg ce de u hd) C hK hP g_L_X_alive rfl rfl (by decide +kernel) rfl (by decide) hR hf hls hrest hdg rfl (fun r hr => by subst hr; exact kk)

theorem k_L_X_scrub {M : Nat → Int32} (C : CallFix p m c cc nL s args tb "TwoLostLaw") (hK : va_K D classes (kX k) s) (hP : va_P D classes (wX q k d bl rd ex lg ce de) H) (hI : ¬ rd = 0 → XI d bl M ex lg ce de) (hd : d ≤ 20) (hbl : bl ≤ 40) (hR : 6 ≤ R.frames ∧ 25 * 6 ≤ R.locals) (hf : cells ≤ R.cells ∧ slots ≤ R.slots) (hls : ls.size = nL) (hrest : (rest.map fun v => v.category).sum ≤ 8) (hdg : decode cc pc = .ok (.invokevirtual 57, 3)) (kk : W p l e R s m args below meth c H locs cells slots Q (F0 m (pc + 3) ls (.int (nI 0) :: rest))) : W p l e R s m args below meth c H locs cells slots Q (F0 m pc ls (.ref (q 0) :: rest)) := rdM.call (nA := 0) (ci := 0) (cq := (R_X, F_X, 7)) (c_X_scrub l D q k d bl rd ex lg ce de M hI hd hbl) C hK hP g_L_X_scrub rfl rfl (by decide +kernel) rfl (by decide) hR hf hls hrest hdg rfl (fun r hr => by subst hr; exact kk)

theorem k_L_X_lost  (C : CallFix p m c cc nL s args tb "TwoLostLaw") (hK : va_K D classes (kX k) s) (hP : va_P D classes (wX q k d bl rd ex lg ce de) H) (hd : d ≤ 20) (hR : 1 ≤ R.frames ∧ 25 * 1 ≤ R.locals) (hf : cells ≤ R.cells ∧ slots ≤ R.slots) (hls : ls.size = nL) (hrest : (rest.map fun v => v.category).sum ≤ 8) (hdg : decode cc pc = .ok (.invokevirtual 61, 3)) (kk : W p l e R s m args below meth c H locs cells slots Q (F0 m (pc + 3) ls (.int (nI (cnt (d + 2) de)) :: rest))) : W p l e R s m args below meth c H locs cells slots Q (F0 m pc ls (.ref (q 0) :: rest)) := rdM.call (nA := 0) (ci := 0) (cq := (R_X, F_X, 7)) (c_X_lost l D q k d bl rd ex lg ce de hd) C hK hP g_L_X_lost rfl rfl (by decide +kernel) rfl (by decide) hR hf hls hrest hdg rfl (fun r hr => by subst hr; exact kk)

theorem k_L_M_read {u v : Int32} (C : CallFix p m c cc nL s args tb "TwoLostLaw") (hK : va_K D classes (kM k) s) (hP : va_P D classes (wM q k d bl rd mp kp fl) H) (hd : d ≤ 20) (hbl : bl ≤ 40) (hR : 3 ≤ R.frames ∧ 25 * 3 ≤ R.locals) (hf : cells ≤ R.cells ∧ slots ≤ R.slots) (hls : ls.size = nL) (hrest : (rest.map fun v => v.category).sum ≤ 8) (hdg : decode cc pc = .ok (.invokevirtual 34, 3)) (kk : W p l e R s m args below meth c H locs cells slots Q (F0 m (pc + 3) ls (.int (if okC rd u v (nI d) (nI bl) then mp (40 * u.toNatClampNeg + v.toNatClampNeg) else nI 0) :: rest))) : W p l e R s m args below meth c H locs cells slots Q (F0 m pc ls (.int v :: .int u :: .ref (q 0) :: rest)) := rdM.call (nA := 2) (ci := 1) (cq := (R_M, F_M, 6)) (c_M_read l D q k d bl rd mp kp fl u v hd hbl) C hK hP g_L_M_read rfl rfl (by decide +kernel) rfl (by decide) hR hf hls hrest hdg rfl (fun r hr => by subst hr; exact kk)

theorem k_L_M_raw {u v : Int32} (C : CallFix p m c cc nL s args tb "TwoLostLaw") (hK : va_K D classes (kM k) s) (hP : va_P D classes (wM q k d bl rd mp kp fl) H) (hd1 : 1 ≤ d) (hd : d ≤ 20) (hbl : bl ≤ 40) (hR : 3 ≤ R.frames ∧ 25 * 3 ≤ R.locals) (hf : cells ≤ R.cells ∧ slots ≤ R.slots) (hls : ls.size = nL) (hrest : (rest.map fun v => v.category).sum ≤ 8) (hdg : decode cc pc = .ok (.invokevirtual 47, 3)) (kk : W p l e R s m args below meth c H locs cells slots Q (F0 m (pc + 3) ls (.int (if okC rd u v (nI (d + 2)) (nI bl) then (if fl u.toNatClampNeg = 0 then du d mp u.toNatClampNeg v.toNatClampNeg else kp (40 * u.toNatClampNeg + v.toNatClampNeg)) else nI 0) :: rest))) : W p l e R s m args below meth c H locs cells slots Q (F0 m pc ls (.int v :: .int u :: .ref (q 0) :: rest)) := rdM.call (nA := 2) (ci := 1) (cq := (R_M, F_M, 6)) (c_M_raw l D q k d bl rd mp kp fl u v hd1 hd hbl) C hK hP g_L_M_raw rfl rfl (by decide +kernel) rfl (by decide) hR hf hls hrest hdg rfl (fun r hr => by subst hr; exact kk)

theorem k_L_M_alive {u : Int32} (C : CallFix p m c cc nL s args tb "TwoLostLaw") (hK : va_K D classes (kM k) s) (hP : va_P D classes (wM q k d bl rd mp kp fl) H) (hd : d ≤ 20) (hR : 2 ≤ R.frames ∧ 25 * 2 ≤ R.locals) (hf : cells ≤ R.cells ∧ slots ≤ R.slots) (hls : ls.size = nL) (hrest : (rest.map fun v => v.category).sum ≤ 8) (hdg : decode cc pc = .ok (.invokevirtual 56, 3)) (kk : W p l e R s m args below meth c H locs cells slots Q (F0 m (pc + 3) ls (.int (if okD rd u (nI (d + 2)) ∧ fl u.toNatClampNeg = 0 then nI 1 else nI 0) :: rest))) : W p l e R s m args below meth c H locs cells slots Q (F0 m pc ls (.int u :: .ref (q 0) :: rest)) := rdM.call (nA := 1) (ci := 1) (cq := (R_M, F_M, 6)) (c_M_alive l D q k d bl rd mp kp fl u hd) C hK hP g_L_M_alive rfl rfl (by decide +kernel) rfl (by decide) hR hf hls hrest hdg rfl (fun r hr => by subst hr; exact kk)

theorem k_L_M_scrub  (C : CallFix p m c cc nL s args tb "TwoLostLaw") (hK : va_K D classes (kM k) s) (hP : va_P D classes (wM q k d bl rd mp kp fl) H) (hd1 : 1 ≤ d) (hd : d ≤ 20) (hbl : bl ≤ 40) (hR : 4 ≤ R.frames ∧ 25 * 4 ≤ R.locals) (hf : cells ≤ R.cells ∧ slots ≤ R.slots) (hls : ls.size = nL) (hrest : (rest.map fun v => v.category).sum ≤ 8) (hdg : decode cc pc = .ok (.invokevirtual 60, 3)) (kk : W p l e R s m args below meth c H locs cells slots Q (F0 m (pc + 3) ls (.int (nI 0) :: rest))) : W p l e R s m args below meth c H locs cells slots Q (F0 m pc ls (.ref (q 0) :: rest)) := rdM.call (nA := 0) (ci := 1) (cq := (R_M, F_M, 6)) (c_M_scrub l D q k d bl rd mp kp fl hd1 hd hbl) C hK hP g_L_M_scrub rfl rfl (by decide +kernel) rfl (by decide) hR hf hls hrest hdg rfl (fun r hr => by subst hr; exact kk)

theorem k_L_M_lost  (C : CallFix p m c cc nL s args tb "TwoLostLaw") (hK : va_K D classes (kM k) s) (hP : va_P D classes (wM q k d bl rd mp kp fl) H) (hR : 1 ≤ R.frames ∧ 25 * 1 ≤ R.locals) (hf : cells ≤ R.cells ∧ slots ≤ R.slots) (hls : ls.size = nL) (hrest : (rest.map fun v => v.category).sum ≤ 8) (hdg : decode cc pc = .ok (.invokevirtual 64, 3)) (kk : W p l e R s m args below meth c H locs cells slots Q (F0 m (pc + 3) ls (.int (nI (cnt 22 fl)) :: rest))) : W p l e R s m args below meth c H locs cells slots Q (F0 m pc ls (.ref (q 0) :: rest)) := rdM.call (nA := 0) (ci := 1) (cq := (R_M, F_M, 6)) (c_M_lost l D q k d bl rd mp kp fl) C hK hP g_L_M_lost rfl rfl (by decide +kernel) rfl (by decide) hR hf hls hrest hdg rfl (fun r hr => by subst hr; exact kk)

end L1

section L2
variable {p : Program} {l : Launch} {e : Env} {s : State} {m : MethodId} {args : Array Value} {below : List Frame} {meth : Method} {c : Code} {H : Heap} {locs : List Loc} {Q : State → Prop} {pc : Nat} {ls : Array Slot} {rest : List Value} {D : va_G}
variable {q k q2 k2 : Nat → Nat} {d bl b L i : Nat} {rd : Int32} {ex lg ce de mp kp fl xs : Nat → Int32}

set_option maxHeartbeats 4000000 in
set_option maxRecDepth 100000 in
theorem lw_k0 (C : CallFix p m c code 4 s args tb "TwoLostLaw") (hX : va_X b L xs s s.heap) (hb : b < s.heap.size) (hL : L ≤ 2050) (hi : i + 4 ≤ L) (hd1 : 1 ≤ d) (hd : d ≤ 20) (hbl : bl ≤ 40) (hKx : va_K D classes (kX k) s) (hKm : va_K D classes (kM k2) s) (hrel : rel d bl rd ex lg ce de mp kp fl) (hP : va_P D classes (wX q k d bl rd ex lg ce de ++ wM q2 k2 d bl rd mp kp fl) H) (hD : va_D (fun x : Nat => s.heap.size ≤ x) (wX q k d bl rd ex lg ce de ++ wM q2 k2 d bl rd mp kp fl)) (hS : va_S (fun x : Nat => s.heap.size ≤ x) s.heap H locs) (hl : lv_has ls 4 [(3, .int (nI (i))), (2, .ref (q2 0)), (1, .ref (q 0)), (0, .ref b)]) (KK : ∀ (rd : Int32) (ex lg ce de mp kp fl : Nat → Int32) (H : Heap) (locs : List Loc), rel d bl rd ex lg ce de mp kp fl → va_P D classes (wX q k d bl rd ex lg ce de ++ wM q2 k2 d bl rd mp kp fl) H → va_D (fun x : Nat => s.heap.size ≤ x) (wX q k d bl rd ex lg ce de ++ wM q2 k2 d bl rd mp kp fl) → va_S (fun x : Nat => s.heap.size ≤ x) s.heap H locs → W p l e room_1 s m args below meth c H locs 9 3383 Q (F0 m 356 ls [])) : W p l e room_1 s m args below meth c H locs 9 3383 Q (F0 m 108 ls []) := by
  refine lv_aload_n C.1 C.2.1 d_L_law_108 rfl (lv_at hl 2 rfl) ?_
  refine wrV.call (S := (Nat → Int32) × (Nat → Int32) × (Nat → Int32) × (Nat → Int32)) (wr := wM q2 k2 d bl rd mp kp fl) (nA := 0) (ci := 0) (cq := (R_X, F_X, 7)) (c_X_init l D q k d bl rd ex lg ce de H.size) C hKx hP hD hS (fun _ h => h) [0, 1, 2, 3, 4] [5, 6, 7, 8] rfl rfl (by decide) rfl (by decide) (by decide) g_L_X_init rfl rfl (by decide +kernel) rfl (by decide) ⟨Nat.le_of_ble_eq_true rfl, Nat.le_of_ble_eq_true rfl⟩ ⟨Nat.le_of_ble_eq_true rfl, Nat.le_of_ble_eq_true rfl⟩ hl.1 (Nat.le_of_ble_eq_true rfl) d_L_law_109 rfl (fun u H locs hp hK2 hP hD hS => ?_)
  have hP : va_P D classes (wX q k d bl (nI 1) u.1 u.2.1 u.2.2.1 u.2.2.2 ++ wM q2 k2 d bl rd mp kp fl) H := hP.sub [4, 5, 6, 7, 8, 0, 1, 2, 3] rfl
  have hD : va_D (fun x : Nat => s.heap.size ≤ x) (wX q k d bl (nI 1) u.1 u.2.1 u.2.2.1 u.2.2.2 ++ wM q2 k2 d bl rd mp kp fl) := hD.sub [4, 5, 6, 7, 8, 0, 1, 2, 3] (by decide) rfl
  refine lv_aload_n C.1 C.2.1 d_L_law_112 rfl (lv_at hl 1 rfl) ?_
  refine wrV.call (S := (Nat → Int32) × (Nat → Int32)) (wr := wX q k d bl (nI 1) u.1 u.2.1 u.2.2.1 u.2.2.2) (nA := 0) (ci := 1) (cq := (R_M, F_M, 6)) (c_M_init l D q2 k2 d bl rd mp kp fl H.size) C hKm hP hD hS (fun _ h => h) [5, 6, 7, 8] [0, 1, 2, 3, 4] rfl rfl (by decide) rfl (by decide) (by decide) g_L_M_init rfl rfl (by decide +kernel) rfl (by decide) ⟨Nat.le_of_ble_eq_true rfl, Nat.le_of_ble_eq_true rfl⟩ ⟨Nat.le_of_ble_eq_true rfl, Nat.le_of_ble_eq_true rfl⟩ hl.1 (Nat.le_of_ble_eq_true rfl) d_L_law_113 rfl (fun u2 H locs hp2 hK3 hP hD hS => ?_)
  have hP : va_P D classes (wX q k d bl (nI 1) u.1 u.2.1 u.2.2.1 u.2.2.2 ++ wM q2 k2 d bl (nI 1) u2.1 kp u2.2) H := hP
  have hD : va_D (fun x : Nat => s.heap.size ≤ x) (wX q k d bl (nI 1) u.1 u.2.1 u.2.2.1 u.2.2.2 ++ wM q2 k2 d bl (nI 1) u2.1 kp u2.2) := hD
  refine lv_goto (tgt := 356) C.1 C.2.1 d_L_law_116 (by decide) ?_
  exact KK (nI 1) u.1 u.2.1 u.2.2.1 u.2.2.2 u2.1 kp u2.2 H locs (rel_init hd1 hd hbl hp.1 hp.2.1 hp.2.2 hp2.1 hp2.2) hP hD hS

set_option maxHeartbeats 4000000 in
set_option maxRecDepth 100000 in
theorem lw_k1 (C : CallFix p m c code 4 s args tb "TwoLostLaw") (hX : va_X b L xs s s.heap) (hb : b < s.heap.size) (hL : L ≤ 2050) (hi : i + 4 ≤ L) (hd1 : 1 ≤ d) (hd : d ≤ 20) (hbl : bl ≤ 40) (hKx : va_K D classes (kX k) s) (hKm : va_K D classes (kM k2) s) (hrel : rel d bl rd ex lg ce de mp kp fl) (hP : va_P D classes (wX q k d bl rd ex lg ce de ++ wM q2 k2 d bl rd mp kp fl) H) (hD : va_D (fun x : Nat => s.heap.size ≤ x) (wX q k d bl rd ex lg ce de ++ wM q2 k2 d bl rd mp kp fl)) (hS : va_S (fun x : Nat => s.heap.size ≤ x) s.heap H locs) (hl : lv_has ls 4 [(3, .int (nI (i))), (2, .ref (q2 0)), (1, .ref (q 0)), (0, .ref b)]) (KK : ∀ (rd : Int32) (ex lg ce de mp kp fl : Nat → Int32) (H : Heap) (locs : List Loc), rel d bl rd ex lg ce de mp kp fl → va_P D classes (wX q k d bl rd ex lg ce de ++ wM q2 k2 d bl rd mp kp fl) H → va_D (fun x : Nat => s.heap.size ≤ x) (wX q k d bl rd ex lg ce de ++ wM q2 k2 d bl rd mp kp fl) → va_S (fun x : Nat => s.heap.size ≤ x) s.heap H locs → W p l e room_1 s m args below meth c H locs 9 3383 Q (F0 m 356 ls [])) : W p l e room_1 s m args below meth c H locs 9 3383 Q (F0 m 119 ls []) := by
  refine lv_aload_n C.1 C.2.1 d_L_law_119 rfl (lv_at hl 2 rfl) ?_
  refine lv_aload_n C.1 C.2.1 d_L_law_120 rfl (lv_at hl 3 rfl) ?_
  refine lv_iload_n C.1 C.2.1 d_L_law_121 rfl (lv_at hl 0 rfl) ?_
  refine lv_iconst (v := nI 1) C.1 C.2.1 d_L_law_122 (by decide) ?_
  refine lv_iadd C.1 C.2.1 d_L_law_123 ?_
  refine lv_eq (nI_add _ _) ?_
  refine sl_n C hX hb hS (j := i + 1) (by omega) hL d_L_law_124 ?_
  refine lv_aload_n C.1 C.2.1 d_L_law_125 rfl (lv_at hl 3 rfl) ?_
  refine lv_iload_n C.1 C.2.1 d_L_law_126 rfl (lv_at hl 0 rfl) ?_
  refine lv_iconst (v := nI 2) C.1 C.2.1 d_L_law_127 (by decide) ?_
  refine lv_iadd C.1 C.2.1 d_L_law_128 ?_
  refine lv_eq (nI_add _ _) ?_
  refine sl_n C hX hb hS (j := i + 2) (by omega) hL d_L_law_129 ?_
  refine lv_aload_n C.1 C.2.1 d_L_law_130 rfl (lv_at hl 3 rfl) ?_
  refine lv_iload_n C.1 C.2.1 d_L_law_131 rfl (lv_at hl 0 rfl) ?_
  refine lv_iconst (v := nI 3) C.1 C.2.1 d_L_law_132 (by decide) ?_
  refine lv_iadd C.1 C.2.1 d_L_law_133 ?_
  refine lv_eq (nI_add _ _) ?_
  refine sl_n C hX hb hS (j := i + 3) (by omega) hL d_L_law_134 ?_
  refine wrI.call (S := Nat → Int32) (wr := wM q2 k2 d bl rd mp kp fl) (nA := 3) (ci := 0) (cq := (R_X, F_X, 7)) (c_X_write l D q k d bl rd ex lg ce de mp (xs (i + 1)) (xs (i + 2)) (xs (i + 3)) H.size hrel.hI hd hbl) C hKx hP hD hS (fun _ h => h) [0, 1, 2, 3, 4] [5, 6, 7, 8] rfl rfl (by decide) rfl (by decide) (by decide) g_L_X_write rfl rfl (by decide +kernel) rfl (by decide) ⟨Nat.le_of_ble_eq_true rfl, Nat.le_of_ble_eq_true rfl⟩ ⟨Nat.le_of_ble_eq_true rfl, Nat.le_of_ble_eq_true rfl⟩ hl.1 (Nat.le_of_ble_eq_true rfl) d_L_law_135 rfl (fun r c2 H locs hp hK2 hP hD hS => ?_)
  have hP : va_P D classes (wX q k d bl rd ex lg c2 de ++ wM q2 k2 d bl rd mp kp fl) H := hP.sub [4, 5, 6, 7, 8, 0, 1, 2, 3] rfl
  have hD : va_D (fun x : Nat => s.heap.size ≤ x) (wX q k d bl rd ex lg c2 de ++ wM q2 k2 d bl rd mp kp fl) := hD.sub [4, 5, 6, 7, 8, 0, 1, 2, 3] (by decide) rfl
  refine lv_aload_n C.1 C.2.1 d_L_law_138 rfl (lv_at hl 1 rfl) ?_
  refine lv_aload_n C.1 C.2.1 d_L_law_139 rfl (lv_at hl 3 rfl) ?_
  refine lv_iload_n C.1 C.2.1 d_L_law_140 rfl (lv_at hl 0 rfl) ?_
  refine lv_iconst (v := nI 1) C.1 C.2.1 d_L_law_141 (by decide) ?_
  refine lv_iadd C.1 C.2.1 d_L_law_142 ?_
  refine lv_eq (nI_add _ _) ?_
  refine sl_n C hX hb hS (j := i + 1) (by omega) hL d_L_law_143 ?_
  refine lv_aload_n C.1 C.2.1 d_L_law_144 rfl (lv_at hl 3 rfl) ?_
  refine lv_iload_n C.1 C.2.1 d_L_law_145 rfl (lv_at hl 0 rfl) ?_
  refine lv_iconst (v := nI 2) C.1 C.2.1 d_L_law_146 (by decide) ?_
  refine lv_iadd C.1 C.2.1 d_L_law_147 ?_
  refine lv_eq (nI_add _ _) ?_
  refine sl_n C hX hb hS (j := i + 2) (by omega) hL d_L_law_148 ?_
  refine lv_aload_n C.1 C.2.1 d_L_law_149 rfl (lv_at hl 3 rfl) ?_
  refine lv_iload_n C.1 C.2.1 d_L_law_150 rfl (lv_at hl 0 rfl) ?_
  refine lv_iconst (v := nI 3) C.1 C.2.1 d_L_law_151 (by decide) ?_
  refine lv_iadd C.1 C.2.1 d_L_law_152 ?_
  refine lv_eq (nI_add _ _) ?_
  refine sl_n C hX hb hS (j := i + 3) (by omega) hL d_L_law_153 ?_
  refine wrI.call (S := Nat → Int32) (wr := wX q k d bl rd ex lg c2 de) (nA := 3) (ci := 1) (cq := (R_M, F_M, 6)) (c_M_write l D q2 k2 d bl rd mp kp fl (xs (i + 1)) (xs (i + 2)) (xs (i + 3)) H.size hd hbl) C hKm hP hD hS (fun _ h => h) [5, 6, 7, 8] [0, 1, 2, 3, 4] rfl rfl (by decide) rfl (by decide) (by decide) g_L_M_write rfl rfl (by decide +kernel) rfl (by decide) ⟨Nat.le_of_ble_eq_true rfl, Nat.le_of_ble_eq_true rfl⟩ ⟨Nat.le_of_ble_eq_true rfl, Nat.le_of_ble_eq_true rfl⟩ hl.1 (Nat.le_of_ble_eq_true rfl) d_L_law_154 rfl (fun r2 m2 H locs hp2 hK3 hP hD hS => ?_)
  have hP : va_P D classes (wX q k d bl rd ex lg c2 de ++ wM q2 k2 d bl rd m2 kp fl) H := hP
  have hD : va_D (fun x : Nat => s.heap.size ≤ x) (wX q k d bl rd ex lg c2 de ++ wM q2 k2 d bl rd m2 kp fl) := hD
  refine lv_icmp_eq (tgt := 356) C.1 C.2.1 d_L_law_157 (by decide) (fun h => ?_) (fun h => ?_)
  · refine KK rd ex lg c2 de m2 kp fl H locs ?_ hP hD hS
    rcases hp with ⟨ho, -, g1, g2⟩ | ⟨ho, -, rfl⟩ <;> rcases hp2 with ⟨ho2, -, rfl⟩ | ⟨ho2, -, rfl⟩
    · exact rel_write hrel ho.1 g1 g2
    · exact absurd ho ho2
    · exact absurd ho2 ho
    · exact hrel
  · exfalso
    rcases hp with ⟨ho, e1, -⟩ | ⟨ho, e1, -⟩ <;> rcases hp2 with ⟨ho2, e2, -⟩ | ⟨ho2, e2, -⟩
    · exact h (e1.trans e2.symm)
    · exact ho2 ho
    · exact ho ho2
    · exact h (e1.trans e2.symm)

set_option maxHeartbeats 4000000 in
set_option maxRecDepth 100000 in
theorem lw_k2 (C : CallFix p m c code 4 s args tb "TwoLostLaw") (hX : va_X b L xs s s.heap) (hb : b < s.heap.size) (hL : L ≤ 2050) (hi : i + 4 ≤ L) (hd1 : 1 ≤ d) (hd : d ≤ 20) (hbl : bl ≤ 40) (hKx : va_K D classes (kX k) s) (hKm : va_K D classes (kM k2) s) (hrel : rel d bl rd ex lg ce de mp kp fl) (hP : va_P D classes (wX q k d bl rd ex lg ce de ++ wM q2 k2 d bl rd mp kp fl) H) (hD : va_D (fun x : Nat => s.heap.size ≤ x) (wX q k d bl rd ex lg ce de ++ wM q2 k2 d bl rd mp kp fl)) (hS : va_S (fun x : Nat => s.heap.size ≤ x) s.heap H locs) (hl : lv_has ls 4 [(3, .int (nI (i))), (2, .ref (q2 0)), (1, .ref (q 0)), (0, .ref b)]) (KK : ∀ (rd : Int32) (ex lg ce de mp kp fl : Nat → Int32) (H : Heap) (locs : List Loc), rel d bl rd ex lg ce de mp kp fl → va_P D classes (wX q k d bl rd ex lg ce de ++ wM q2 k2 d bl rd mp kp fl) H → va_D (fun x : Nat => s.heap.size ≤ x) (wX q k d bl rd ex lg ce de ++ wM q2 k2 d bl rd mp kp fl) → va_S (fun x : Nat => s.heap.size ≤ x) s.heap H locs → W p l e room_1 s m args below meth c H locs 9 3383 Q (F0 m 356 ls [])) : W p l e room_1 s m args below meth c H locs 9 3383 Q (F0 m 162 ls []) := by
  refine lv_aload_n C.1 C.2.1 d_L_law_162 rfl (lv_at hl 2 rfl) ?_
  refine lv_aload_n C.1 C.2.1 d_L_law_163 rfl (lv_at hl 3 rfl) ?_
  refine lv_iload_n C.1 C.2.1 d_L_law_164 rfl (lv_at hl 0 rfl) ?_
  refine lv_iconst (v := nI 1) C.1 C.2.1 d_L_law_165 (by decide) ?_
  refine lv_iadd C.1 C.2.1 d_L_law_166 ?_
  refine lv_eq (nI_add _ _) ?_
  refine sl_n C hX hb hS (j := i + 1) (by omega) hL d_L_law_167 ?_
  refine lv_aload_n C.1 C.2.1 d_L_law_168 rfl (lv_at hl 3 rfl) ?_
  refine lv_iload_n C.1 C.2.1 d_L_law_169 rfl (lv_at hl 0 rfl) ?_
  refine lv_iconst (v := nI 2) C.1 C.2.1 d_L_law_170 (by decide) ?_
  refine lv_iadd C.1 C.2.1 d_L_law_171 ?_
  refine lv_eq (nI_add _ _) ?_
  refine sl_n C hX hb hS (j := i + 2) (by omega) hL d_L_law_172 ?_
  refine k_L_X_read C hKx (hP.sub (ws' := wX q k d bl rd ex lg ce de) [0, 1, 2, 3, 4] rfl) hrel.hI hd hbl ⟨Nat.le_of_ble_eq_true rfl, Nat.le_of_ble_eq_true rfl⟩ ⟨Nat.le_of_ble_eq_true rfl, Nat.le_of_ble_eq_true rfl⟩ hl.1 (Nat.le_of_ble_eq_true rfl) d_L_law_173 ?_
  refine lv_aload_n C.1 C.2.1 d_L_law_176 rfl (lv_at hl 1 rfl) ?_
  refine lv_aload_n C.1 C.2.1 d_L_law_177 rfl (lv_at hl 3 rfl) ?_
  refine lv_iload_n C.1 C.2.1 d_L_law_178 rfl (lv_at hl 0 rfl) ?_
  refine lv_iconst (v := nI 1) C.1 C.2.1 d_L_law_179 (by decide) ?_
  refine lv_iadd C.1 C.2.1 d_L_law_180 ?_
  refine lv_eq (nI_add _ _) ?_
  refine sl_n C hX hb hS (j := i + 1) (by omega) hL d_L_law_181 ?_
  refine lv_aload_n C.1 C.2.1 d_L_law_182 rfl (lv_at hl 3 rfl) ?_
  refine lv_iload_n C.1 C.2.1 d_L_law_183 rfl (lv_at hl 0 rfl) ?_
  refine lv_iconst (v := nI 2) C.1 C.2.1 d_L_law_184 (by decide) ?_
  refine lv_iadd C.1 C.2.1 d_L_law_185 ?_
  refine lv_eq (nI_add _ _) ?_
  refine sl_n C hX hb hS (j := i + 2) (by omega) hL d_L_law_186 ?_
  refine k_L_M_read C hKm (hP.sub (ws' := wM q2 k2 d bl rd mp kp fl) [5, 6, 7, 8] rfl) hd hbl ⟨Nat.le_of_ble_eq_true rfl, Nat.le_of_ble_eq_true rfl⟩ ⟨Nat.le_of_ble_eq_true rfl, Nat.le_of_ble_eq_true rfl⟩ hl.1 (Nat.le_of_ble_eq_true rfl) d_L_law_187 ?_
  refine lv_icmp_eq (tgt := 356) C.1 C.2.1 d_L_law_190 (by decide) (fun h => ?_) (fun h => absurd (rfl) h)
  exact KK rd ex lg ce de mp kp fl H locs hrel hP hD hS

set_option maxHeartbeats 4000000 in
set_option maxRecDepth 100000 in
theorem lw_k3 (C : CallFix p m c code 4 s args tb "TwoLostLaw") (hX : va_X b L xs s s.heap) (hb : b < s.heap.size) (hL : L ≤ 2050) (hi : i + 4 ≤ L) (hd1 : 1 ≤ d) (hd : d ≤ 20) (hbl : bl ≤ 40) (hKx : va_K D classes (kX k) s) (hKm : va_K D classes (kM k2) s) (hrel : rel d bl rd ex lg ce de mp kp fl) (hP : va_P D classes (wX q k d bl rd ex lg ce de ++ wM q2 k2 d bl rd mp kp fl) H) (hD : va_D (fun x : Nat => s.heap.size ≤ x) (wX q k d bl rd ex lg ce de ++ wM q2 k2 d bl rd mp kp fl)) (hS : va_S (fun x : Nat => s.heap.size ≤ x) s.heap H locs) (hl : lv_has ls 4 [(3, .int (nI (i))), (2, .ref (q2 0)), (1, .ref (q 0)), (0, .ref b)]) (KK : ∀ (rd : Int32) (ex lg ce de mp kp fl : Nat → Int32) (H : Heap) (locs : List Loc), rel d bl rd ex lg ce de mp kp fl → va_P D classes (wX q k d bl rd ex lg ce de ++ wM q2 k2 d bl rd mp kp fl) H → va_D (fun x : Nat => s.heap.size ≤ x) (wX q k d bl rd ex lg ce de ++ wM q2 k2 d bl rd mp kp fl) → va_S (fun x : Nat => s.heap.size ≤ x) s.heap H locs → W p l e room_1 s m args below meth c H locs 9 3383 Q (F0 m 356 ls [])) : W p l e room_1 s m args below meth c H locs 9 3383 Q (F0 m 195 ls []) := by
  refine lv_aload_n C.1 C.2.1 d_L_law_195 rfl (lv_at hl 2 rfl) ?_
  refine lv_aload_n C.1 C.2.1 d_L_law_196 rfl (lv_at hl 3 rfl) ?_
  refine lv_iload_n C.1 C.2.1 d_L_law_197 rfl (lv_at hl 0 rfl) ?_
  refine lv_iconst (v := nI 1) C.1 C.2.1 d_L_law_198 (by decide) ?_
  refine lv_iadd C.1 C.2.1 d_L_law_199 ?_
  refine lv_eq (nI_add _ _) ?_
  refine sl_n C hX hb hS (j := i + 1) (by omega) hL d_L_law_200 ?_
  refine wrI.call (S := Nat → Int32) (wr := wM q2 k2 d bl rd mp kp fl) (nA := 1) (ci := 0) (cq := (R_X, F_X, 7)) (c_X_fail l D q k d bl rd ex lg ce de (xs (i + 1)) H.size hd) C hKx hP hD hS (fun _ h => h) [0, 1, 2, 3, 4] [5, 6, 7, 8] rfl rfl (by decide) rfl (by decide) (by decide) g_L_X_fail rfl rfl (by decide +kernel) rfl (by decide) ⟨Nat.le_of_ble_eq_true rfl, Nat.le_of_ble_eq_true rfl⟩ ⟨Nat.le_of_ble_eq_true rfl, Nat.le_of_ble_eq_true rfl⟩ hl.1 (Nat.le_of_ble_eq_true rfl) d_L_law_201 rfl (fun r d2 H locs hp hK2 hP hD hS => ?_)
  have hP : va_P D classes (wX q k d bl rd ex lg ce d2 ++ wM q2 k2 d bl rd mp kp fl) H := hP.sub [4, 5, 6, 7, 8, 0, 1, 2, 3] rfl
  have hD : va_D (fun x : Nat => s.heap.size ≤ x) (wX q k d bl rd ex lg ce d2 ++ wM q2 k2 d bl rd mp kp fl) := hD.sub [4, 5, 6, 7, 8, 0, 1, 2, 3] (by decide) rfl
  refine lv_aload_n C.1 C.2.1 d_L_law_204 rfl (lv_at hl 1 rfl) ?_
  refine lv_aload_n C.1 C.2.1 d_L_law_205 rfl (lv_at hl 3 rfl) ?_
  refine lv_iload_n C.1 C.2.1 d_L_law_206 rfl (lv_at hl 0 rfl) ?_
  refine lv_iconst (v := nI 1) C.1 C.2.1 d_L_law_207 (by decide) ?_
  refine lv_iadd C.1 C.2.1 d_L_law_208 ?_
  refine lv_eq (nI_add _ _) ?_
  refine sl_n C hX hb hS (j := i + 1) (by omega) hL d_L_law_209 ?_
  refine wrI.call (S := (Nat → Int32) × (Nat → Int32)) (wr := wX q k d bl rd ex lg ce d2) (nA := 1) (ci := 1) (cq := (R_M, F_M, 6)) (c_M_fail l D q2 k2 d bl rd mp kp fl (xs (i + 1)) H.size hd1 hd hbl) C hKm hP hD hS (fun _ h => h) [5, 6, 7, 8] [0, 1, 2, 3, 4] rfl rfl (by decide) rfl (by decide) (by decide) g_L_M_fail rfl rfl (by decide +kernel) rfl (by decide) ⟨Nat.le_of_ble_eq_true rfl, Nat.le_of_ble_eq_true rfl⟩ ⟨Nat.le_of_ble_eq_true rfl, Nat.le_of_ble_eq_true rfl⟩ hl.1 (Nat.le_of_ble_eq_true rfl) d_L_law_210 rfl (fun r2 z H locs hp2 hK3 hP hD hS => ?_)
  have hP : va_P D classes (wX q k d bl rd ex lg ce d2 ++ wM q2 k2 d bl rd mp z.1 z.2) H := hP
  have hD : va_D (fun x : Nat => s.heap.size ≤ x) (wX q k d bl rd ex lg ce d2 ++ wM q2 k2 d bl rd mp z.1 z.2) := hD
  refine lv_icmp_eq (tgt := 356) C.1 C.2.1 d_L_law_213 (by decide) (fun h => ?_) (fun h => ?_)
  · refine KK rd ex lg ce d2 mp z.1 z.2 H locs ?_ hP hD hS
    rcases hp with ⟨ho, g0, g1, -, rfl⟩ | ⟨ho, -, rfl⟩ <;> rcases hp2 with ⟨ho2, k0, k1, -, e2, k2, k3⟩ | ⟨ho2, -, e1, e2⟩
    · rw [e2]; exact rel_fail hbl hrel ho.1 (okd_in (by omega) ho) g0 g1 k2 k3
    · exact absurd ⟨ho, by rw [← hrel.de (by have := okd_in (by omega) ho; omega)]; exact g0, by rw [← hrel.cnt hd]; exact g1⟩ ho2
    · exact absurd ⟨ho2, by rw [hrel.de (by have := okd_in (by omega) ho2; omega)]; exact k0, by rw [hrel.cnt hd]; exact k1⟩ ho
    · rw [e1, e2]; exact hrel
  · exfalso
    rcases hp with ⟨ho, g0, g1, e1, -⟩ | ⟨ho, e1, -⟩ <;> rcases hp2 with ⟨ho2, k0, k1, e2, -⟩ | ⟨ho2, e2, -⟩
    · exact h (e1.trans e2.symm)
    · exact ho2 ⟨ho, by rw [← hrel.de (by have := okd_in (by omega) ho; omega)]; exact g0, by rw [← hrel.cnt hd]; exact g1⟩
    · exact ho ⟨ho2, by rw [hrel.de (by have := okd_in (by omega) ho2; omega)]; exact k0, by rw [hrel.cnt hd]; exact k1⟩
    · exact h (e1.trans e2.symm)

set_option maxHeartbeats 4000000 in
set_option maxRecDepth 100000 in
theorem lw_k4 (C : CallFix p m c code 4 s args tb "TwoLostLaw") (hX : va_X b L xs s s.heap) (hb : b < s.heap.size) (hL : L ≤ 2050) (hi : i + 4 ≤ L) (hd1 : 1 ≤ d) (hd : d ≤ 20) (hbl : bl ≤ 40) (hKx : va_K D classes (kX k) s) (hKm : va_K D classes (kM k2) s) (hrel : rel d bl rd ex lg ce de mp kp fl) (hP : va_P D classes (wX q k d bl rd ex lg ce de ++ wM q2 k2 d bl rd mp kp fl) H) (hD : va_D (fun x : Nat => s.heap.size ≤ x) (wX q k d bl rd ex lg ce de ++ wM q2 k2 d bl rd mp kp fl)) (hS : va_S (fun x : Nat => s.heap.size ≤ x) s.heap H locs) (hl : lv_has ls 4 [(3, .int (nI (i))), (2, .ref (q2 0)), (1, .ref (q 0)), (0, .ref b)]) (KK : ∀ (rd : Int32) (ex lg ce de mp kp fl : Nat → Int32) (H : Heap) (locs : List Loc), rel d bl rd ex lg ce de mp kp fl → va_P D classes (wX q k d bl rd ex lg ce de ++ wM q2 k2 d bl rd mp kp fl) H → va_D (fun x : Nat => s.heap.size ≤ x) (wX q k d bl rd ex lg ce de ++ wM q2 k2 d bl rd mp kp fl) → va_S (fun x : Nat => s.heap.size ≤ x) s.heap H locs → W p l e room_1 s m args below meth c H locs 9 3383 Q (F0 m 356 ls [])) : W p l e room_1 s m args below meth c H locs 9 3383 Q (F0 m 218 ls []) := by
  refine lv_aload_n C.1 C.2.1 d_L_law_218 rfl (lv_at hl 2 rfl) ?_
  refine lv_aload_n C.1 C.2.1 d_L_law_219 rfl (lv_at hl 3 rfl) ?_
  refine lv_iload_n C.1 C.2.1 d_L_law_220 rfl (lv_at hl 0 rfl) ?_
  refine lv_iconst (v := nI 1) C.1 C.2.1 d_L_law_221 (by decide) ?_
  refine lv_iadd C.1 C.2.1 d_L_law_222 ?_
  refine lv_eq (nI_add _ _) ?_
  refine sl_n C hX hb hS (j := i + 1) (by omega) hL d_L_law_223 ?_
  refine lv_aload_n C.1 C.2.1 d_L_law_224 rfl (lv_at hl 3 rfl) ?_
  refine lv_iload_n C.1 C.2.1 d_L_law_225 rfl (lv_at hl 0 rfl) ?_
  refine lv_iconst (v := nI 2) C.1 C.2.1 d_L_law_226 (by decide) ?_
  refine lv_iadd C.1 C.2.1 d_L_law_227 ?_
  refine lv_eq (nI_add _ _) ?_
  refine sl_n C hX hb hS (j := i + 2) (by omega) hL d_L_law_228 ?_
  refine lv_aload_n C.1 C.2.1 d_L_law_229 rfl (lv_at hl 3 rfl) ?_
  refine lv_iload_n C.1 C.2.1 d_L_law_230 rfl (lv_at hl 0 rfl) ?_
  refine lv_iconst (v := nI 3) C.1 C.2.1 d_L_law_231 (by decide) ?_
  refine lv_iadd C.1 C.2.1 d_L_law_232 ?_
  refine lv_eq (nI_add _ _) ?_
  refine sl_n C hX hb hS (j := i + 3) (by omega) hL d_L_law_233 ?_
  refine wrI.call (S := Nat → Int32) (wr := wM q2 k2 d bl rd mp kp fl) (nA := 3) (ci := 0) (cq := (R_X, F_X, 7)) (c_X_smash l D q k d bl rd ex lg ce de (xs (i + 1)) (xs (i + 2)) (xs (i + 3)) H.size hd hbl) C hKx hP hD hS (fun _ h => h) [0, 1, 2, 3, 4] [5, 6, 7, 8] rfl rfl (by decide) rfl (by decide) (by decide) g_L_X_smash rfl rfl (by decide +kernel) rfl (by decide) ⟨Nat.le_of_ble_eq_true rfl, Nat.le_of_ble_eq_true rfl⟩ ⟨Nat.le_of_ble_eq_true rfl, Nat.le_of_ble_eq_true rfl⟩ hl.1 (Nat.le_of_ble_eq_true rfl) d_L_law_234 rfl (fun r c2 H locs hp hK2 hP hD hS => ?_)
  have hP : va_P D classes (wX q k d bl rd ex lg c2 de ++ wM q2 k2 d bl rd mp kp fl) H := hP.sub [4, 5, 6, 7, 8, 0, 1, 2, 3] rfl
  have hD : va_D (fun x : Nat => s.heap.size ≤ x) (wX q k d bl rd ex lg c2 de ++ wM q2 k2 d bl rd mp kp fl) := hD.sub [4, 5, 6, 7, 8, 0, 1, 2, 3] (by decide) rfl
  refine lv_aload_n C.1 C.2.1 d_L_law_237 rfl (lv_at hl 1 rfl) ?_
  refine lv_aload_n C.1 C.2.1 d_L_law_238 rfl (lv_at hl 3 rfl) ?_
  refine lv_iload_n C.1 C.2.1 d_L_law_239 rfl (lv_at hl 0 rfl) ?_
  refine lv_iconst (v := nI 1) C.1 C.2.1 d_L_law_240 (by decide) ?_
  refine lv_iadd C.1 C.2.1 d_L_law_241 ?_
  refine lv_eq (nI_add _ _) ?_
  refine sl_n C hX hb hS (j := i + 1) (by omega) hL d_L_law_242 ?_
  refine lv_aload_n C.1 C.2.1 d_L_law_243 rfl (lv_at hl 3 rfl) ?_
  refine lv_iload_n C.1 C.2.1 d_L_law_244 rfl (lv_at hl 0 rfl) ?_
  refine lv_iconst (v := nI 2) C.1 C.2.1 d_L_law_245 (by decide) ?_
  refine lv_iadd C.1 C.2.1 d_L_law_246 ?_
  refine lv_eq (nI_add _ _) ?_
  refine sl_n C hX hb hS (j := i + 2) (by omega) hL d_L_law_247 ?_
  refine lv_aload_n C.1 C.2.1 d_L_law_248 rfl (lv_at hl 3 rfl) ?_
  refine lv_iload_n C.1 C.2.1 d_L_law_249 rfl (lv_at hl 0 rfl) ?_
  refine lv_iconst (v := nI 3) C.1 C.2.1 d_L_law_250 (by decide) ?_
  refine lv_iadd C.1 C.2.1 d_L_law_251 ?_
  refine lv_eq (nI_add _ _) ?_
  refine sl_n C hX hb hS (j := i + 3) (by omega) hL d_L_law_252 ?_
  refine wrI.call (S := Nat → Int32) (wr := wX q k d bl rd ex lg c2 de) (nA := 3) (ci := 1) (cq := (R_M, F_M, 6)) (c_M_smash l D q2 k2 d bl rd mp kp fl (xs (i + 1)) (xs (i + 2)) (xs (i + 3)) H.size hd hbl) C hKm hP hD hS (fun _ h => h) [5, 6, 7, 8] [0, 1, 2, 3, 4] rfl rfl (by decide) rfl (by decide) (by decide) g_L_M_smash rfl rfl (by decide +kernel) rfl (by decide) ⟨Nat.le_of_ble_eq_true rfl, Nat.le_of_ble_eq_true rfl⟩ ⟨Nat.le_of_ble_eq_true rfl, Nat.le_of_ble_eq_true rfl⟩ hl.1 (Nat.le_of_ble_eq_true rfl) d_L_law_253 rfl (fun r2 f2 H locs hp2 hK3 hP hD hS => ?_)
  have hP : va_P D classes (wX q k d bl rd ex lg c2 de ++ wM q2 k2 d bl rd mp f2 fl) H := hP
  have hD : va_D (fun x : Nat => s.heap.size ≤ x) (wX q k d bl rd ex lg c2 de ++ wM q2 k2 d bl rd mp f2 fl) := hD
  refine lv_icmp_eq (tgt := 356) C.1 C.2.1 d_L_law_256 (by decide) (fun h => ?_) (fun h => ?_)
  · refine KK rd ex lg c2 de mp f2 fl H locs ?_ hP hD hS
    rcases hp with ⟨ho, g0, -, rfl⟩ | ⟨ho, -, rfl⟩ <;> rcases hp2 with ⟨ho2, k0, -, rfl⟩ | ⟨ho2, -, rfl⟩
    · have hin := ok_in (by omega) (by omega) ho
      exact rel_smash hbl hrel ho.1 hin.1 hin.2 g0
    · exact absurd ⟨ho, by rw [← hrel.de (by have := ok_in (by omega) (by omega) ho; omega)]; exact g0⟩ ho2
    · exact absurd ⟨ho2, by rw [hrel.de (by have := ok_in (by omega) (by omega) ho2; omega)]; exact k0⟩ ho
    · exact hrel
  · exfalso
    rcases hp with ⟨ho, g0, e1, -⟩ | ⟨ho, e1, -⟩ <;> rcases hp2 with ⟨ho2, k0, e2, -⟩ | ⟨ho2, e2, -⟩
    · exact h (e1.trans e2.symm)
    · exact ho2 ⟨ho, by rw [← hrel.de (by have := ok_in (by omega) (by omega) ho; omega)]; exact g0⟩
    · exact ho ⟨ho2, by rw [hrel.de (by have := ok_in (by omega) (by omega) ho2; omega)]; exact k0⟩
    · exact h (e1.trans e2.symm)

set_option maxHeartbeats 4000000 in
set_option maxRecDepth 100000 in
theorem lw_k5 (C : CallFix p m c code 4 s args tb "TwoLostLaw") (hX : va_X b L xs s s.heap) (hb : b < s.heap.size) (hL : L ≤ 2050) (hi : i + 4 ≤ L) (hd1 : 1 ≤ d) (hd : d ≤ 20) (hbl : bl ≤ 40) (hKx : va_K D classes (kX k) s) (hKm : va_K D classes (kM k2) s) (hrel : rel d bl rd ex lg ce de mp kp fl) (hP : va_P D classes (wX q k d bl rd ex lg ce de ++ wM q2 k2 d bl rd mp kp fl) H) (hD : va_D (fun x : Nat => s.heap.size ≤ x) (wX q k d bl rd ex lg ce de ++ wM q2 k2 d bl rd mp kp fl)) (hS : va_S (fun x : Nat => s.heap.size ≤ x) s.heap H locs) (hl : lv_has ls 4 [(3, .int (nI (i))), (2, .ref (q2 0)), (1, .ref (q 0)), (0, .ref b)]) (KK : ∀ (rd : Int32) (ex lg ce de mp kp fl : Nat → Int32) (H : Heap) (locs : List Loc), rel d bl rd ex lg ce de mp kp fl → va_P D classes (wX q k d bl rd ex lg ce de ++ wM q2 k2 d bl rd mp kp fl) H → va_D (fun x : Nat => s.heap.size ≤ x) (wX q k d bl rd ex lg ce de ++ wM q2 k2 d bl rd mp kp fl) → va_S (fun x : Nat => s.heap.size ≤ x) s.heap H locs → W p l e room_1 s m args below meth c H locs 9 3383 Q (F0 m 356 ls [])) : W p l e room_1 s m args below meth c H locs 9 3383 Q (F0 m 261 ls []) := by
  refine lv_aload_n C.1 C.2.1 d_L_law_261 rfl (lv_at hl 2 rfl) ?_
  refine lv_aload_n C.1 C.2.1 d_L_law_262 rfl (lv_at hl 3 rfl) ?_
  refine lv_iload_n C.1 C.2.1 d_L_law_263 rfl (lv_at hl 0 rfl) ?_
  refine lv_iconst (v := nI 1) C.1 C.2.1 d_L_law_264 (by decide) ?_
  refine lv_iadd C.1 C.2.1 d_L_law_265 ?_
  refine lv_eq (nI_add _ _) ?_
  refine sl_n C hX hb hS (j := i + 1) (by omega) hL d_L_law_266 ?_
  refine lv_aload_n C.1 C.2.1 d_L_law_267 rfl (lv_at hl 3 rfl) ?_
  refine lv_iload_n C.1 C.2.1 d_L_law_268 rfl (lv_at hl 0 rfl) ?_
  refine lv_iconst (v := nI 2) C.1 C.2.1 d_L_law_269 (by decide) ?_
  refine lv_iadd C.1 C.2.1 d_L_law_270 ?_
  refine lv_eq (nI_add _ _) ?_
  refine sl_n C hX hb hS (j := i + 2) (by omega) hL d_L_law_271 ?_
  refine k_L_X_raw C hKx (hP.sub (ws' := wX q k d bl rd ex lg ce de) [0, 1, 2, 3, 4] rfl) hd hbl ⟨Nat.le_of_ble_eq_true rfl, Nat.le_of_ble_eq_true rfl⟩ ⟨Nat.le_of_ble_eq_true rfl, Nat.le_of_ble_eq_true rfl⟩ hl.1 (Nat.le_of_ble_eq_true rfl) d_L_law_272 ?_
  refine lv_aload_n C.1 C.2.1 d_L_law_275 rfl (lv_at hl 1 rfl) ?_
  refine lv_aload_n C.1 C.2.1 d_L_law_276 rfl (lv_at hl 3 rfl) ?_
  refine lv_iload_n C.1 C.2.1 d_L_law_277 rfl (lv_at hl 0 rfl) ?_
  refine lv_iconst (v := nI 1) C.1 C.2.1 d_L_law_278 (by decide) ?_
  refine lv_iadd C.1 C.2.1 d_L_law_279 ?_
  refine lv_eq (nI_add _ _) ?_
  refine sl_n C hX hb hS (j := i + 1) (by omega) hL d_L_law_280 ?_
  refine lv_aload_n C.1 C.2.1 d_L_law_281 rfl (lv_at hl 3 rfl) ?_
  refine lv_iload_n C.1 C.2.1 d_L_law_282 rfl (lv_at hl 0 rfl) ?_
  refine lv_iconst (v := nI 2) C.1 C.2.1 d_L_law_283 (by decide) ?_
  refine lv_iadd C.1 C.2.1 d_L_law_284 ?_
  refine lv_eq (nI_add _ _) ?_
  refine sl_n C hX hb hS (j := i + 2) (by omega) hL d_L_law_285 ?_
  refine k_L_M_raw C hKm (hP.sub (ws' := wM q2 k2 d bl rd mp kp fl) [5, 6, 7, 8] rfl) hd1 hd hbl ⟨Nat.le_of_ble_eq_true rfl, Nat.le_of_ble_eq_true rfl⟩ ⟨Nat.le_of_ble_eq_true rfl, Nat.le_of_ble_eq_true rfl⟩ hl.1 (Nat.le_of_ble_eq_true rfl) d_L_law_286 ?_
  refine lv_icmp_eq (tgt := 356) C.1 C.2.1 d_L_law_289 (by decide) (fun h => ?_) (fun h => absurd (rel_raw hd hbl hrel) h)
  exact KK rd ex lg ce de mp kp fl H locs hrel hP hD hS

set_option maxHeartbeats 4000000 in
set_option maxRecDepth 100000 in
theorem lw_k6 (C : CallFix p m c code 4 s args tb "TwoLostLaw") (hX : va_X b L xs s s.heap) (hb : b < s.heap.size) (hL : L ≤ 2050) (hi : i + 4 ≤ L) (hd1 : 1 ≤ d) (hd : d ≤ 20) (hbl : bl ≤ 40) (hKx : va_K D classes (kX k) s) (hKm : va_K D classes (kM k2) s) (hrel : rel d bl rd ex lg ce de mp kp fl) (hP : va_P D classes (wX q k d bl rd ex lg ce de ++ wM q2 k2 d bl rd mp kp fl) H) (hD : va_D (fun x : Nat => s.heap.size ≤ x) (wX q k d bl rd ex lg ce de ++ wM q2 k2 d bl rd mp kp fl)) (hS : va_S (fun x : Nat => s.heap.size ≤ x) s.heap H locs) (hl : lv_has ls 4 [(3, .int (nI (i))), (2, .ref (q2 0)), (1, .ref (q 0)), (0, .ref b)]) (KK : ∀ (rd : Int32) (ex lg ce de mp kp fl : Nat → Int32) (H : Heap) (locs : List Loc), rel d bl rd ex lg ce de mp kp fl → va_P D classes (wX q k d bl rd ex lg ce de ++ wM q2 k2 d bl rd mp kp fl) H → va_D (fun x : Nat => s.heap.size ≤ x) (wX q k d bl rd ex lg ce de ++ wM q2 k2 d bl rd mp kp fl) → va_S (fun x : Nat => s.heap.size ≤ x) s.heap H locs → W p l e room_1 s m args below meth c H locs 9 3383 Q (F0 m 356 ls [])) : W p l e room_1 s m args below meth c H locs 9 3383 Q (F0 m 294 ls []) := by
  refine lv_aload_n C.1 C.2.1 d_L_law_294 rfl (lv_at hl 2 rfl) ?_
  refine wrI.call (S := (Nat → Int32) × (Nat → Int32)) (wr := wM q2 k2 d bl rd mp kp fl) (nA := 0) (ci := 0) (cq := (R_X, F_X, 7)) (c_X_rebuild l D q k d bl rd ex lg ce de mp H.size hrel.hI hd hbl) C hKx hP hD hS (fun _ h => h) [0, 1, 2, 3, 4] [5, 6, 7, 8] rfl rfl (by decide) rfl (by decide) (by decide) g_L_X_rebuild rfl rfl (by decide +kernel) rfl (by decide) ⟨Nat.le_of_ble_eq_true rfl, Nat.le_of_ble_eq_true rfl⟩ ⟨Nat.le_of_ble_eq_true rfl, Nat.le_of_ble_eq_true rfl⟩ hl.1 (Nat.le_of_ble_eq_true rfl) d_L_law_295 rfl (fun r u H locs hp hK2 hP hD hS => ?_)
  have hP : va_P D classes (wX q k d bl rd ex lg u.1 u.2 ++ wM q2 k2 d bl rd mp kp fl) H := hP.sub [4, 5, 6, 7, 8, 0, 1, 2, 3] rfl
  have hD : va_D (fun x : Nat => s.heap.size ≤ x) (wX q k d bl rd ex lg u.1 u.2 ++ wM q2 k2 d bl rd mp kp fl) := hD.sub [4, 5, 6, 7, 8, 0, 1, 2, 3] (by decide) rfl
  refine lv_aload_n C.1 C.2.1 d_L_law_298 rfl (lv_at hl 1 rfl) ?_
  refine wrI.call (S := Nat → Int32) (wr := wX q k d bl rd ex lg u.1 u.2) (nA := 0) (ci := 1) (cq := (R_M, F_M, 6)) (c_M_rebuild l D q2 k2 d bl rd mp kp fl H.size) C hKm hP hD hS (fun _ h => h) [5, 6, 7, 8] [0, 1, 2, 3, 4] rfl rfl (by decide) rfl (by decide) (by decide) g_L_M_rebuild rfl rfl (by decide +kernel) rfl (by decide) ⟨Nat.le_of_ble_eq_true rfl, Nat.le_of_ble_eq_true rfl⟩ ⟨Nat.le_of_ble_eq_true rfl, Nat.le_of_ble_eq_true rfl⟩ hl.1 (Nat.le_of_ble_eq_true rfl) d_L_law_299 rfl (fun r2 f2 H locs hp2 hK3 hP hD hS => ?_)
  have hP : va_P D classes (wX q k d bl rd ex lg u.1 u.2 ++ wM q2 k2 d bl rd mp kp f2) H := hP
  have hD : va_D (fun x : Nat => s.heap.size ≤ x) (wX q k d bl rd ex lg u.1 u.2 ++ wM q2 k2 d bl rd mp kp f2) := hD
  refine lv_icmp_eq (tgt := 356) C.1 C.2.1 d_L_law_302 (by decide) (fun h => ?_) (fun h => ?_)
  · refine KK rd ex lg u.1 u.2 mp kp f2 H locs ?_ hP hD hS
    rcases hp with ⟨hz, -, e1, e2⟩ | ⟨h1, -, -, g1, g2, g3⟩
    · rw [e1, e2]; exact (rel_reb0 hd hrel hz hp2.2).1
    · exact rel_reb1 hd hrel h1 g1 g2 g3 hp2.2
  · refine absurd ?_ h
    rcases hp with ⟨hz, e0, -, -⟩ | ⟨h1, -, e0, -⟩
    · rw [e0, hp2.1, (rel_reb0 hd hrel hz hp2.2).2]
    · rw [e0, hp2.1, hrel.cnt hd]

set_option maxHeartbeats 4000000 in
set_option maxRecDepth 100000 in
theorem lw_k7 (C : CallFix p m c code 4 s args tb "TwoLostLaw") (hX : va_X b L xs s s.heap) (hb : b < s.heap.size) (hL : L ≤ 2050) (hi : i + 4 ≤ L) (hd1 : 1 ≤ d) (hd : d ≤ 20) (hbl : bl ≤ 40) (hKx : va_K D classes (kX k) s) (hKm : va_K D classes (kM k2) s) (hrel : rel d bl rd ex lg ce de mp kp fl) (hP : va_P D classes (wX q k d bl rd ex lg ce de ++ wM q2 k2 d bl rd mp kp fl) H) (hD : va_D (fun x : Nat => s.heap.size ≤ x) (wX q k d bl rd ex lg ce de ++ wM q2 k2 d bl rd mp kp fl)) (hS : va_S (fun x : Nat => s.heap.size ≤ x) s.heap H locs) (hl : lv_has ls 4 [(3, .int (nI (i))), (2, .ref (q2 0)), (1, .ref (q 0)), (0, .ref b)]) (KK : ∀ (rd : Int32) (ex lg ce de mp kp fl : Nat → Int32) (H : Heap) (locs : List Loc), rel d bl rd ex lg ce de mp kp fl → va_P D classes (wX q k d bl rd ex lg ce de ++ wM q2 k2 d bl rd mp kp fl) H → va_D (fun x : Nat => s.heap.size ≤ x) (wX q k d bl rd ex lg ce de ++ wM q2 k2 d bl rd mp kp fl) → va_S (fun x : Nat => s.heap.size ≤ x) s.heap H locs → W p l e room_1 s m args below meth c H locs 9 3383 Q (F0 m 356 ls [])) : W p l e room_1 s m args below meth c H locs 9 3383 Q (F0 m 307 ls []) := by
  refine lv_aload_n C.1 C.2.1 d_L_law_307 rfl (lv_at hl 2 rfl) ?_
  refine lv_aload_n C.1 C.2.1 d_L_law_308 rfl (lv_at hl 3 rfl) ?_
  refine lv_iload_n C.1 C.2.1 d_L_law_309 rfl (lv_at hl 0 rfl) ?_
  refine lv_iconst (v := nI 1) C.1 C.2.1 d_L_law_310 (by decide) ?_
  refine lv_iadd C.1 C.2.1 d_L_law_311 ?_
  refine lv_eq (nI_add _ _) ?_
  refine sl_n C hX hb hS (j := i + 1) (by omega) hL d_L_law_312 ?_
  refine k_L_X_alive C hKx (hP.sub (ws' := wX q k d bl rd ex lg ce de) [0, 1, 2, 3, 4] rfl) hd ⟨Nat.le_of_ble_eq_true rfl, Nat.le_of_ble_eq_true rfl⟩ ⟨Nat.le_of_ble_eq_true rfl, Nat.le_of_ble_eq_true rfl⟩ hl.1 (Nat.le_of_ble_eq_true rfl) d_L_law_313 ?_
  refine lv_aload_n C.1 C.2.1 d_L_law_316 rfl (lv_at hl 1 rfl) ?_
  refine lv_aload_n C.1 C.2.1 d_L_law_317 rfl (lv_at hl 3 rfl) ?_
  refine lv_iload_n C.1 C.2.1 d_L_law_318 rfl (lv_at hl 0 rfl) ?_
  refine lv_iconst (v := nI 1) C.1 C.2.1 d_L_law_319 (by decide) ?_
  refine lv_iadd C.1 C.2.1 d_L_law_320 ?_
  refine lv_eq (nI_add _ _) ?_
  refine sl_n C hX hb hS (j := i + 1) (by omega) hL d_L_law_321 ?_
  refine k_L_M_alive C hKm (hP.sub (ws' := wM q2 k2 d bl rd mp kp fl) [5, 6, 7, 8] rfl) hd ⟨Nat.le_of_ble_eq_true rfl, Nat.le_of_ble_eq_true rfl⟩ ⟨Nat.le_of_ble_eq_true rfl, Nat.le_of_ble_eq_true rfl⟩ hl.1 (Nat.le_of_ble_eq_true rfl) d_L_law_322 ?_
  refine lv_icmp_eq (tgt := 356) C.1 C.2.1 d_L_law_325 (by decide) (fun h => ?_) (fun h => absurd (rel_alive hd hrel) h)
  exact KK rd ex lg ce de mp kp fl H locs hrel hP hD hS

set_option maxHeartbeats 4000000 in
set_option maxRecDepth 100000 in
theorem lw_k8 (C : CallFix p m c code 4 s args tb "TwoLostLaw") (hX : va_X b L xs s s.heap) (hb : b < s.heap.size) (hL : L ≤ 2050) (hi : i + 4 ≤ L) (hd1 : 1 ≤ d) (hd : d ≤ 20) (hbl : bl ≤ 40) (hKx : va_K D classes (kX k) s) (hKm : va_K D classes (kM k2) s) (hrel : rel d bl rd ex lg ce de mp kp fl) (hP : va_P D classes (wX q k d bl rd ex lg ce de ++ wM q2 k2 d bl rd mp kp fl) H) (hD : va_D (fun x : Nat => s.heap.size ≤ x) (wX q k d bl rd ex lg ce de ++ wM q2 k2 d bl rd mp kp fl)) (hS : va_S (fun x : Nat => s.heap.size ≤ x) s.heap H locs) (hl : lv_has ls 4 [(3, .int (nI (i))), (2, .ref (q2 0)), (1, .ref (q 0)), (0, .ref b)]) (KK : ∀ (rd : Int32) (ex lg ce de mp kp fl : Nat → Int32) (H : Heap) (locs : List Loc), rel d bl rd ex lg ce de mp kp fl → va_P D classes (wX q k d bl rd ex lg ce de ++ wM q2 k2 d bl rd mp kp fl) H → va_D (fun x : Nat => s.heap.size ≤ x) (wX q k d bl rd ex lg ce de ++ wM q2 k2 d bl rd mp kp fl) → va_S (fun x : Nat => s.heap.size ≤ x) s.heap H locs → W p l e room_1 s m args below meth c H locs 9 3383 Q (F0 m 356 ls [])) : W p l e room_1 s m args below meth c H locs 9 3383 Q (F0 m 330 ls []) := by
  refine lv_aload_n C.1 C.2.1 d_L_law_330 rfl (lv_at hl 2 rfl) ?_
  refine k_L_X_scrub C hKx (hP.sub (ws' := wX q k d bl rd ex lg ce de) [0, 1, 2, 3, 4] rfl) hrel.hI hd hbl ⟨Nat.le_of_ble_eq_true rfl, Nat.le_of_ble_eq_true rfl⟩ ⟨Nat.le_of_ble_eq_true rfl, Nat.le_of_ble_eq_true rfl⟩ hl.1 (Nat.le_of_ble_eq_true rfl) d_L_law_331 ?_
  refine lv_aload_n C.1 C.2.1 d_L_law_334 rfl (lv_at hl 1 rfl) ?_
  refine k_L_M_scrub C hKm (hP.sub (ws' := wM q2 k2 d bl rd mp kp fl) [5, 6, 7, 8] rfl) hd1 hd hbl ⟨Nat.le_of_ble_eq_true rfl, Nat.le_of_ble_eq_true rfl⟩ ⟨Nat.le_of_ble_eq_true rfl, Nat.le_of_ble_eq_true rfl⟩ hl.1 (Nat.le_of_ble_eq_true rfl) d_L_law_335 ?_
  refine lv_icmp_eq (tgt := 356) C.1 C.2.1 d_L_law_338 (by decide) (fun h => ?_) (fun h => absurd (rfl) h)
  exact KK rd ex lg ce de mp kp fl H locs hrel hP hD hS

set_option maxHeartbeats 4000000 in
set_option maxRecDepth 100000 in
theorem lw_k9 (C : CallFix p m c code 4 s args tb "TwoLostLaw") (hX : va_X b L xs s s.heap) (hb : b < s.heap.size) (hL : L ≤ 2050) (hi : i + 4 ≤ L) (hd1 : 1 ≤ d) (hd : d ≤ 20) (hbl : bl ≤ 40) (hKx : va_K D classes (kX k) s) (hKm : va_K D classes (kM k2) s) (hrel : rel d bl rd ex lg ce de mp kp fl) (hP : va_P D classes (wX q k d bl rd ex lg ce de ++ wM q2 k2 d bl rd mp kp fl) H) (hD : va_D (fun x : Nat => s.heap.size ≤ x) (wX q k d bl rd ex lg ce de ++ wM q2 k2 d bl rd mp kp fl)) (hS : va_S (fun x : Nat => s.heap.size ≤ x) s.heap H locs) (hl : lv_has ls 4 [(3, .int (nI (i))), (2, .ref (q2 0)), (1, .ref (q 0)), (0, .ref b)]) (KK : ∀ (rd : Int32) (ex lg ce de mp kp fl : Nat → Int32) (H : Heap) (locs : List Loc), rel d bl rd ex lg ce de mp kp fl → va_P D classes (wX q k d bl rd ex lg ce de ++ wM q2 k2 d bl rd mp kp fl) H → va_D (fun x : Nat => s.heap.size ≤ x) (wX q k d bl rd ex lg ce de ++ wM q2 k2 d bl rd mp kp fl) → va_S (fun x : Nat => s.heap.size ≤ x) s.heap H locs → W p l e room_1 s m args below meth c H locs 9 3383 Q (F0 m 356 ls [])) : W p l e room_1 s m args below meth c H locs 9 3383 Q (F0 m 343 ls []) := by
  refine lv_aload_n C.1 C.2.1 d_L_law_343 rfl (lv_at hl 2 rfl) ?_
  refine k_L_X_lost C hKx (hP.sub (ws' := wX q k d bl rd ex lg ce de) [0, 1, 2, 3, 4] rfl) hd ⟨Nat.le_of_ble_eq_true rfl, Nat.le_of_ble_eq_true rfl⟩ ⟨Nat.le_of_ble_eq_true rfl, Nat.le_of_ble_eq_true rfl⟩ hl.1 (Nat.le_of_ble_eq_true rfl) d_L_law_344 ?_
  refine lv_aload_n C.1 C.2.1 d_L_law_347 rfl (lv_at hl 1 rfl) ?_
  refine k_L_M_lost C hKm (hP.sub (ws' := wM q2 k2 d bl rd mp kp fl) [5, 6, 7, 8] rfl) ⟨Nat.le_of_ble_eq_true rfl, Nat.le_of_ble_eq_true rfl⟩ ⟨Nat.le_of_ble_eq_true rfl, Nat.le_of_ble_eq_true rfl⟩ hl.1 (Nat.le_of_ble_eq_true rfl) d_L_law_348 ?_
  refine lv_icmp_eq (tgt := 356) C.1 C.2.1 d_L_law_351 (by decide) (fun h => ?_) (fun h => absurd (by rw [hrel.cnt hd]) h)
  exact KK rd ex lg ce de mp kp fl H locs hrel hP hD hS

end L2
end
section
/-! PART 17: the law's loop, its start (printed by gen_end.py); then the end of the skeleton (starting text) -/

set_option maxHeartbeats 4000000 in
set_option maxRecDepth 100000 in
/-- the law's loop -/
theorem law_loop {p : Program} {l : Launch} {e : Env} {s : State} {m : MethodId} {below : List Frame} {meth : Method} {c : Code} {D : va_G} {q k q2 k2 : Nat → Nat} {d bl b L : Nat} {xs : Nat → Int32} (C : CallFix p m c code 4 s #[Value.ref b] tb "TwoLostLaw") (hr : meth.sig.returnType = ret) (hlk : meth.locks = false) (hX : va_X b L xs s s.heap) (hb : b < s.heap.size) (hL : L ≤ 2050) (hd1 : 1 ≤ d) (hd : d ≤ 20) (hbl : bl ≤ 40) (hKx : va_K D classes (kX k) s) (hKm : va_K D classes (kM k2) s) :
    ∀ (n i : Nat) (rd : Int32) (ex lg ce de mp kp fl : Nat → Int32) (H : Heap) (locs : List Loc), i ≤ L + 2 → L + 3 ≤ i + n → rel d bl rd ex lg ce de mp kp fl → va_P D classes (wX q k d bl rd ex lg ce de ++ wM q2 k2 d bl rd mp kp fl) H → va_D (fun x : Nat => s.heap.size ≤ x) (wX q k d bl rd ex lg ce de ++ wM q2 k2 d bl rd mp kp fl) → va_S (fun x : Nat => s.heap.size ≤ x) s.heap H locs → ∀ ls, lv_has ls 4 [(3, .int (nI (i))), (2, .ref (q2 0)), (1, .ref (q 0)), (0, .ref b)] → W p l e room_1 s m #[Value.ref b] below meth c H locs 9 3383 (lw_Z below #[Value.ref b] s) (F0 m 38 ls []) := by
  intro n
  induction n with
  | zero => intro i rd ex lg ce de mp kp fl H locs h1 h2; exact absurd h2 (by omega)
  | succ n ih =>
    intro i rd ex lg ce de mp kp fl H locs hi0 hin hrel hP hD hS ls hl
    refine lv_iload_n C.1 C.2.1 d_L_law_38 rfl (lv_at hl 0 rfl) ?_
    refine lv_aload_n C.1 C.2.1 d_L_law_39 rfl (lv_at hl 3 rfl) ?_
    refine va_slen C.1 C.2.1 hX hb (Nat.not_le.mpr hb) hS d_L_law_40 ?_
    refine lv_eq (y := nI L) rfl ?_
    refine lv_iconst (v := nI 4) C.1 C.2.1 d_L_law_41 (by decide) ?_
    refine lv_isub C.1 C.2.1 d_L_law_42 ?_
    refine lv_icmp_gt (tgt := 362) C.1 C.2.1 d_L_law_43 (by decide) (fun h43 => ?_) (fun h43 => ?_)
    · refine lv_iconst (v := 1) C.1 C.2.1 d_L_law_362 (by decide) ?_
      refine va_forget (fun x hx => hS.2.2 x hx) ?_
      exact lw_ret C.1 C.2.1 hr hlk d_L_law_363
    · have hi : i + 4 ≤ L := by
        rw [Int32.lt_iff_toInt_lt, pk_sub_toInt (by omega) (by omega), nI_toInt (by omega)] at h43
        omega
      have KK : ∀ (rd : Int32) (ex lg ce de mp kp fl : Nat → Int32) (H : Heap) (locs : List Loc), rel d bl rd ex lg ce de mp kp fl → va_P D classes (wX q k d bl rd ex lg ce de ++ wM q2 k2 d bl rd mp kp fl) H → va_D (fun x : Nat => s.heap.size ≤ x) (wX q k d bl rd ex lg ce de ++ wM q2 k2 d bl rd mp kp fl) → va_S (fun x : Nat => s.heap.size ≤ x) s.heap H locs → W p l e room_1 s m #[Value.ref b] below meth c H locs 9 3383 (lw_Z below #[Value.ref b] s) (F0 m 356 ls []) := by
        intro rd ex lg ce de mp kp fl H locs hrel hP hD hS
        refine lv_iinc (v := nI (i + 4)) (lv' := [(3, .int (nI (i + 4))), (2, .ref (q2 0)), (1, .ref (q 0)), (0, .ref b)]) C.1 C.2.1 d_L_law_356 hl (k := 0) rfl (by exact nI_add _ _) (by decide) rfl (fun ls hl => ?_)
        refine lv_goto (tgt := 38) C.1 C.2.1 d_L_law_359 (by decide) ?_
        exact ih (i + 4) rd ex lg ce de mp kp fl H locs (by omega) (by omega) hrel hP hD hS ls hl
      refine lv_aload_n C.1 C.2.1 d_L_law_46 rfl (lv_at hl 3 rfl) ?_
      refine lv_iload_n C.1 C.2.1 d_L_law_47 rfl (lv_at hl 0 rfl) ?_
      refine sl_n C hX hb hS (j := i) (by omega) hL d_L_law_48 ?_
      refine lv_bipush (v := nI 15) C.1 C.2.1 d_L_law_49 (by decide) ?_
      obtain ⟨jj, hjj, ejj⟩ := pk_andE (xs i) (m := nI 15) 4 (by decide)
      refine lv_iand C.1 C.2.1 d_L_law_51 ?_
      refine lv_eq (y := nI (jj)) (ejj) ?_
      have hc : jj = 0 ∨ jj = 1 ∨ jj = 2 ∨ jj = 3 ∨ jj = 4 ∨ jj = 5 ∨ jj = 6 ∨ jj = 7 ∨ jj = 8 ∨ jj = 9 ∨ 10 ≤ jj := by omega
      rcases hc with rfl | rfl | rfl | rfl | rfl | rfl | rfl | rfl | rfl | rfl | hc
      · refine lv_tableIn (off := 56) (tgt := 108) C.1 C.2.1 d_L_law_52 (by decide +kernel) (by decide +kernel) (by decide +kernel) (by decide) ?_
        exact lw_k0 C hX hb hL hi hd1 hd hbl hKx hKm hrel hP hD hS hl KK
      · refine lv_tableIn (off := 67) (tgt := 119) C.1 C.2.1 d_L_law_52 (by decide +kernel) (by decide +kernel) (by decide +kernel) (by decide) ?_
        exact lw_k1 C hX hb hL hi hd1 hd hbl hKx hKm hrel hP hD hS hl KK
      · refine lv_tableIn (off := 110) (tgt := 162) C.1 C.2.1 d_L_law_52 (by decide +kernel) (by decide +kernel) (by decide +kernel) (by decide) ?_
        exact lw_k2 C hX hb hL hi hd1 hd hbl hKx hKm hrel hP hD hS hl KK
      · refine lv_tableIn (off := 143) (tgt := 195) C.1 C.2.1 d_L_law_52 (by decide +kernel) (by decide +kernel) (by decide +kernel) (by decide) ?_
        exact lw_k3 C hX hb hL hi hd1 hd hbl hKx hKm hrel hP hD hS hl KK
      · refine lv_tableIn (off := 166) (tgt := 218) C.1 C.2.1 d_L_law_52 (by decide +kernel) (by decide +kernel) (by decide +kernel) (by decide) ?_
        exact lw_k4 C hX hb hL hi hd1 hd hbl hKx hKm hrel hP hD hS hl KK
      · refine lv_tableIn (off := 209) (tgt := 261) C.1 C.2.1 d_L_law_52 (by decide +kernel) (by decide +kernel) (by decide +kernel) (by decide) ?_
        exact lw_k5 C hX hb hL hi hd1 hd hbl hKx hKm hrel hP hD hS hl KK
      · refine lv_tableIn (off := 242) (tgt := 294) C.1 C.2.1 d_L_law_52 (by decide +kernel) (by decide +kernel) (by decide +kernel) (by decide) ?_
        exact lw_k6 C hX hb hL hi hd1 hd hbl hKx hKm hrel hP hD hS hl KK
      · refine lv_tableIn (off := 255) (tgt := 307) C.1 C.2.1 d_L_law_52 (by decide +kernel) (by decide +kernel) (by decide +kernel) (by decide) ?_
        exact lw_k7 C hX hb hL hi hd1 hd hbl hKx hKm hrel hP hD hS hl KK
      · refine lv_tableIn (off := 278) (tgt := 330) C.1 C.2.1 d_L_law_52 (by decide +kernel) (by decide +kernel) (by decide +kernel) (by decide) ?_
        exact lw_k8 C hX hb hL hi hd1 hd hbl hKx hKm hrel hP hD hS hl KK
      · refine lv_tableIn (off := 291) (tgt := 343) C.1 C.2.1 d_L_law_52 (by decide +kernel) (by decide +kernel) (by decide +kernel) (by decide) ?_
        exact lw_k9 C hX hb hL hi hd1 hd hbl hKx hKm hrel hP hD hS hl KK
      · refine lv_tableOut (tgt := 356) C.1 C.2.1 d_L_law_52 (Or.inr (by rw [nI_toInt (by omega)]; omega)) (by decide) ?_
        exact KK rd ex lg ce de mp kp fl H locs hrel hP hD hS

set_option maxHeartbeats 4000000 in
set_option maxRecDepth 100000 in
/-- THE LAW, from its entry -/
theorem whole_start {p : Program} {e : Env} {s : State} {m : MethodId} {below : List Frame} {meth : Method} {c : Code} (l : Launch) {b L : Nat} {xs : Nat → Int32} (hL : L ≤ 2050) (C0 : lw_At p s m meth c b L xs) : W p l e room_1 s m #[Value.ref b] below meth c s.heap [] 0 0 (lw_Z below #[Value.ref b] s) (entryFrame m ([Value.ref b] : List Value).toArray 4) := by
  obtain ⟨hx, hbc, hr, hml, hown, hts, hX, hb, hlocks, hgv⟩ := C0
  have htb : ∀ w ∈ tb, w.before #[Value.ref b] s = true := fun w hw => hts w (tb_in hw)
  have C : CallFix p m c code 4 s #[Value.ref b] tb "TwoLostLaw" := ⟨hx, hbc, hml, hown, htb⟩
  have hA : ∀ x : Nat, s.heap.size ≤ x → (fun x : Nat => s.heap.size ≤ x) x := fun _ h => h
  obtain ⟨c0, iS0, hKn0⟩ := u_known (C := R_X) (T := F_X) (N := 7) (n := 7) htb i_X (htb _ k_4)
  obtain ⟨c1, iS1, hKn1⟩ := u_known (C := R_M) (T := F_M) (N := 6) (n := 6) htb i_M (htb _ k_128)
  obtain ⟨D, hKc⟩ : ∃ D : va_G, ∀ (k : Nat) (q : vw_C), classes[k]? = some q → u_Kn s q.1 q.2.1 q.2.2 (D.1 k) (D.2 k) := by
    refine ⟨(fun k => if k = 0 then c0 else c1, fun k => if k = 0 then iS0 else iS1), ?_⟩
    intro k q hq
    match k, hq with
    | 0, hq => cases hq; exact hKn0
    | 1, hq => cases hq; exact hKn1
    | k + 2, hq => simp [classes] at hq
  have hS : va_S (fun x : Nat => s.heap.size ≤ x) s.heap s.heap [] := va_S.rf
  have hK : va_K D classes [] s := ⟨hKc, fun k q h => by simp at h⟩
  have hP : va_P D classes [] s.heap := fun k q h => by simp at h
  have hD : va_D (fun x : Nat => s.heap.size ≤ x) [] := ⟨fun i j p q h => by simp at h, fun k q h => by simp at h⟩
  obtain ⟨u0, eu0⟩ : ∃ z : Int32, z = if 0 < L then xs 0 else 0 := ⟨_, rfl⟩
  obtain ⟨u1, eu1⟩ : ∃ z : Int32, z = if 1 < L then xs 1 else 0 := ⟨_, rfl⟩
  obtain ⟨dn, hd1, hd2, hdn⟩ := clN_ok u0 (n := 20) (by omega) (by omega)
  obtain ⟨bn, hb1, hb2, hbn⟩ := clN_ok u1 (n := 40) (by omega) (by omega)
  have hl := lv_entry ([.ref b]) (n := 4) (Nat.le_of_ble_eq_true rfl)
  rw [lg_entry_eq]
  generalize (lg_sl ([.ref b]) ++ List.replicate (4 - (lg_sl ([.ref b])).length) Slot.unset).toArray = ls at hl ⊢
  have hl : lv_has ls 4 [(0, .ref b)] := hl
  refine va_new (ci := 0) (fs := [.int 0, .int 0, .null, .null, .null, .null, .int 0]) (C := R_X) (T := F_X) (N := 7) C.1 C.2.1 htb i_X t_X t_X_ok C.2.2.2.1 (htb _ k_3) (htb _ k_4) (htb _ k_1) hK hP hD hS hA rfl (fun j hj => by rcases (show j = 0 ∨ j = 1 ∨ j = 2 ∨ j = 3 ∨ j = 4 ∨ j = 5 ∨ j = 6 by omega) with rfl | rfl | rfl | rfl | rfl | rfl | rfl <;> rfl) (Nat.le_of_ble_eq_true rfl) (Nat.le_of_ble_eq_true rfl) d_L_law_0 (fun qx H hP hD hS => ?_)
  have hP : va_P D classes ([(qx, .inr (0, [.int 0, .int 0, .null, .null, .null, .null, .int 0]))]) H := hP
  have hD : va_D (fun x : Nat => s.heap.size ≤ x) ([(qx, .inr (0, [.int 0, .int 0, .null, .null, .null, .null, .int 0]))]) := hD
  refine W.widen (k := 1) (n := 7) (Nat.le_of_ble_eq_true rfl) (Nat.le_of_ble_eq_true rfl) ?_
  refine lv_dup C.1 C.2.1 d_L_law_3 rfl ?_
  refine lv_aload_n C.1 C.2.1 d_L_law_4 rfl (lv_at hl 0 rfl) ?_
  refine lv_iconst (v := nI 0) C.1 C.2.1 d_L_law_5 (by decide) ?_
  refine k_L_cell C hX hb hS hL (by omega) ⟨Nat.le_of_ble_eq_true rfl, Nat.le_of_ble_eq_true rfl⟩ ⟨Nat.le_of_ble_eq_true rfl, Nat.le_of_ble_eq_true rfl⟩ hl.1 (Nat.le_of_ble_eq_true rfl) d_L_law_6 ?_
  refine lv_eq (y := u0) eu0.symm ?_
  refine lv_aload_n C.1 C.2.1 d_L_law_9 rfl (lv_at hl 0 rfl) ?_
  refine lv_iconst (v := nI 1) C.1 C.2.1 d_L_law_10 (by decide) ?_
  refine k_L_cell C hX hb hS hL (by omega) ⟨Nat.le_of_ble_eq_true rfl, Nat.le_of_ble_eq_true rfl⟩ ⟨Nat.le_of_ble_eq_true rfl, Nat.le_of_ble_eq_true rfl⟩ hl.1 (Nat.le_of_ble_eq_true rfl) d_L_law_11 ?_
  refine lv_eq (y := u1) eu1.symm ?_
  refine wrV.callI (S := (Nat → Nat) × (Nat → Nat)) (wr := []) (nA := 2) (c_X_ctor l D qx u0 u1 dn bn H.size hdn hbn) C hK hP hD hS hA [0] [] rfl rfl (by decide) rfl (by decide) (by decide) k_7 k_1 k_5 k_6 rfl (by decide +kernel) rfl (by decide) ⟨Nat.le_of_ble_eq_true rfl, Nat.le_of_ble_eq_true rfl⟩ ⟨Nat.le_of_ble_eq_true rfl, Nat.le_of_ble_eq_true rfl⟩ hl.1 (Nat.le_of_ble_eq_true rfl) d_L_law_14 rfl (fun z H locs hz hKx hP9 hD9 hS9 => ?_)
  obtain ⟨q, k⟩ := z
  have hz : q 0 = qx := hz
  subst hz
  have hKx : va_K D classes (kX k) s := hKx
  have hP : va_P D classes (wX q k dn bn 0 (fun _ => 0) (fun _ => 0) (fun _ => 0) (fun _ => 0)) H := hP9
  have hD : va_D (fun x : Nat => s.heap.size ≤ x) (wX q k dn bn 0 (fun _ => 0) (fun _ => 0) (fun _ => 0) (fun _ => 0)) := hD9
  have hS := hS9
  refine W.widen (k := 5) (n := 1675) (Nat.le_of_ble_eq_true rfl) (Nat.le_of_ble_eq_true rfl) ?_
  refine lv_astore_n (lv' := [(1, .ref (q 0)), (0, .ref b)]) C.1 C.2.1 d_L_law_17 rfl hl (by decide) rfl (fun ls hl => ?_)
  refine va_new (ci := 1) (fs := [.int 0, .int 0, .int 0, .null, .null, .null]) (C := R_M) (T := F_M) (N := 6) C.1 C.2.1 htb i_M t_M t_M_ok C.2.2.2.1 (htb _ k_127) (htb _ k_128) (htb _ k_2) hK hP hD hS hA rfl (fun j hj => by rcases (show j = 0 ∨ j = 1 ∨ j = 2 ∨ j = 3 ∨ j = 4 ∨ j = 5 by omega) with rfl | rfl | rfl | rfl | rfl | rfl <;> rfl) (Nat.le_of_ble_eq_true rfl) (Nat.le_of_ble_eq_true rfl) d_L_law_18 (fun qm H hP hD hS => ?_)
  have hP : va_P D classes (wX q k dn bn 0 (fun _ => 0) (fun _ => 0) (fun _ => 0) (fun _ => 0) ++ [(qm, .inr (1, [.int 0, .int 0, .int 0, .null, .null, .null]))]) H := hP
  have hD : va_D (fun x : Nat => s.heap.size ≤ x) (wX q k dn bn 0 (fun _ => 0) (fun _ => 0) (fun _ => 0) (fun _ => 0) ++ [(qm, .inr (1, [.int 0, .int 0, .int 0, .null, .null, .null]))]) := hD
  refine W.widen (k := 6) (n := 1681) (Nat.le_of_ble_eq_true rfl) (Nat.le_of_ble_eq_true rfl) ?_
  refine lv_dup C.1 C.2.1 d_L_law_21 rfl ?_
  refine lv_aload_n C.1 C.2.1 d_L_law_22 rfl (lv_at hl 1 rfl) ?_
  refine lv_iconst (v := nI 0) C.1 C.2.1 d_L_law_23 (by decide) ?_
  refine k_L_cell C hX hb hS hL (by omega) ⟨Nat.le_of_ble_eq_true rfl, Nat.le_of_ble_eq_true rfl⟩ ⟨Nat.le_of_ble_eq_true rfl, Nat.le_of_ble_eq_true rfl⟩ hl.1 (Nat.le_of_ble_eq_true rfl) d_L_law_24 ?_
  refine lv_eq (y := u0) eu0.symm ?_
  refine lv_aload_n C.1 C.2.1 d_L_law_27 rfl (lv_at hl 1 rfl) ?_
  refine lv_iconst (v := nI 1) C.1 C.2.1 d_L_law_28 (by decide) ?_
  refine k_L_cell C hX hb hS hL (by omega) ⟨Nat.le_of_ble_eq_true rfl, Nat.le_of_ble_eq_true rfl⟩ ⟨Nat.le_of_ble_eq_true rfl, Nat.le_of_ble_eq_true rfl⟩ hl.1 (Nat.le_of_ble_eq_true rfl) d_L_law_29 ?_
  refine lv_eq (y := u1) eu1.symm ?_
  refine wrV.callI (S := (Nat → Nat) × (Nat → Nat)) (wr := wX q k dn bn 0 (fun _ => 0) (fun _ => 0) (fun _ => 0) (fun _ => 0)) (nA := 2) (c_M_ctor l D qm u0 u1 dn bn H.size hdn hbn) C hK hP hD hS hA [5] [0, 1, 2, 3, 4] rfl rfl (by decide) rfl (by decide) (by decide) k_131 k_2 k_129 k_130 rfl (by decide +kernel) rfl (by decide) ⟨Nat.le_of_ble_eq_true rfl, Nat.le_of_ble_eq_true rfl⟩ ⟨Nat.le_of_ble_eq_true rfl, Nat.le_of_ble_eq_true rfl⟩ hl.1 (Nat.le_of_ble_eq_true rfl) d_L_law_32 rfl (fun z H locs hz hKm hP9 hD9 hS9 => ?_)
  obtain ⟨q2, k2⟩ := z
  have hz : q2 0 = qm := hz
  subst hz
  have hKm : va_K D classes (kM k2) s := hKm
  have hP : va_P D classes (wX q k dn bn 0 (fun _ => 0) (fun _ => 0) (fun _ => 0) (fun _ => 0) ++ wM q2 k2 dn bn 0 (fun _ => 0) (fun _ => 0) (fun _ => 0)) H := hP9
  have hD : va_D (fun x : Nat => s.heap.size ≤ x) (wX q k dn bn 0 (fun _ => 0) (fun _ => 0) (fun _ => 0) (fun _ => 0) ++ wM q2 k2 dn bn 0 (fun _ => 0) (fun _ => 0) (fun _ => 0)) := hD9
  have hS := hS9
  refine W.widen (k := 9) (n := 3383) (Nat.le_of_ble_eq_true rfl) (Nat.le_of_ble_eq_true rfl) ?_
  refine lv_astore_n (lv' := [(2, .ref (q2 0)), (1, .ref (q 0)), (0, .ref b)]) C.1 C.2.1 d_L_law_35 rfl hl (by decide) rfl (fun ls hl => ?_)
  refine lv_iconst (v := nI 2) C.1 C.2.1 d_L_law_36 (by decide) ?_
  refine lv_istore_n (lv' := [(3, .int (nI (2))), (2, .ref (q2 0)), (1, .ref (q 0)), (0, .ref b)]) C.1 C.2.1 d_L_law_37 rfl hl (by decide) rfl (fun ls hl => ?_)
  exact law_loop C hr hlocks hX hb hL hd1 hd2 hb2 hKx hKm (L + 1) 2 0 (fun _ => 0) (fun _ => 0) (fun _ => 0) (fun _ => 0) (fun _ => 0) (fun _ => 0) (fun _ => 0) H locs (by omega) (by omega) rel_0 hP hD hS ls hl

-- ===== YOUR PART ENDS =====
set_option maxHeartbeats 4000000 in
theorem lw_walk (l : Launch) (b : Addr) (xs : List Int32) : MetFree l x (headSpec (Jvm.Cond.code x code maxLocals ret :: tables_1) room_1) (lw_P b xs) (fun _ _ _ _ _ => True) lw_Q := by
  refine MetFree.of_bodyS (code := code) (maxLocals := maxLocals) (ret := ret) (by decide) ?_ ?_
  · intro args s m h hn
    obtain ⟨meth, c, h1, h2, h3, h4, h5, h6, -, -⟩ := Cond.code_spec hn (atoms_spec (ws := Jvm.Cond.code x code maxLocals ret :: tables_1) h _ List.mem_cons_self)
    exact ⟨meth, c, h1, h2, h3, h4, h5, h6⟩
  · intro p e s m args below meth c s₁ B hml0 hP _
    obtain ⟨rfl, hx, hbd, hgv⟩ := hP
    obtain ⟨scr, harrAt, hlist, hof, hsmall⟩ := hx
    obtain ⟨hcb, hkn, -, -⟩ := State.arrayAt?_spec harrAt
    have hown : s.vm.findClass R_law = some m.cls := findClass_of_methodNamed B.named
    have hts0 : ∀ c ∈ (Jvm.Cond.code x code maxLocals ret :: tables_1), c.before #[Value.ref b] s = true := atoms_spec (ws := Jvm.Cond.code x code maxLocals ret :: tables_1) B.pre
    have hts : ∀ w ∈ lw_tbl, w.before #[Value.ref b] s = true := k2_hts_sels lw_privs (fun w hw => hts0 w (List.mem_cons_of_mem _ hw)) lw_privs_ok
    have hml : c.maxLocals = 4 := B.maxLocals_eq (hts0 _ List.mem_cons_self)
    have X₀ : Stand p l e room_1 s m #[Value.ref b] below meth c s₁ [] 0 0 := Stand.of_body B
    have hh0 : s₁.heap = s.heap := by rw [B.state]; rfl
    have hsz : scr.slots.size = xs.length := by rw [← Array.length_toList, hlist, List.length_map]
    have hval : ∀ j : Nat, j < xs.length → scr.slots[j]? = some (.int (xs.getD j 0)) := fun j hj => by
      rw [← Array.getElem?_toList, hlist]
      simp [hj]
    have hbl : b < s.heap.size := (Array.getElem?_eq_some_iff.mp hcb).1
    have hX : va_X b xs.length (fun j => xs.getD j 0) s s.heap := ⟨scr, hcb, hof, hkn, hsz, hval⟩
    have K : W p l e room_1 s m #[Value.ref b] below meth c s₁.heap [] 0 0 (lw_Z below #[Value.ref b] s) (entryFrame m ([Value.ref b] : List Value).toArray 4) := by
      rw [hh0]
      exact whole_start l hbd ⟨B.exec, B.bytes, B.returns, hml, hown, hts, hX, hbl, B.notSynchronized, hgv⟩
    obtain ⟨t, a1, o, b1, b2, b3⟩ := K s₁ rfl X₀
    exact ⟨t, o, a1, b1, b2, b3⟩
theorem lw_pre_spec {args : Array Value} {s : State} (h : (Jvm.Cond.and given_1 narrow_1).before args s = true) (hr : rest_1_c.before args s = true) : ∃ (b : Addr) (xs : List Int32), lw_P b xs args s := by
  have hs := flat_of_before _ h
  have hq := flat_of_before _ hr
  have hc : (Cond.count 1).before args s = true := hs _ (by decide +kernel)
  have harr : (Cond.arrayOf (.arg 0) .int).before args s = true := hs _ (by decide +kernel)
  have hle : (Cond.le (.length (.arg 0)) (.int 2050)).before args s = true := hs _ (by decide +kernel)
  have hlen : (Cond.isInt (.length (.arg 0))).before args s = true := hq _ (by decide +kernel)
  have hall : (Cond.all (.arg 0) (.isInt (.elem (.arg 0) (.index 0)))).before args s = true := hq _ (by decide +kernel)
  obtain ⟨b, xs, hb, hx⟩ := State.ints_of_pre rfl harr hlen hall
  have hsm : xs.length < 2 ^ 31 := hx.choose_spec.2.2.2
  have hev : (Term.length (.arg 0)).eval args s none [] s = some (.int xs.length.toInt32) := hx.length_eval hb
  have hv := Cond.le_ints hev (show (Term.int 2050).eval args s none [] s = some (.int 2050) from rfl)
  have hd : xs.length.toInt32 ≤ 2050 := by
    simpa [Cond.before, Cond.holds, hv] using hle
  have hN : xs.length ≤ 2050 := (Int32.ofNat_le_ofNat hsm (by decide)).mp (show Int32.ofNat xs.length ≤ Int32.ofNat 2050 from hd)
  exact ⟨b, xs, Cond.one_arg hc (show args[0]? = some (.ref b) from hb), hx, hN, h⟩
theorem lw_comes (l : Launch) : Comes l x (Jvm.Cond.code x code maxLocals ret :: tables_1) room_1 (fun tb e args s => Calls_1 tb e args s ∧ rest_1 tb e args s ∧ Pre_1 tb e args s)
    (fun _ _ args s o t => lw_Q args s o t) := by
  intro p e ha hc hk s m args below hf hfit hheap happ hpre
  obtain ⟨b, xs, hP⟩ := lw_pre_spec hpre.2.2 hpre.2.1
  obtain ⟨k, o, h1, h2, h3, hQ⟩ := lw_walk l b xs p e ha hc hk s m args below hf ((Spec.applies_iff_loose hf).mp happ).1 hP trivial
  exact ⟨k, o, h1, h2, h3, hQ⟩
theorem lw_frame {s t : State} {o : Outcome} {args : Array Value} (h : Framed s o t [] 9 3383) :
    Framed s o t (fieldLocs frame_1_writes args s ++ arrayLocs frame_1_arrays args s ++ staticLocs frame_1_statics s) 9 3383 := h
theorem lw_limb (L : Cond) (hL : ∀ (args : Array Value) (s t : State), L.after args s (.returned (some (.int 1))) t = true) :
    ArmFor flags0 classFile x code maxLocals ret World_1 tables_1 room_1 Calls_1 rest_1 Pre_1
      (fun tb e a s o t => postC L tb e a s o t ∧ Framed s o t (fieldLocs frame_1_writes a s ++ arrayLocs frame_1_arrays a s ++ staticLocs frame_1_statics s) 9 3383) := by
  intro l _ _ _ p e ha hc hk s m args below hf hfit hheap happ hpre
  obtain ⟨k, o, h1, h2, h3, rfl, hF⟩ := lw_comes l p e ha hc hk s m args below hf hfit hheap happ hpre
  exact ⟨k, _, h1, h2, h3, hL args s _, lw_frame hF⟩
theorem i_vc : Claimed_1_1 ∧ Claimed_1_2 := ⟨lw_limb limb_1_1 (fun args s t => by simp [limb_1_1, Cond.after, Cond.holds, Cond.value]), lw_limb limb_1_2 (fun args s t => Cond.after_iff.mpr (by
  first | (rw [show limb_1_2 = Cond.eq .result (.int 1) from rfl, Cond.eq_ints (x := 1) (y := 1) rfl rfl]; simp; done) | (simp [limb_1_2, Cond.value, Term.eval]; done)))⟩
end
