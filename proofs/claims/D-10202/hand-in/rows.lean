section
/-! words: bits, trits, the word of a number, what it decodes to -/
theorem tc_sl : ∀ n, n < 32 → ((nI n &&& 31).toBitVec.smod 32).toNat = n := by decide +kernel
theorem tc_or (a b : Nat) : nI a ||| nI b = nI (a ||| b) := by
  apply Int32.toBitVec_inj.1
  show BitVec.ofNat 32 a ||| BitVec.ofNat 32 b = BitVec.ofNat 32 (a ||| b)
  rw [BitVec.ofNat_or]
theorem tc_and (a b : Nat) : nI a &&& nI b = nI (a &&& b) := by
  apply Int32.toBitVec_inj.1
  show BitVec.ofNat 32 a &&& BitVec.ofNat 32 b = BitVec.ofNat 32 (a &&& b)
  rw [BitVec.ofNat_and]
theorem tc_one : ∀ j, j < 31 → (1 : Int32) <<< (nI j &&& 31) = nI (2 ^ j) := by decide +kernel
/-- a word: eighteen bits -/
def tc_W (w : Int32) : Prop := ∃ n : Nat, n < 2 ^ 18 ∧ w = nI n
theorem tc_W0 : tc_W 0 := ⟨0, by decide, rfl⟩
theorem tc_bit {n j : Nat} (hn : n < 2 ^ 31) (hj : j < 32) : (nI n >>> (nI j &&& 31)) &&& 1 = nI ((n.testBit j).toNat) := by
  have h : n / 2 ^ j ≤ n := Nat.div_le_self _ _
  rw [pk_shrN hn (nI j &&& 31) j (tc_sl j hj), pk_andN (by omega) 1 (by decide), Nat.toNat_testBit]
/-- a trit of a word -/
def tc_tr (w i : Int32) : Int32 := ((w >>> (i &&& 31)) &&& 1) - ((w >>> ((9 + i) &&& 31)) &&& 1)
theorem tc_tr3 (w i : Int32) : tc_tr w i = -1 ∨ tc_tr w i = 0 ∨ tc_tr w i = 1 := by
  obtain ⟨a, ha, ea⟩ := pk_andE (w >>> (i &&& 31)) (m := 1) 1 (by decide)
  obtain ⟨b, hb, eb⟩ := pk_andE (w >>> ((9 + i) &&& 31)) (m := 1) 1 (by decide)
  unfold tc_tr
  rw [ea, eb]
  have h1 : a = 0 ∨ a = 1 := by omega
  have h2 : b = 0 ∨ b = 1 := by omega
  rcases h1 with h1 | h1 <;> rcases h2 with h2 | h2 <;> subst h1 <;> subst h2 <;> decide
/-- the trit as a whole number -/
def tc_ib (n j : Nat) : Int := ((n.testBit j).toNat : Int) - ((n.testBit (9 + j)).toNat : Int)
theorem tc_trN {n j : Nat} (hn : n < 2 ^ 31) (hj : j < 9) : tc_tr (nI n) (nI j) = Int32.ofInt (tc_ib n j) := by
  unfold tc_tr tc_ib
  rw [show (9 : Int32) + nI j = nI (9 + j) from nI_add 9 j, tc_bit hn (by omega), tc_bit hn (by omega), Int32.ofInt_sub, Int32.ofInt_eq_ofNat, Int32.ofInt_eq_ofNat]
  rfl
/-- Horner's sum of the trits from the highest down -/
def tc_hor (w : Int32) : Nat → Int32
  | 0 => 0
  | k + 1 => 3 * tc_hor w k + tc_tr w (nI (8 - k))
def tc_val (w : Int32) : Int32 := tc_hor w 9
def tc_hI (n : Nat) : Nat → Int
  | 0 => 0
  | k + 1 => 3 * tc_hI n k + tc_ib n (8 - k)
theorem tc_horN {n : Nat} (hn : n < 2 ^ 31) : ∀ k, tc_hor (nI n) k = Int32.ofInt (tc_hI n k)
  | 0 => rfl
  | k + 1 => by
    show 3 * tc_hor (nI n) k + tc_tr (nI n) (nI (8 - k)) = Int32.ofInt (3 * tc_hI n k + tc_ib n (8 - k))
    rw [tc_horN hn k, tc_trN hn (by omega), Int32.ofInt_add, Int32.ofInt_mul]
    rfl
/-- the lowest trit of a number, the rest, the word -/
def tc_t (r : Int) : Int := (r + 1) % 3 - 1
def tc_rs (r : Int) : Nat → Int
  | 0 => r
  | k + 1 => (tc_rs r k - tc_t (tc_rs r k)) / 3
def tc_pb (t : Int) (k : Nat) : Nat := if t = 1 then 2 ^ k else if t = -1 then 2 ^ (9 + k) else 0
def tc_wd (r : Int) : Nat → Nat
  | 0 => 0
  | k + 1 => tc_wd r k ||| tc_pb (tc_t (tc_rs r k)) k
theorem tc_t3 (r : Int) : tc_t r = -1 ∨ tc_t r = 0 ∨ tc_t r = 1 := by
  unfold tc_t
  omega
theorem tc_rs_s (r : Int) (k : Nat) : 3 * tc_rs r (k + 1) = tc_rs r k - tc_t (tc_rs r k) := by
  show 3 * ((tc_rs r k - tc_t (tc_rs r k)) / 3) = _
  unfold tc_t
  omega
theorem tc_rs_b {r B : Int} (h1 : -B ≤ r) (h2 : r ≤ B) (hB : 1 ≤ B) : ∀ k, -B ≤ tc_rs r k ∧ tc_rs r k ≤ B
  | 0 => ⟨h1, h2⟩
  | k + 1 => by
    have h := tc_rs_b h1 h2 hB k
    have e := tc_rs_s r k
    have t := tc_t3 (tc_rs r k)
    omega
theorem tc_pb_lt (t : Int) {k : Nat} (hk : k < 9) : tc_pb t k < 2 ^ 18 := by
  unfold tc_pb
  split
  · exact Nat.pow_lt_pow_right (by decide) (by omega)
  · split
    · exact Nat.pow_lt_pow_right (by decide) (by omega)
    · decide
theorem tc_wd_lt (r : Int) : ∀ k, k ≤ 9 → tc_wd r k < 2 ^ 18
  | 0, _ => by show 0 < 2 ^ 18; decide
  | k + 1, h => Nat.or_lt_two_pow (tc_wd_lt r k (by omega)) (tc_pb_lt _ (by omega))
theorem tc_pbP (t : Int) {k j : Nat} (hj : j < 9) : (tc_pb t k).testBit j = decide (k = j ∧ t = 1) := by
  unfold tc_pb
  split
  · next h => rw [Nat.testBit_two_pow]; simp [h]
  · next h =>
    split
    · rw [Nat.testBit_two_pow]; simp [h]; omega
    · simp [h]
theorem tc_pbM (t : Int) {k j : Nat} (hk : k < 9) : (tc_pb t k).testBit (9 + j) = decide (k = j ∧ t = -1) := by
  unfold tc_pb
  split
  · next h =>
    rw [Nat.testBit_two_pow]
    subst h
    simp
    omega
  · next h =>
    split
    · next g => rw [Nat.testBit_two_pow]; simp [g]
    · next g => simp [g]
theorem tc_wdP (r : Int) : ∀ k, k ≤ 9 → ∀ j, j < 9 → (tc_wd r k).testBit j = decide (j < k ∧ tc_t (tc_rs r j) = 1)
  | 0, _, j, _ => by
    show (0 : Nat).testBit j = _
    simp
  | k + 1, hk, j, hj => by
    show (tc_wd r k ||| tc_pb (tc_t (tc_rs r k)) k).testBit j = _
    rw [Nat.testBit_or, tc_wdP r k (by omega) j hj, tc_pbP _ hj]
    by_cases e : k = j
    · subst e
      simp
    · rw [← Bool.decide_or]
      apply decide_eq_decide.mpr
      omega
theorem tc_wdM (r : Int) : ∀ k, k ≤ 9 → ∀ j, j < 9 → (tc_wd r k).testBit (9 + j) = decide (j < k ∧ tc_t (tc_rs r j) = -1)
  | 0, _, j, _ => by
    show (0 : Nat).testBit (9 + j) = _
    simp
  | k + 1, hk, j, hj => by
    show (tc_wd r k ||| tc_pb (tc_t (tc_rs r k)) k).testBit (9 + j) = _
    rw [Nat.testBit_or, tc_wdM r k (by omega) j hj, tc_pbM _ (by omega)]
    by_cases e : k = j
    · subst e
      simp
    · rw [← Bool.decide_or]
      apply decide_eq_decide.mpr
      omega
theorem tc_ibW (r : Int) {j : Nat} (hj : j < 9) : tc_ib (tc_wd r 9) j = tc_t (tc_rs r j) := by
  unfold tc_ib
  rw [tc_wdP r 9 (by omega) j hj, tc_wdM r 9 (by omega) j hj]
  rcases tc_t3 (tc_rs r j) with h | h | h <;> rw [h] <;> simp [hj]
/-! the two halves of a word -/
def tc_hiN (n : Nat) : Nat := n % 2 ^ 9 / 2 ^ 6 ||| n / 2 ^ 15 * 2 ^ 9
def tc_loN (n : Nat) : Nat := n % 2 ^ 6 ||| n / 2 ^ 9 % 2 ^ 6 * 2 ^ 9
theorem tc_hiE {n : Nat} (hn : n < 2 ^ 18) : ((nI n &&& 511) >>> ((6 : Int32) &&& 31)) ||| ((nI n >>> ((15 : Int32) &&& 31)) <<< ((9 : Int32) &&& 31)) = nI (tc_hiN n) := by
  rw [pk_andN (by omega) 9 (by decide), pk_shrN (by omega) _ 6 (by decide), pk_shrN (by omega) _ 15 (by decide), pk_shlN _ 9 (by decide) (by omega), tc_or]
  rfl
theorem tc_loE {n : Nat} (hn : n < 2 ^ 18) : (nI n &&& 63) ||| (((nI n >>> ((9 : Int32) &&& 31)) &&& 63) <<< ((9 : Int32) &&& 31)) = nI (tc_loN n) := by
  rw [pk_andN (by omega) 6 (by decide), pk_shrN (by omega) _ 9 (by decide), pk_andN (by omega) 6 (by decide), pk_shlN _ 9 (by decide) (by omega), tc_or]
  rfl
theorem tc_hiL {n : Nat} (hn : n < 2 ^ 18) : tc_hiN n < 2 ^ 18 := Nat.or_lt_two_pow (by omega) (by omega)
theorem tc_loL (n : Nat) : tc_loN n < 2 ^ 18 := Nat.or_lt_two_pow (by omega) (by omega)
theorem tc_hiB {n : Nat} (hn : n < 2 ^ 18) {j : Nat} (hj : j < 9) : tc_ib (tc_hiN n) j = if j < 3 then tc_ib n (6 + j) else 0 := by
  have z : ∀ i, 18 ≤ i → n.testBit i = false := fun i hi => Nat.testBit_lt_two_pow (Nat.lt_of_lt_of_le hn (Nat.pow_le_pow_right (by decide) hi))
  unfold tc_ib tc_hiN
  rw [Nat.testBit_or, Nat.testBit_or, Nat.testBit_div_two_pow, Nat.testBit_div_two_pow, Nat.testBit_mod_two_pow, Nat.testBit_mod_two_pow, Nat.testBit_mul_two_pow, Nat.testBit_mul_two_pow, Nat.testBit_div_two_pow, Nat.testBit_div_two_pow]
  rw [decide_eq_false (show ¬ 9 ≤ j by omega), decide_eq_true (show 9 ≤ 9 + j by omega), decide_eq_false (show ¬ 9 + j + 6 < 9 by omega), show 9 + j - 9 + 15 = 15 + j by omega]
  by_cases h : j < 3
  · rw [decide_eq_true (show j + 6 < 9 by omega), if_pos h, show j + 6 = 6 + j by omega, show 9 + (6 + j) = 15 + j by omega]
    simp
  · rw [decide_eq_false (show ¬ j + 6 < 9 by omega), if_neg h, z (15 + j) (by omega)]
    simp
theorem tc_loB (n : Nat) {j : Nat} (hj : j < 9) : tc_ib (tc_loN n) j = if j < 6 then tc_ib n j else 0 := by
  unfold tc_ib tc_loN
  rw [Nat.testBit_or, Nat.testBit_or, Nat.testBit_mod_two_pow, Nat.testBit_mod_two_pow, Nat.testBit_mul_two_pow, Nat.testBit_mul_two_pow, Nat.testBit_mod_two_pow, Nat.testBit_mod_two_pow, Nat.testBit_div_two_pow, Nat.testBit_div_two_pow]
  rw [decide_eq_false (show ¬ 9 ≤ j by omega), decide_eq_true (show 9 ≤ 9 + j by omega), decide_eq_false (show ¬ 9 + j < 6 by omega), show 9 + j - 9 + 9 = 9 + j by omega, show 9 + j - 9 = j by omega]
  by_cases h : j < 6
  · rw [decide_eq_true h, if_pos h]
    simp
  · rw [decide_eq_false h, if_neg h]
    simp
theorem tc_hI9 (n : Nat) : tc_hI n 9 = 3 * (3 * (3 * (3 * (3 * (3 * (3 * (3 * (3 * 0 + tc_ib n 8) + tc_ib n 7) + tc_ib n 6) + tc_ib n 5) + tc_ib n 4) + tc_ib n 3) + tc_ib n 2) + tc_ib n 1) + tc_ib n 0 := rfl
theorem tc_hiV {n : Nat} (hn : n < 2 ^ 18) : tc_hI (tc_hiN n) 9 = 9 * tc_ib n 8 + 3 * tc_ib n 7 + tc_ib n 6 := by
  rw [tc_hI9, tc_hiB hn (j := 8) (by decide), tc_hiB hn (j := 7) (by decide), tc_hiB hn (j := 6) (by decide), tc_hiB hn (j := 5) (by decide), tc_hiB hn (j := 4) (by decide), tc_hiB hn (j := 3) (by decide), tc_hiB hn (j := 2) (by decide), tc_hiB hn (j := 1) (by decide), tc_hiB hn (j := 0) (by decide)]
  simp
  omega
theorem tc_loV (n : Nat) : tc_hI (tc_loN n) 9 = 243 * tc_ib n 5 + 81 * tc_ib n 4 + 27 * tc_ib n 3 + 9 * tc_ib n 2 + 3 * tc_ib n 1 + tc_ib n 0 := by
  rw [tc_hI9, tc_loB n (j := 8) (by decide), tc_loB n (j := 7) (by decide), tc_loB n (j := 6) (by decide), tc_loB n (j := 5) (by decide), tc_loB n (j := 4) (by decide), tc_loB n (j := 3) (by decide), tc_loB n (j := 2) (by decide), tc_loB n (j := 1) (by decide), tc_loB n (j := 0) (by decide)]
  simp
  omega
/-- the code word of an operation and a cell -/
def tc_enc (op cell : Nat) : Int32 := nI (tc_wd (729 * (op : Int) + (cell : Int) - 364) 9)
theorem tc_split {op cell : Nat} (ho : op ≤ 12) (hc : cell ≤ 728) (r : Int) (hr : r = 729 * (op : Int) + (cell : Int) - 364) :
    9 * tc_t (tc_rs r 8) + 3 * tc_t (tc_rs r 7) + tc_t (tc_rs r 6) = op ∧ 243 * tc_t (tc_rs r 5) + 81 * tc_t (tc_rs r 4) + 27 * tc_t (tc_rs r 3) + 9 * tc_t (tc_rs r 2) + 3 * tc_t (tc_rs r 1) + tc_t (tc_rs r 0) = (cell : Int) - 364 := by
  have e0 : 3 * tc_rs r 1 = r - tc_t (tc_rs r 0) := tc_rs_s r 0
  have e1 := tc_rs_s r 1
  have e2 := tc_rs_s r 2
  have e3 := tc_rs_s r 3
  have e4 := tc_rs_s r 4
  have e5 := tc_rs_s r 5
  have e6 := tc_rs_s r 6
  have e7 := tc_rs_s r 7
  have e8 := tc_rs_s r 8
  have t0 := tc_t3 (tc_rs r 0)
  have t1 := tc_t3 (tc_rs r 1)
  have t2 := tc_t3 (tc_rs r 2)
  have t3 := tc_t3 (tc_rs r 3)
  have t4 := tc_t3 (tc_rs r 4)
  have t5 := tc_t3 (tc_rs r 5)
  have t6 := tc_t3 (tc_rs r 6)
  have t7 := tc_t3 (tc_rs r 7)
  have t8 := tc_t3 (tc_rs r 8)
  have b : ∀ t : Int, (t = -1 ∨ t = 0 ∨ t = 1) → -1 ≤ t ∧ t ≤ 1 := fun t h => by omega
  replace t0 := b _ t0
  replace t1 := b _ t1
  replace t2 := b _ t2
  replace t3 := b _ t3
  replace t4 := b _ t4
  replace t5 := b _ t5
  replace t6 := b _ t6
  replace t7 := b _ t7
  replace t8 := b _ t8
  generalize tc_t (tc_rs r 0) = u0 at *
  generalize tc_t (tc_rs r 1) = u1 at *
  generalize tc_t (tc_rs r 2) = u2 at *
  generalize tc_t (tc_rs r 3) = u3 at *
  generalize tc_t (tc_rs r 4) = u4 at *
  generalize tc_t (tc_rs r 5) = u5 at *
  generalize tc_t (tc_rs r 6) = u6 at *
  generalize tc_t (tc_rs r 7) = u7 at *
  generalize tc_t (tc_rs r 8) = u8 at *
  generalize tc_rs r 1 = r1 at *
  generalize tc_rs r 2 = r2 at *
  generalize tc_rs r 3 = r3 at *
  generalize tc_rs r 4 = r4 at *
  generalize tc_rs r 5 = r5 at *
  generalize tc_rs r 6 = r6 at *
  generalize tc_rs r 7 = r7 at *
  generalize tc_rs r 8 = r8 at *
  generalize tc_rs r 9 = r9 at *
  have hL : r = 243 * u5 + 81 * u4 + 27 * u3 + 9 * u2 + 3 * u1 + u0 + 729 * r6 := by omega
  have hH : r6 = 9 * u8 + 3 * u7 + u6 + 27 * r9 := by omega
  have bL : -364 ≤ 243 * u5 + 81 * u4 + 27 * u3 + 9 * u2 + 3 * u1 + u0 ∧ 243 * u5 + 81 * u4 + 27 * u3 + 9 * u2 + 3 * u1 + u0 ≤ 364 := by omega
  have bH : -13 ≤ 9 * u8 + 3 * u7 + u6 ∧ 9 * u8 + 3 * u7 + u6 ≤ 13 := by omega
  clear e0 e1 e2 e3 e4 e5 e6 e7 e8
  generalize 243 * u5 + 81 * u4 + 27 * u3 + 9 * u2 + 3 * u1 + u0 = lo at *
  generalize 9 * u8 + 3 * u7 + u6 = hi at *
  omega
theorem tc_decH {op cell : Nat} (ho : op ≤ 12) (hc : cell ≤ 728) : tc_val (((tc_enc op cell &&& 511) >>> ((6 : Int32) &&& 31)) ||| ((tc_enc op cell >>> ((15 : Int32) &&& 31)) <<< ((9 : Int32) &&& 31))) = nI op := by
  have hn := tc_wd_lt (729 * (op : Int) + (cell : Int) - 364) 9 (by decide)
  unfold tc_enc tc_val
  rw [tc_hiE hn, tc_horN (Nat.lt_trans (tc_hiL hn) (by decide)), tc_hiV hn, tc_ibW _ (by decide), tc_ibW _ (by decide), tc_ibW _ (by decide), (tc_split ho hc _ rfl).1, Int32.ofInt_eq_ofNat]
  rfl
theorem tc_decL {op cell : Nat} (ho : op ≤ 12) (hc : cell ≤ 728) : tc_val ((tc_enc op cell &&& 63) ||| (((tc_enc op cell >>> ((9 : Int32) &&& 31)) &&& 63) <<< ((9 : Int32) &&& 31))) + 364 = nI cell := by
  have hn := tc_wd_lt (729 * (op : Int) + (cell : Int) - 364) 9 (by decide)
  unfold tc_enc tc_val
  rw [tc_loE hn, tc_horN (Nat.lt_trans (tc_loL _) (by decide)), tc_loV, tc_ibW _ (by decide), tc_ibW _ (by decide), tc_ibW _ (by decide), tc_ibW _ (by decide), tc_ibW _ (by decide), tc_ibW _ (by decide), (tc_split ho hc _ rfl).2, show (364 : Int32) = Int32.ofInt 364 from by decide, ← Int32.ofInt_add, Int.sub_add_cancel, Int32.ofInt_eq_ofNat]
  rfl
theorem tc_encW (op cell : Nat) : tc_W (tc_enc op cell) := ⟨_, tc_wd_lt _ 9 (by decide), rfl⟩
theorem tc_enc0 : tc_enc 0 364 = 0 := by decide +kernel
/-! the other word functions stay words -/
theorem tc_Wor {a b : Int32} (ha : tc_W a) (hb : tc_W b) : tc_W (a ||| b) := by
  obtain ⟨m, hm, rfl⟩ := ha
  obtain ⟨n, hn, rfl⟩ := hb
  exact ⟨m ||| n, Nat.or_lt_two_pow hm hn, tc_or m n⟩
theorem tc_Wbit {j : Nat} (hj : j < 18) : tc_W ((1 : Int32) <<< (nI j &&& 31)) := ⟨2 ^ j, Nat.pow_lt_pow_right (by decide) hj, tc_one j (by omega)⟩
theorem tc_Wneg {a : Int32} (ha : tc_W a) : tc_W (((a &&& 511) <<< ((9 : Int32) &&& 31)) ||| (a >>> ((9 : Int32) &&& 31))) := by
  obtain ⟨n, hn, rfl⟩ := ha
  rw [pk_andN (by omega) 9 (by decide), pk_shlN _ 9 (by decide) (by omega), pk_shrN (by omega) _ 9 (by decide), tc_or]
  exact ⟨_, Nat.or_lt_two_pow (by omega) (by omega), rfl⟩
theorem tc_Wup (a : Int32) : tc_W (((a &&& 255) <<< ((1 : Int32) &&& 31)) ||| (((a >>> ((9 : Int32) &&& 31)) &&& 255) <<< ((10 : Int32) &&& 31))) := by
  obtain ⟨m, hm, em⟩ := pk_andE a (m := 255) 8 (by decide)
  obtain ⟨n, hn, en⟩ := pk_andE (a >>> ((9 : Int32) &&& 31)) (m := 255) 8 (by decide)
  rw [em, en, pk_shlN _ 1 (by decide) (by omega), pk_shlN _ 10 (by decide) (by omega), tc_or]
  exact ⟨_, Nat.or_lt_two_pow (by omega) (by omega), rfl⟩
theorem tc_Wdown {a : Int32} (ha : tc_W a) : tc_W (((a &&& 511) >>> ((1 : Int32) &&& 31)) ||| ((a >>> ((10 : Int32) &&& 31)) <<< ((9 : Int32) &&& 31))) := by
  obtain ⟨n, hn, rfl⟩ := ha
  rw [pk_andN (by omega) 9 (by decide), pk_shrN (by omega) _ 1 (by decide), pk_shrN (by omega) _ 10 (by decide), pk_shlN _ 9 (by decide) (by omega), tc_or]
  exact ⟨_, Nat.or_lt_two_pow (by omega) (by omega), rfl⟩
theorem tc_Wless {a b : Int32} (ha : tc_W a) (hb : tc_W b) : tc_W (((a &&& b) &&& 511) ||| (((a ||| b) >>> ((9 : Int32) &&& 31)) <<< ((9 : Int32) &&& 31))) := by
  obtain ⟨n, hn, e⟩ := tc_Wor ha hb
  obtain ⟨m, hm, em⟩ := pk_andE (a &&& b) (m := 511) 9 (by decide)
  rw [e, em, pk_shrN (by omega) _ 9 (by decide), pk_shlN _ 9 (by decide) (by omega), tc_or]
  exact ⟨_, Nat.or_lt_two_pow (by omega) (by omega), rfl⟩
/-- a word and its opposite: trit by trit nothing -/
theorem tc_opp {a : Int32} (ha : tc_W a) {j : Nat} (hj : j < 9) : tc_tr a (nI j) + tc_tr (((a &&& 511) <<< ((9 : Int32) &&& 31)) ||| (a >>> ((9 : Int32) &&& 31))) (nI j) = 0 := by
  obtain ⟨n, hn, rfl⟩ := ha
  rw [pk_andN (by omega) 9 (by decide), pk_shlN _ 9 (by decide) (by omega), pk_shrN (by omega) _ 9 (by decide), tc_or]
  have hm : (n % 2 ^ 9 * 2 ^ 9 ||| n / 2 ^ 9) < 2 ^ 18 := Nat.or_lt_two_pow (by omega) (by omega)
  have z : n.testBit (9 + j + 9) = false := Nat.testBit_lt_two_pow (Nat.lt_of_lt_of_le hn (Nat.pow_le_pow_right (by decide) (by omega)))
  have e : tc_ib (n % 2 ^ 9 * 2 ^ 9 ||| n / 2 ^ 9) j = - tc_ib n j := by
    unfold tc_ib
    rw [Nat.testBit_or, Nat.testBit_or, Nat.testBit_div_two_pow, Nat.testBit_div_two_pow, Nat.testBit_mul_two_pow, Nat.testBit_mul_two_pow, Nat.testBit_mod_two_pow, Nat.testBit_mod_two_pow, z, decide_eq_false (show ¬ 9 ≤ j by omega), decide_eq_true (show 9 ≤ 9 + j by omega), decide_eq_true (show 9 + j - 9 < 9 by omega), show 9 + j - 9 = j by omega, show j + 9 = 9 + j by omega]
    simp
    omega
  rw [tc_trN (by omega) hj, tc_trN (by omega) hj, e, ← Int32.ofInt_add, Int.add_right_neg]
  rfl
end
section
/-! walks of the word methods -/
theorem tc_tritOf {post : Int32 → Prop} {le co so ce pe oc ac pl ru pc : Int32} {a1 a2 a3 a4 a5 a6 a7 a8 a9 a10 a11 a12 a13 : Nat → Int32} {w i : Int32} (H : post (tc_tr w i)) : wpX_tritOf post (le, co, so, ce, pe, oc, ac, pl, ru, pc, a1, a2, a3, a4, a5, a6, a7, a8, a9, a10, a11, a12, a13) w i := H
theorem tc_valueOf_l {post : Int32 → Prop} {le co so ce pe oc ac pl ru pc : Int32} {a1 a2 a3 a4 a5 a6 a7 a8 a9 a10 a11 a12 a13 : Nat → Int32} {w : Int32} (H : post (tc_val w)) : ∀ k, k ≤ 9 → wX_valueOf_5 post w le co so ce pe oc ac pl ru pc a1 a2 a3 a4 a5 a6 a7 a8 a9 a10 a11 a12 a13 (k + 1) (tc_hor w (9 - k)) (nI k + (-1))
  | 0, _ => br_t (by decide) H
  | k + 1, h => by
    have e : 3 * tc_hor w (9 - (k + 1)) + tc_tr w (nI k) = tc_hor w (9 - k) := by
      rw [show 9 - k = (9 - (k + 1)) + 1 by omega]
      show _ = 3 * tc_hor w (9 - (k + 1)) + tc_tr w (nI (8 - (9 - (k + 1))))
      rw [show 8 - (9 - (k + 1)) = k by omega]
    rw [pk_m1]
    exact br_f (nI_pos (by omega)) (tc_tritOf (nm_r e (nm_e (tc_valueOf_l H k (by omega)))))
theorem tc_valueOf {post : Int32 → Prop} {le co so ce pe oc ac pl ru pc : Int32} {a1 a2 a3 a4 a5 a6 a7 a8 a9 a10 a11 a12 a13 : Nat → Int32} {w : Int32} (H : post (tc_val w)) : wpX_valueOf post (le, co, so, ce, pe, oc, ac, pl, ru, pc, a1, a2, a3, a4, a5, a6, a7, a8, a9, a10, a11, a12, a13) w := by
  have h := tc_valueOf_l (post := post) (le := le) (co := co) (so := so) (ce := ce) (pe := pe) (oc := oc) (ac := ac) (pl := pl) (ru := ru) (pc := pc) (a1 := a1) (a2 := a2) (a3 := a3) (a4 := a4) (a5 := a5) (a6 := a6) (a7 := a7) (a8 := a8) (a9 := a9) (a10 := a10) (a11 := a11) (a12 := a12) (a13 := a13) H 9 (by decide)
  rw [show nI 9 + (-1) = 8 by decide] at h
  exact ⟨10, h⟩
theorem tc_valueOfE {post : Int32 → Prop} {le co so ce pe oc ac pl ru pc : Int32} {a1 a2 a3 a4 a5 a6 a7 a8 a9 a10 a11 a12 a13 : Nat → Int32} {w v : Int32} (e : tc_val w = v) (H : post v) : wpX_valueOf post (le, co, so, ce, pe, oc, ac, pl, ru, pc, a1, a2, a3, a4, a5, a6, a7, a8, a9, a10, a11, a12, a13) w := tc_valueOf (by rw [e]; exact H)
theorem tc_withTrit {post : Int32 → Prop} {le co so ce pe oc ac pl ru pc : Int32} {a1 a2 a3 a4 a5 a6 a7 a8 a9 a10 a11 a12 a13 : Nat → Int32} {w i t : Int32} (h1 : t = 1 → post (w ||| ((1 : Int32) <<< (i &&& 31)))) (h2 : t = -1 → post (w ||| ((1 : Int32) <<< ((9 + i) &&& 31)))) (h3 : ¬ t = 1 → ¬ t = -1 → post w) : wpX_withTrit post (le, co, so, ce, pe, oc, ac, pl, ru, pc, a1, a2, a3, a4, a5, a6, a7, a8, a9, a10, a11, a12, a13) w i t :=
  br_c h1 (fun n1 => br_c h2 (fun n2 => h3 n1 n2))
/-! the word of a number -/
theorem tc_min64 : Int64.minValue.toInt = -9223372036854775808 := by decide
theorem tc_max64 : Int64.maxValue.toInt = 9223372036854775807 := by decide
theorem tc_dm (r : Int) : (r - r.tdiv 3 * 3 = 2 ∧ tc_t r = -1) ∨ (r - r.tdiv 3 * 3 = -2 ∧ tc_t r = 1) ∨ (r - r.tdiv 3 * 3 = tc_t r ∧ (tc_t r = -1 ∨ tc_t r = 0 ∨ tc_t r = 1)) := by
  unfold tc_t
  rw [Int.tdiv_eq_ediv]
  have s : Int.sign 3 = 1 := rfl
  rw [s]
  split <;> omega
theorem tc_42 {post : Int32 → Prop} {J : Int64 → Int32 → Int32 → Prop} {le co so ce pe oc ac pl ru pc : Int32} {a1 a2 a3 a4 a5 a6 a7 a8 a9 a10 a11 a12 a13 : Nat → Int32} {r t : Int} {w i : Nat} {x7 : Int32} (ht : t = -1 ∨ t = 0 ∨ t = 1) (hx : x7 = Int32.ofInt t) (hi : i < 9) (hb : -1099511627776 ≤ r ∧ r ≤ 1099511627776) (hd : (r - t) % 3 = 0)
    (H : J (Int64.ofInt ((r - t) / 3)) (nI (w ||| tc_pb t i)) (nI (i + 1))) : wX_wordOf_42 post J (Int64.ofInt r) (nI w) (nI i) x7 le co so ce pe oc ac pl ru pc a1 a2 a3 a4 a5 a6 a7 a8 a9 a10 a11 a12 a13 := by
  have hq : (Int64.ofInt r - x7.toInt64) / 3 = Int64.ofInt ((r - t) / 3) := by
    rw [hx, show (Int32.ofInt t).toInt64 = Int64.ofInt t from by rcases ht with h | h | h <;> subst h <;> decide, ← Int64.ofInt_sub, show (3 : Int64) = Int64.ofInt 3 from by decide,
      ← Int64.ofInt_tdiv (by rw [tc_min64]; omega) (by rw [tc_max64]; omega) (by rw [tc_min64]; omega) (by rw [tc_max64]; omega), Int.tdiv_eq_ediv_of_dvd (Int.dvd_of_emod_eq_zero hd)]
  unfold wX_wordOf_42
  refine tc_withTrit (fun h => ⟨by decide, nm_r hq (nm_r (nI_1 i) ?_)⟩) (fun h => ⟨by decide, nm_r hq (nm_r (nI_1 i) ?_)⟩) (fun h g => ⟨by decide, nm_r hq (nm_r (nI_1 i) ?_)⟩)
  · have e : t = 1 := by
      rcases ht with k | k | k
      · rw [hx, k] at h; exact absurd h (by decide)
      · rw [hx, k] at h; exact absurd h (by decide)
      · exact k
    rw [tc_one i (by omega), tc_or, show 2 ^ i = tc_pb t i by rw [e]; rfl]
    exact H
  · have e : t = -1 := by
      rcases ht with k | k | k
      · exact k
      · rw [hx, k] at h; exact absurd h (by decide)
      · rw [hx, k] at h; exact absurd h (by decide)
    rw [show (9 : Int32) + nI i = nI (9 + i) from nI_add 9 i, tc_one (9 + i) (by omega), tc_or, show 2 ^ (9 + i) = tc_pb t i by rw [e]; rfl]
    exact H
  · have e : t = 0 := by
      rcases ht with k | k | k
      · rw [hx, k] at g; exact absurd (by decide) g
      · exact k
      · rw [hx, k] at h; exact absurd (by decide) h
    have e2 : w ||| tc_pb t i = w := by rw [e]; exact Nat.or_zero w
    rw [e2] at H
    exact H
theorem tc_wordOf_l {post : Int32 → Prop} {le co so ce pe oc ac pl ru pc : Int32} {a1 a2 a3 a4 a5 a6 a7 a8 a9 a10 a11 a12 a13 : Nat → Int32} {r : Int} (h1 : -1099511627776 ≤ r) (h2 : r ≤ 1099511627776) (H : post (nI (tc_wd r 9))) :
    ∀ n i, i ≤ 9 → 9 - i < n → wX_wordOf_8 post le co so ce pe oc ac pl ru pc a1 a2 a3 a4 a5 a6 a7 a8 a9 a10 a11 a12 a13 n (Int64.ofInt (tc_rs r i)) (nI (tc_wd r i)) (nI i) := by
  intro n
  induction n with
  | zero => intro i _ h; omega
  | succ n ih =>
    intro i hi hn
    by_cases e9 : i = 9
    · subst e9
      exact br_t (by decide) H
    · have hb := tc_rs_b h1 h2 (by decide) i
      have hd : (tc_rs r i - tc_t (tc_rs r i)) % 3 = 0 := by unfold tc_t; omega
      have J : wX_wordOf_8 post le co so ce pe oc ac pl ru pc a1 a2 a3 a4 a5 a6 a7 a8 a9 a10 a11 a12 a13 n (Int64.ofInt ((tc_rs r i - tc_t (tc_rs r i)) / 3)) (nI (tc_wd r i ||| tc_pb (tc_t (tc_rs r i)) i)) (nI (i + 1)) := ih (i + 1) (by omega) (by omega)
      have e7 : (Int64.ofInt (tc_rs r i) - Int64.ofInt (tc_rs r i) / 3 * 3).toInt32 = Int32.ofInt (tc_rs r i - (tc_rs r i).tdiv 3 * 3) := by
        rw [show (3 : Int64) = Int64.ofInt 3 from by decide, ← Int64.ofInt_tdiv (by rw [tc_min64]; omega) (by rw [tc_max64]; omega) (by rw [tc_min64]; omega) (by rw [tc_max64]; omega), ← Int64.ofInt_mul, ← Int64.ofInt_sub, Int64.toInt32_ofInt]
      refine br_f (nI_ge (b := 9) (by omega) (by decide)) ⟨by decide, nm_r e7 ?_⟩
      rcases tc_dm (tc_rs r i) with ⟨a, b⟩ | ⟨a, b⟩ | ⟨a, b⟩
      · rw [a]
        exact br_t (by decide) (br_f (by decide) (tc_42 (tc_t3 _) (by rw [b]; decide) (by omega) hb hd J))
      · rw [a]
        exact br_f (by decide) (br_t (by decide) (tc_42 (tc_t3 _) (by rw [b]; decide) (by omega) hb hd J))
      · rw [a]
        exact br_f (by rcases b with b | b | b <;> rw [b] <;> decide) (br_f (by rcases b with b | b | b <;> rw [b] <;> decide) (tc_42 (tc_t3 _) rfl (by omega) hb hd J))
theorem tc_wordOf {post : Int32 → Prop} {le co so ce pe oc ac pl ru pc : Int32} {a1 a2 a3 a4 a5 a6 a7 a8 a9 a10 a11 a12 a13 : Nat → Int32} {x : Int64} (r : Int) (hx : x = Int64.ofInt r) (h1 : -1099511627776 ≤ r) (h2 : r ≤ 1099511627776) (H : post (nI (tc_wd r 9))) : wpX_wordOf post (le, co, so, ce, pe, oc, ac, pl, ru, pc, a1, a2, a3, a4, a5, a6, a7, a8, a9, a10, a11, a12, a13) x := by
  subst hx
  exact ⟨10, tc_wordOf_l h1 h2 H 10 0 (by decide) (by decide)⟩
theorem tc_wordOfI {post : Int32 → Prop} {le co so ce pe oc ac pl ru pc : Int32} {a1 a2 a3 a4 a5 a6 a7 a8 a9 a10 a11 a12 a13 : Nat → Int32} {x : Int32} (H : ∀ w, tc_W w → post w) : wpX_wordOf post (le, co, so, ce, pe, oc, ac, pl, ru, pc, a1, a2, a3, a4, a5, a6, a7, a8, a9, a10, a11, a12, a13) x.toInt64 := by
  have h1 := Int32.le_toInt x
  have h2 := Int32.toInt_lt x
  exact tc_wordOf x.toInt (Int64.ofInt_int32ToInt x).symm (by omega) (by omega) (H _ ⟨_, tc_wd_lt _ 9 (by decide), rfl⟩)
theorem tc_arg {op cell : Nat} (ho : op ≤ 12) (hc : cell ≤ 728) : ((729 * (nI op).toInt64) + (nI cell).toInt64) - 364 = Int64.ofInt (729 * (op : Int) + (cell : Int) - 364) := by
  rw [nI_l (by omega), nI_l (by omega), Int64.ofInt_sub, Int64.ofInt_add, Int64.ofInt_mul, Int64.ofInt_eq_ofNat, Int64.ofInt_eq_ofNat]
  rfl
theorem tc_wordOfE {post : Int32 → Prop} {le co so ce pe oc ac pl ru pc : Int32} {a1 a2 a3 a4 a5 a6 a7 a8 a9 a10 a11 a12 a13 : Nat → Int32} {op cell : Nat} (ho : op ≤ 12) (hc : cell ≤ 728) (H : post (tc_enc op cell)) : wpX_wordOf post (le, co, so, ce, pe, oc, ac, pl, ru, pc, a1, a2, a3, a4, a5, a6, a7, a8, a9, a10, a11, a12, a13) (((729 * (nI op).toInt64) + (nI cell).toInt64) - 364) :=
  tc_wordOf _ (tc_arg ho hc) (by omega) (by omega) H
/-! sum, product and the rest -/
theorem tc_sum_56 {post : Int32 → Prop} {J : Int32 → Int32 → Int32 → Prop} {le co so ce pe oc ac pl ru pc : Int32} {a1 a2 a3 a4 a5 a6 a7 a8 a9 a10 a11 a12 a13 : Nat → Int32} {u v w x6 z : Int32} {i : Nat} (hi : i < 9) (hw : tc_W w) (O : Prop) (h0 : O → x6 = 0 ∧ z = 0)
    (H : ∀ w', tc_W w' → (O → w' = w) → J w' z (nI (i + 1))) : wX_sum_56 post J u v w (nI i) x6 z le co so ce pe oc ac pl ru pc a1 a2 a3 a4 a5 a6 a7 a8 a9 a10 a11 a12 a13 := by
  unfold wX_sum_56
  have hz : O → x6 - 3 * z = 0 := fun o => by rw [(h0 o).1, (h0 o).2]; decide
  refine tc_withTrit (fun h => nm_r (nI_1 i) (H _ (tc_Wor hw (tc_Wbit (by omega))) (fun o => ?_))) (fun h => nm_r (nI_1 i) (H _ (tc_Wor hw ?_) (fun o => ?_))) (fun _ _ => nm_r (nI_1 i) (H _ hw (fun _ => rfl)))
  · rw [hz o] at h; exact absurd h (by decide)
  · rw [show (9 : Int32) + nI i = nI (9 + i) from nI_add 9 i]; exact tc_Wbit (by omega)
  · rw [hz o] at h; exact absurd h (by decide)
theorem tc_sum_l {post : Int32 → Prop} {le co so ce pe oc ac pl ru pc : Int32} {a1 a2 a3 a4 a5 a6 a7 a8 a9 a10 a11 a12 a13 : Nat → Int32} {u v : Int32} (H : ∀ r, tc_W r → ((∀ j, j < 9 → tc_tr u (nI j) + tc_tr v (nI j) = 0) → r = 0) → post r) :
    ∀ n i (w c : Int32), i ≤ 9 → 9 - i < n → tc_W w → ((∀ j, j < 9 → tc_tr u (nI j) + tc_tr v (nI j) = 0) → w = 0 ∧ c = 0) → wX_sum_8 post u v le co so ce pe oc ac pl ru pc a1 a2 a3 a4 a5 a6 a7 a8 a9 a10 a11 a12 a13 n w c (nI i) := by
  intro n
  induction n with
  | zero => intro i _ _ _ h; omega
  | succ n ih =>
    intro i w c hi hn hw h0
    by_cases e9 : i = 9
    · subst e9
      exact br_t (by decide) (H w hw (fun o => (h0 o).1))
    · have hx : (∀ j, j < 9 → tc_tr u (nI j) + tc_tr v (nI j) = 0) → (tc_tr u (nI i) + tc_tr v (nI i)) + c = 0 := fun o => by rw [o i (by omega), (h0 o).2]; decide
      have S : ∀ z : Int32, ((∀ j, j < 9 → tc_tr u (nI j) + tc_tr v (nI j) = 0) → z = 0) → wX_sum_56 post (wX_sum_8 post u v le co so ce pe oc ac pl ru pc a1 a2 a3 a4 a5 a6 a7 a8 a9 a10 a11 a12 a13 n) u v w (nI i) ((tc_tr u (nI i) + tc_tr v (nI i)) + c) z le co so ce pe oc ac pl ru pc a1 a2 a3 a4 a5 a6 a7 a8 a9 a10 a11 a12 a13 := fun z hz =>
        tc_sum_56 (by omega) hw (∀ j, j < 9 → tc_tr u (nI j) + tc_tr v (nI j) = 0) (fun o => ⟨hx o, hz o⟩) (fun w' hw' e => ih (i + 1) w' z (by omega) (by omega) hw' (fun o => ⟨(e o).trans (h0 o).1, hz o⟩))
      refine br_f (nI_ge (b := 9) (by omega) (by decide)) (tc_tritOf (tc_tritOf (nm_e ?_)))
      exact br_c (fun _ => br_c (fun _ => S 0 (fun _ => rfl)) (fun g => S (-1) (fun o => absurd (by rw [hx o]; decide) g))) (fun g => S 1 (fun o => absurd (by rw [hx o]; decide) g))
theorem tc_sum {post : Int32 → Prop} {le co so ce pe oc ac pl ru pc : Int32} {a1 a2 a3 a4 a5 a6 a7 a8 a9 a10 a11 a12 a13 : Nat → Int32} {u v : Int32} (H : ∀ r, tc_W r → ((∀ j, j < 9 → tc_tr u (nI j) + tc_tr v (nI j) = 0) → r = 0) → post r) : wpX_sum post (le, co, so, ce, pe, oc, ac, pl, ru, pc, a1, a2, a3, a4, a5, a6, a7, a8, a9, a10, a11, a12, a13) u v :=
  ⟨10, tc_sum_l H 10 0 0 0 (by decide) (by decide) tc_W0 (fun _ => ⟨rfl, rfl⟩)⟩
theorem tc_negated {post : Int32 → Prop} {le co so ce pe oc ac pl ru pc : Int32} {a1 a2 a3 a4 a5 a6 a7 a8 a9 a10 a11 a12 a13 : Nat → Int32} {w : Int32} (H : post (((w &&& 511) <<< ((9 : Int32) &&& 31)) ||| (w >>> ((9 : Int32) &&& 31)))) : wpX_negated post (le, co, so, ce, pe, oc, ac, pl, ru, pc, a1, a2, a3, a4, a5, a6, a7, a8, a9, a10, a11, a12, a13) w := H
theorem tc_prod_60 {post : Int32 → Prop} {J : Int32 → Int32 → Int32 → Prop} {le co so ce pe oc ac pl ru pc : Int32} {a1 a2 a3 a4 a5 a6 a7 a8 a9 a10 a11 a12 a13 : Nat → Int32} {v w p : Int32} {i : Nat} (H : ∀ p', J w p' (nI (i + 1))) : wX_product_60 post J v w p (nI i) le co so ce pe oc ac pl ru pc a1 a2 a3 a4 a5 a6 a7 a8 a9 a10 a11 a12 a13 :=
  nm_r (nI_1 i) (H _)
theorem tc_prod_38 {post : Int32 → Prop} {J : Int32 → Int32 → Int32 → Prop} {le co so ce pe oc ac pl ru pc : Int32} {a1 a2 a3 a4 a5 a6 a7 a8 a9 a10 a11 a12 a13 : Nat → Int32} {v w p t : Int32} {i : Nat} (hw : tc_W w) (H : ∀ w' p', tc_W w' → J w' p' (nI (i + 1))) : wX_product_38 post J v w p (nI i) t le co so ce pe oc ac pl ru pc a1 a2 a3 a4 a5 a6 a7 a8 a9 a10 a11 a12 a13 := by
  unfold wX_product_38
  exact tc_negated (br_c (fun _ => tc_sum (fun r hr _ => tc_prod_60 (fun p' => H r p' hr))) (fun _ => tc_prod_60 (fun p' => H w p' hw)))
theorem tc_prod_l {post : Int32 → Prop} {le co so ce pe oc ac pl ru pc : Int32} {a1 a2 a3 a4 a5 a6 a7 a8 a9 a10 a11 a12 a13 : Nat → Int32} {v : Int32} (H : ∀ r, tc_W r → post r) : ∀ n i (w p : Int32), i ≤ 9 → 9 - i < n → tc_W w → wX_product_8 post v le co so ce pe oc ac pl ru pc a1 a2 a3 a4 a5 a6 a7 a8 a9 a10 a11 a12 a13 n w p (nI i) := by
  intro n
  induction n with
  | zero => intro i _ _ _ h; omega
  | succ n ih =>
    intro i w p hi hn hw
    by_cases e9 : i = 9
    · subst e9
      exact br_t (by decide) (H w hw)
    · refine br_f (nI_ge (b := 9) (by omega) (by decide)) (tc_tritOf ?_)
      exact br_c (fun _ => tc_sum (fun r hr _ => tc_prod_38 hr (fun w' p' h => ih (i + 1) w' p' (by omega) (by omega) h))) (fun _ => tc_prod_38 hw (fun w' p' h => ih (i + 1) w' p' (by omega) (by omega) h))
theorem tc_product {post : Int32 → Prop} {le co so ce pe oc ac pl ru pc : Int32} {a1 a2 a3 a4 a5 a6 a7 a8 a9 a10 a11 a12 a13 : Nat → Int32} {u v : Int32} (H : ∀ r, tc_W r → post r) : wpX_product post (le, co, so, ce, pe, oc, ac, pl, ru, pc, a1, a2, a3, a4, a5, a6, a7, a8, a9, a10, a11, a12, a13) u v :=
  ⟨10, tc_prod_l H 10 0 0 u (by decide) (by decide) tc_W0⟩
theorem tc_comb {post : Int32 → Prop} {le co so ce pe oc ac pl ru pc : Int32} {a1 a2 a3 a4 a5 a6 a7 a8 a9 a10 a11 a12 a13 : Nat → Int32} {op : Nat} {w : Int32} (ho : op ≤ 12) (hac : tc_W ac) (hw : tc_W w) (H : ∀ r, tc_W r → (op = 4 → w = ac → r = 0) → post r) : wpX_combined post (le, co, so, ce, pe, oc, ac, pl, ru, pc, a1, a2, a3, a4, a5, a6, a7, a8, a9, a10, a11, a12, a13) (nI op) w :=
  pk_eq op 3 (fun e => tc_sum (fun r hr _ => H r hr (fun z => absurd z (by omega))))
    (fun _ => tc_negated (pk_eq op 4 (fun _ => tc_sum (fun r hr h => H r hr (fun _ ew => h (fun j hj => by rw [ew]; exact tc_opp hac hj))))
      (fun n4 => pk_eq op 5 (fun e => tc_product (fun r hr => H r hr (fun z => absurd z n4))) (fun _ => H _ (tc_Wless hac hw) (fun z => absurd z n4)))))
/-! jumps, prints -/
theorem tc_j35 {post : St1 → Prop} {le co so ce pe oc ac pl ru pc : Int32} {a1 a2 a3 a4 a5 a6 a7 a8 a9 a10 a11 a12 a13 : Nat → Int32} {x1 x2 x3 : Int32} (H : post (le, co, so, ce, pe, oc, ac, pl, ru, pc, a1, a2, a3, a4, a5, a6, a7, a8, a9, a10, a11, a12, a13)) (H2 : post (le, co, so, ce, pe, oc, ac, x2, ru, pc, a1, a2, a3, a4, a5, a6, a7, a8, a9, a10, a11, a12, a13)) : wX_jump_35 post x1 x2 x3 le co so ce pe oc ac pl ru pc a1 a2 a3 a4 a5 a6 a7 a8 a9 a10 a11 a12 a13 :=
  br_c (fun _ => br_c (fun _ => H2) (fun _ => H)) (fun _ => H)
theorem tc_j20 {post : St1 → Prop} {le co so ce pe oc ac pl ru pc : Int32} {a1 a2 a3 a4 a5 a6 a7 a8 a9 a10 a11 a12 a13 : Nat → Int32} {x1 x2 x3 : Int32} (H : post (le, co, so, ce, pe, oc, ac, pl, ru, pc, a1, a2, a3, a4, a5, a6, a7, a8, a9, a10, a11, a12, a13)) (H2 : post (le, co, so, ce, pe, oc, ac, x2, ru, pc, a1, a2, a3, a4, a5, a6, a7, a8, a9, a10, a11, a12, a13)) : wX_jump_20 post x1 x2 x3 le co so ce pe oc ac pl ru pc a1 a2 a3 a4 a5 a6 a7 a8 a9 a10 a11 a12 a13 :=
  br_c (fun _ => br_c (fun _ => tc_j35 H2 H2) (fun _ => tc_j35 H H2)) (fun _ => tc_j35 H H2)
theorem tc_jump {post : St1 → Prop} {le co so ce pe oc ac pl ru pc : Int32} {a1 a2 a3 a4 a5 a6 a7 a8 a9 a10 a11 a12 a13 : Nat → Int32} {x1 x2 : Int32} (H : post (le, co, so, ce, pe, oc, ac, pl, ru, pc, a1, a2, a3, a4, a5, a6, a7, a8, a9, a10, a11, a12, a13)) (H2 : post (le, co, so, ce, pe, oc, ac, x2, ru, pc, a1, a2, a3, a4, a5, a6, a7, a8, a9, a10, a11, a12, a13)) : wpX_jump post (le, co, so, ce, pe, oc, ac, pl, ru, pc, a1, a2, a3, a4, a5, a6, a7, a8, a9, a10, a11, a12, a13) x1 x2 := by
  have K : ∀ x3 : Int32, (x1 = 9 → wX_jump_20 post x1 x2 x3 le co so ce pe oc ac x2 ru pc a1 a2 a3 a4 a5 a6 a7 a8 a9 a10 a11 a12 a13) ∧ (¬ x1 = 9 → wX_jump_20 post x1 x2 x3 le co so ce pe oc ac pl ru pc a1 a2 a3 a4 a5 a6 a7 a8 a9 a10 a11 a12 a13) := fun x3 => br_c (fun _ => tc_j20 H2 H2) (fun _ => tc_j20 H H2)
  exact nm_e (nm_e (br_c (fun _ => br_c (fun _ => K 0) (fun _ => K (-1))) (fun _ => K 1)))
theorem tc_print {post : St1 → Prop} {le co so ce pe oc ac pl ru pc : Int32} {a1 a2 a3 a4 a5 a6 a7 a8 a9 a10 a11 a12 a13 : Nat → Int32} {k : Nat} {w : Int32} (hk : pc = nI k) (hk2 : k < 2 ^ 30) (H : ∀ b, post (le, co, so, ce, pe, oc, ac, pl, ru, nI (k + 1), a1, a2, a3, a4, a5, a6, a7, a8, a9, a10, a11, a12, b)) : wpX_print post (le, co, so, ce, pe, oc, ac, pl, ru, pc, a1, a2, a3, a4, a5, a6, a7, a8, a9, a10, a11, a12, a13) w := by
  subst hk
  exact pk_le 48 k (fun _ => nm_r (nI_1 k) (H a13)) (fun _ => ⟨pk_in k 48 (by omega), nm_e (nm_r (nI_1 k) (H _))⟩)
/-- one step of the machine -/
theorem tc_exec {post : St1 → Prop} {le co so ce pe oc ac pl ru pc : Int32} {a1 a2 a3 a4 a5 a6 a7 a8 a9 a10 a11 a12 a13 : Nat → Int32} {p op cell k : Nat} (hp : pl = nI p) (hp7 : p < 729) (hm : a12 p = tc_enc op cell) (ho : op ≤ 12) (hc : cell ≤ 728) (hac : tc_W ac) (hmw : tc_W (a12 cell)) (hk : pc = nI k) (hk2 : k < 2 ^ 30)
    (h0 : op = 0 → post (le, co, so, ce, pe, oc, ac, nI (p + 1), 0, pc, a1, a2, a3, a4, a5, a6, a7, a8, a9, a10, a11, a12, a13))
    (h1 : op = 1 → post (le, co, so, ce, pe, oc, a12 cell, nI (p + 1), ru, pc, a1, a2, a3, a4, a5, a6, a7, a8, a9, a10, a11, a12, a13))
    (h2 : op = 2 → post (le, co, so, ce, pe, oc, ac, nI (p + 1), ru, pc, a1, a2, a3, a4, a5, a6, a7, a8, a9, a10, a11, upd a12 cell ac, a13))
    (h3 : ∀ r, tc_W r → (op = 4 → a12 cell = ac → r = 0) → 3 ≤ op → op ≤ 8 → post (le, co, so, ce, pe, oc, r, nI (p + 1), ru, pc, a1, a2, a3, a4, a5, a6, a7, a8, a9, a10, a11, a12, a13))
    (h4 : op = 12 → ∀ b, post (le, co, so, ce, pe, oc, ac, nI (p + 1), ru, nI (k + 1), a1, a2, a3, a4, a5, a6, a7, a8, a9, a10, a11, a12, b))
    (h5 : 9 ≤ op → op ≤ 11 → post (le, co, so, ce, pe, oc, ac, nI (p + 1), ru, pc, a1, a2, a3, a4, a5, a6, a7, a8, a9, a10, a11, a12, a13) ∧ post (le, co, so, ce, pe, oc, ac, nI cell, ru, pc, a1, a2, a3, a4, a5, a6, a7, a8, a9, a10, a11, a12, a13)) : wpX_execute post (le, co, so, ce, pe, oc, ac, pl, ru, pc, a1, a2, a3, a4, a5, a6, a7, a8, a9, a10, a11, a12, a13) := by
  subst hp
  have ec : (nI cell).toNatClampNeg = cell := nI_clamp (by omega)
  have ep : a12 (nI p).toNatClampNeg = tc_enc op cell := by rw [nI_clamp (by omega), hm]
  refine ⟨pk_in p 729 hp7, nm_r ep (tc_valueOfE (tc_decH ho hc) (tc_valueOf (nm_r (tc_decL ho hc) (nm_r (nI_1 p) ?_))))⟩
  refine pk_eq op 0 h0 (fun n0 => pk_eq op 1 (fun e => ⟨pk_in cell 729 (by omega), nm_r (by rw [ec]) (h1 e)⟩) (fun n1 => pk_eq op 2 (fun e => ⟨pk_in cell 729 (by omega), nm_r (by rw [ec]) (h2 e)⟩) (fun n2 => pk_lt 6 op (fun g => ?_) (fun g => ⟨pk_in cell 729 (by omega), ?_⟩))))
  · refine pk_eq op 7 (fun e => h3 _ (tc_Wup _) (fun z => absurd z (by omega)) (by omega) (by omega)) (fun n7 => pk_eq op 8 (fun e => h3 _ (tc_Wdown hac) (fun z => absurd z (by omega)) (by omega) (by omega)) (fun n8 => pk_eq op 12 (fun e => ⟨pk_in cell 729 (by omega), tc_print hk hk2 (h4 e)⟩) (fun n12 => ?_)))
    exact tc_jump (h5 (by omega) (by omega)).1 (h5 (by omega) (by omega)).2
  · exact tc_comb ho hac (by rw [ec]; exact hmw) (fun r hr hz => h3 r hr (fun e ew => hz e (by rw [ec]; exact ew)) (by omega) (by omega))
end
section
/-! the memory: code words below 500, words everywhere -/
def tc_cw (p : Nat) (w : Int32) : Prop := ∃ op cell : Nat, op ≤ 12 ∧ cell ≤ 728 ∧ w = tc_enc op cell ∧ (op = 2 → 500 ≤ cell) ∧ (9 ≤ op → op ≤ 11 → cell < 500) ∧ (200 ≤ p → op = 0)
def tc_M (m : Nat → Int32) : Prop := (∀ p, p < 729 → tc_W (m p)) ∧ (∀ p, p < 500 → tc_cw p (m p))
theorem tc_M0 : tc_M (fun _ => 0) := ⟨fun _ _ => tc_W0, fun _ _ => ⟨0, 364, by decide, by decide, tc_enc0.symm, fun z => absurd z (by decide), fun z => absurd z (by decide), fun _ => rfl⟩⟩
theorem tc_Mcode {m : Nat → Int32} {p op cell : Nat} (h : tc_M m) (hp : p < 200) (ho : op ≤ 12) (hc : cell ≤ 728) (h2 : op = 2 → 500 ≤ cell) (h9 : 9 ≤ op → op ≤ 11 → cell < 500) : tc_M (upd m p (tc_enc op cell)) := by
  refine ⟨fun j hj => ?_, fun j hj => ?_⟩
  · by_cases e : j = p
    · subst e; rw [pk_us]; exact tc_encW _ _
    · rw [pk_un e]; exact h.1 j hj
  · by_cases e : j = p
    · subst e; rw [pk_us]; exact ⟨op, cell, ho, hc, rfl, h2, h9, fun z => absurd z (by omega)⟩
    · rw [pk_un e]; exact h.2 j hj
theorem tc_Mdata {m : Nat → Int32} {p : Nat} {w : Int32} (h : tc_M m) (hp : 500 ≤ p) (hw : tc_W w) : tc_M (upd m p w) := by
  refine ⟨fun j hj => ?_, fun j hj => ?_⟩
  · by_cases e : j = p
    · subst e; rw [pk_us]; exact hw
    · rw [pk_un e]; exact h.1 j hj
  · rw [pk_un (by omega)]; exact h.2 j hj
/-! stores -/
theorem tc_ups {f : Nat → Int32} {s : Nat} {x : Int32} (hs : s < 2 ^ 31) : upd f (nI s).toNatClampNeg x = upd f s x := by rw [nI_clamp hs]
theorem tc_n16 : ∀ c, c < 1000 → (nI c).toInt16.toInt32 = nI c := by decide +kernel
theorem tc_n8 : ∀ c, c < 100 → (nI c).toInt8.toInt32 = nI c := by decide +kernel
theorem tc_up16 {f : Nat → Int32} {s c : Nat} (hs : s < 2 ^ 31) (hc : c < 1000) : upd f (nI s).toNatClampNeg (nI c).toInt16.toInt32 = upd f s (nI c) := by rw [nI_clamp hs, tc_n16 c hc]
theorem tc_up8 {f : Nat → Int32} {s c : Nat} (hs : s < 2 ^ 31) (hc : c < 100) : upd f (nI s).toNatClampNeg (nI c).toInt8.toInt32 = upd f s (nI c) := by rw [nI_clamp hs, tc_n8 c hc]
/-! write, direct, pool -/
theorem tc_write {post : St1 → Prop} {le co so pe oc ac pl ru pc : Int32} {a1 a2 a3 a4 a5 a6 a7 a8 a9 a10 a11 a12 a13 : Nat → Int32} {p0 p1 : Int32} (c op cell : Nat) (hc : c < 729) (ho : op ≤ 12) (hl : cell ≤ 728) (h0 : p0 = nI op) (h1 : p1 = nI cell)
    (H : post (le, co, so, nI (c + 1), pe, oc, ac, pl, ru, pc, a1, a2, a3, a4, a5, a6, a7, a8, a9, a10, a11, upd a12 c (tc_enc op cell), a13)) : wpX_write post (le, co, so, nI c, pe, oc, ac, pl, ru, pc, a1, a2, a3, a4, a5, a6, a7, a8, a9, a10, a11, a12, a13) p0 p1 := by
  subst h0 h1
  unfold wpX_write
  exact tc_wordOfE ho hl ⟨pk_in c 729 hc, nm_r (tc_ups (by omega)) (nm_r (nI_1 c) H)⟩
theorem tc_wr {post : St1 → Prop} {le co so pe oc ac pl ru pc : Int32} {a1 a2 a3 a4 a5 a6 a7 a8 a9 a10 a11 a12 a13 : Nat → Int32} {p0 p1 : Int32} (c op cell : Nat) (hM : tc_M a12) (hc : c < 200) (ho : op ≤ 12) (hl : cell ≤ 728) (h2 : op = 2 → 500 ≤ cell) (h9 : 9 ≤ op → op ≤ 11 → cell < 500) (h0 : p0 = nI op) (h1 : p1 = nI cell)
    (H : ∀ m, tc_M m → post (le, co, so, nI (c + 1), pe, oc, ac, pl, ru, pc, a1, a2, a3, a4, a5, a6, a7, a8, a9, a10, a11, m, a13)) : wpX_write post (le, co, so, nI c, pe, oc, ac, pl, ru, pc, a1, a2, a3, a4, a5, a6, a7, a8, a9, a10, a11, a12, a13) p0 p1 :=
  tc_write c op cell (by omega) ho hl h0 h1 (H _ (tc_Mcode hM hc ho hl h2 h9))
theorem tc_dr {post : St1 → Prop} {le co so ce pe oc ac pl ru pc : Int32} {a1 a2 a3 a4 a5 a6 a7 a8 a9 a10 a11 a12 a13 : Nat → Int32} {p0 p1 p2 : Int32} (p op cell : Nat) (hM : tc_M a12) (hp : p < 200) (ho : op ≤ 12) (hl : cell ≤ 728) (h2 : op = 2 → 500 ≤ cell) (h9 : 9 ≤ op → op ≤ 11 → cell < 500) (hp0 : p0 = nI p) (h0 : p1 = nI op) (h1 : p2 = nI cell)
    (H : ∀ m, tc_M m → post (le, co, so, ce, pe, oc, ac, pl, ru, pc, a1, a2, a3, a4, a5, a6, a7, a8, a9, a10, a11, m, a13)) : wpX_direct post (le, co, so, ce, pe, oc, ac, pl, ru, pc, a1, a2, a3, a4, a5, a6, a7, a8, a9, a10, a11, a12, a13) p0 p1 p2 := by
  subst hp0 h0 h1
  unfold wpX_direct
  exact tc_wordOfE ho hl ⟨pk_in p 729 (by omega), nm_r (tc_ups (by omega)) (H _ (tc_Mcode hM hp ho hl h2 h9))⟩
theorem tc_pl {post : Int32 → St1 → Prop} {le co so ce oc ac pl ru pc : Int32} {a1 a2 a3 a4 a5 a6 a7 a8 a9 a10 a11 a12 a13 : Nat → Int32} {p0 : Int32} (q : Nat) (hM : tc_M a12) (hq : 500 ≤ q) (hq2 : q < 729)
    (H : ∀ m, tc_M m → post (nI q) (le, co, so, ce, nI (q + 1), oc, ac, pl, ru, pc, a1, a2, a3, a4, a5, a6, a7, a8, a9, a10, a11, m, a13)) : wpX_pool post (le, co, so, ce, nI q, oc, ac, pl, ru, pc, a1, a2, a3, a4, a5, a6, a7, a8, a9, a10, a11, a12, a13) p0 := by
  unfold wpX_pool
  exact tc_wordOfI (fun w hw => ⟨pk_in q 729 hq2, nm_r (tc_ups (by omega)) (nm_r (nI_1 q) (H _ (tc_Mdata hM hq hw)))⟩)
/-! the stack of blocks, pure -/
def tc_st (k : Nat) (S : List Nat) : Option (List Nat) :=
  if k = 7 ∨ k = 10 then (if S.length = 3 then none else some (k :: S))
  else if k = 8 ∨ k = 9 then (match S with
    | [] => none
    | t :: R => if t = 10 ∨ t = 9 ∨ (t = 8 ∧ k = 8) then none else some (k :: R))
  else if k = 11 then (match S with
    | [] => none
    | _ :: R => some R)
  else some S
theorem tc_stPush {k : Nat} {S S' : List Nat} (hk : k = 7 ∨ k = 10) (h : tc_st k S = some S') : S.length ≠ 3 ∧ S' = k :: S := by
  unfold tc_st at h
  rw [if_pos hk] at h
  by_cases g : S.length = 3
  · rw [if_pos g] at h
    exact absurd h.symm (Option.some_ne_none _)
  · rw [if_neg g] at h
    exact ⟨g, (Option.some.inj h).symm⟩
theorem tc_stPushI {k : Nat} {S : List Nat} (hk : k = 7 ∨ k = 10) (h : S.length ≠ 3) : tc_st k S = some (k :: S) := by
  unfold tc_st
  rw [if_pos hk, if_neg h]
theorem tc_stSect {k : Nat} {S S' : List Nat} (hk : k = 8 ∨ k = 9) (h : tc_st k S = some S') : ∃ t R, S = t :: R ∧ S' = k :: R ∧ t ≠ 10 ∧ t ≠ 9 ∧ ¬ (t = 8 ∧ k = 8) := by
  unfold tc_st at h
  rw [if_neg (by omega), if_pos hk] at h
  cases S with
  | nil => exact absurd h.symm (Option.some_ne_none _)
  | cons t R =>
    dsimp only at h
    by_cases g : t = 10 ∨ t = 9 ∨ (t = 8 ∧ k = 8)
    · rw [if_pos g] at h
      exact absurd h.symm (Option.some_ne_none _)
    · rw [if_neg g] at h
      exact ⟨t, R, rfl, (Option.some.inj h).symm, fun z => g (Or.inl z), fun z => g (Or.inr (Or.inl z)), fun z => g (Or.inr (Or.inr z))⟩
theorem tc_stSectI {k t : Nat} {R : List Nat} (hk : k = 8 ∨ k = 9) (h : ¬ (t = 10 ∨ t = 9 ∨ (t = 8 ∧ k = 8))) : tc_st k (t :: R) = some (k :: R) := by
  unfold tc_st
  rw [if_neg (by omega), if_pos hk]
  dsimp only
  rw [if_neg h]
theorem tc_stEnd {S S' : List Nat} (h : tc_st 11 S = some S') : ∃ t, S = t :: S' := by
  cases S with
  | nil => exact absurd h.symm (Option.some_ne_none _)
  | cons t R => exact ⟨t, by rw [Option.some.inj (show some R = some S' from h)]⟩
theorem tc_stElse {k : Nat} (S : List Nat) (h : ¬ (k = 7 ∨ k = 10)) (h2 : ¬ (k = 8 ∨ k = 9)) (h3 : k ≠ 11) : tc_st k S = some S := by
  unfold tc_st
  rw [if_neg h, if_neg h2, if_neg h3]
def tc_kd (a1 : Nat → Int32) (j : Nat) : Nat := (a1 j).toNatClampNeg
def tc_br (a1 : Nat → Int32) : Nat → Option (List Nat)
  | 0 => some []
  | i + 1 => (tc_br a1 i).bind (tc_st (tc_kd a1 i))
theorem tc_brS {a1 : Nat → Int32} {i : Nat} {S : List Nat} (h : tc_br a1 i = some S) : tc_br a1 (i + 1) = tc_st (tc_kd a1 i) S := by
  show (tc_br a1 i).bind _ = _
  rw [h]
  rfl
theorem tc_brP {a1 : Nat → Int32} {i : Nat} {S' : List Nat} (h : tc_br a1 (i + 1) = some S') : ∃ S, tc_br a1 i = some S ∧ tc_st (tc_kd a1 i) S = some S' := by
  have h' : (tc_br a1 i).bind (tc_st (tc_kd a1 i)) = some S' := h
  cases e : tc_br a1 i with
  | none => rw [e] at h'; exact absurd h'.symm (Option.some_ne_none _)
  | some S => rw [e] at h'; exact ⟨S, rfl, h'⟩
theorem tc_brD {a1 : Nat → Int32} {i : Nat} : ∀ d, ∀ {S : List Nat}, tc_br a1 (i + d) = some S → ∃ S', tc_br a1 i = some S'
  | 0, S, h => ⟨S, h⟩
  | d + 1, S, h => by
    obtain ⟨S', h', _⟩ := tc_brP (i := i + d) h
    exact tc_brD d h'
theorem tc_stL {k : Nat} {S S' : List Nat} (h : tc_st k S = some S') (hS : S.length ≤ 3) : S'.length ≤ 3 := by
  by_cases h1 : k = 7 ∨ k = 10
  · obtain ⟨a, rfl⟩ := tc_stPush h1 h
    rw [List.length_cons]
    omega
  · by_cases h2 : k = 8 ∨ k = 9
    · obtain ⟨t, R, rfl, rfl, _⟩ := tc_stSect h2 h
      exact hS
    · by_cases h3 : k = 11
      · subst h3
        obtain ⟨t, rfl⟩ := tc_stEnd h
        rw [List.length_cons] at hS
        omega
      · rw [tc_stElse S h1 h2 h3] at h
        rw [← Option.some.inj h]
        exact hS
theorem tc_brL {a1 : Nat → Int32} : ∀ i, ∀ {S : List Nat}, tc_br a1 i = some S → S.length ≤ 3
  | 0, S, h => by
    rw [← Option.some.inj (show some [] = some S from h)]
    decide
  | i + 1, S, h => by
    obtain ⟨S', h', h''⟩ := tc_brP h
    exact tc_stL h'' (tc_brL i h')
/-! the source -/
def tc_src (n : Nat) (a1 a2 a3 a4 : Nat → Int32) : Prop := ∀ j, j < n → ∃ k f s t : Nat, k ≤ 12 ∧ a1 j = nI k ∧ (k ≠ 0 → a2 j = nI f ∧ f ≤ 5) ∧ s ≤ 5 ∧ a3 j = nI s ∧ t ≤ 5 ∧ a4 j = nI t
theorem tc_kdE {a1 : Nat → Int32} {j k : Nat} (h : a1 j = nI k) (hk : k ≤ 12) : tc_kd a1 j = k := by
  unfold tc_kd
  rw [h, nI_clamp (by omega)]
/-! blocksFit -/
def tc_stk (b : Nat → Int32) : List Nat → Prop
  | [] => True
  | k :: R => b R.length = nI k ∧ k ≤ 12 ∧ tc_stk b R
theorem tc_stk_u {b : Nat → Int32} {x : Int32} {p : Nat} : ∀ {S : List Nat}, S.length ≤ p → tc_stk b S → tc_stk (upd b p x) S
  | [], _, _ => trivial
  | k :: R, h, hb => by
    have h' : R.length + 1 ≤ p := h
    exact ⟨by rw [pk_un (by omega)]; exact hb.1, hb.2.1, tc_stk_u (by omega) hb.2.2⟩
theorem tc_stk_p {b : Nat → Int32} {S : List Nat} {k : Nat} (hk : k ≤ 12) (h : tc_stk b S) : tc_stk (upd b S.length (nI k)) (k :: S) :=
  ⟨pk_us, hk, tc_stk_u (Nat.le_refl _) h⟩
theorem tc_bf31 {post : Int32 → St1 → Prop} {J : Int32 → Int32 → (Nat → Int32) → (Nat → Int32) → (Nat → Int32) → (Nat → Int32) → (Nat → Int32) → (Nat → Int32) → (Nat → Int32) → (Nat → Int32) → (Nat → Int32) → (Nat → Int32) → (Nat → Int32) → (Nat → Int32) → (Nat → Int32) → Prop} {le co so ce pe oc ac pl ru pc : Int32} {a1 a2 a3 a4 a5 a6 a7 a8 a9 a10 a11 a12 a13 : Nat → Int32} {o i k : Nat} (ho : o ≤ 3) (hk : k ≤ 12)
    (H0 : post 0 (le, co, so, ce, pe, oc, ac, pl, ru, pc, a1, a2, a3, a4, a5, a6, a7, a8, a9, a10, a11, a12, a13)) (H : o ≠ 3 → J (nI (o + 1)) (nI (i + 1)) a1 a2 a3 a4 (upd a5 o (nI k)) a6 a7 a8 a9 a10 a11 a12 a13) : wX_blocksFit_31 post J (nI o) (nI i) (nI k) le co so ce pe oc ac pl ru pc a1 a2 a3 a4 a5 a6 a7 a8 a9 a10 a11 a12 a13 :=
  pk_eq o 3 (fun _ => H0) (fun g => ⟨pk_in o 4 (by omega), nm_r (tc_up8 (by omega) (by omega)) (nm_r (nI_1 o) (nm_r (nI_1 i) (H g)))⟩)
theorem tc_bf117 {post : Int32 → St1 → Prop} {J : Int32 → Int32 → (Nat → Int32) → (Nat → Int32) → (Nat → Int32) → (Nat → Int32) → (Nat → Int32) → (Nat → Int32) → (Nat → Int32) → (Nat → Int32) → (Nat → Int32) → (Nat → Int32) → (Nat → Int32) → (Nat → Int32) → (Nat → Int32) → Prop} {le co so ce pe oc ac pl ru pc : Int32} {a1 a2 a3 a4 a5 a6 a7 a8 a9 a10 a11 a12 a13 : Nat → Int32} {o i k : Nat} (ho : o < 3) (hk : k ≤ 12)
    (H : J (nI (o + 1)) (nI (i + 1)) a1 a2 a3 a4 (upd a5 o (nI k)) a6 a7 a8 a9 a10 a11 a12 a13) : wX_blocksFit_117 post J (nI (o + 1)) (nI i) (nI k) le co so ce pe oc ac pl ru pc a1 a2 a3 a4 a5 a6 a7 a8 a9 a10 a11 a12 a13 :=
  ⟨pk_in o 4 (by omega) (nI_pred o), nm_r (by rw [nI_pred]; exact tc_up8 (by omega) (by omega)) (nm_r (nI_1 i) H)⟩
theorem tc_bf64 {post : Int32 → St1 → Prop} {J : Int32 → Int32 → (Nat → Int32) → (Nat → Int32) → (Nat → Int32) → (Nat → Int32) → (Nat → Int32) → (Nat → Int32) → (Nat → Int32) → (Nat → Int32) → (Nat → Int32) → (Nat → Int32) → (Nat → Int32) → (Nat → Int32) → (Nat → Int32) → Prop} {le co so ce pe oc ac pl ru pc : Int32} {a1 a2 a3 a4 a5 a6 a7 a8 a9 a10 a11 a12 a13 : Nat → Int32} {i k : Nat} {S : List Nat} (ho : S.length ≤ 3) (hk : k ≤ 12) (hb : tc_stk a5 S)
    (H0 : post 0 (le, co, so, ce, pe, oc, ac, pl, ru, pc, a1, a2, a3, a4, a5, a6, a7, a8, a9, a10, a11, a12, a13)) (H : ∀ t R, S = t :: R → ¬ (t = 10 ∨ t = 9 ∨ (t = 8 ∧ k = 8)) → J (nI (R.length + 1)) (nI (i + 1)) a1 a2 a3 a4 (upd a5 R.length (nI k)) a6 a7 a8 a9 a10 a11 a12 a13) : wX_blocksFit_64 post J (nI S.length) (nI i) (nI k) le co so ce pe oc ac pl ru pc a1 a2 a3 a4 a5 a6 a7 a8 a9 a10 a11 a12 a13 := by
  cases S with
  | nil => exact br_t rfl H0
  | cons t R =>
    have hl : R.length + 1 ≤ 3 := ho
    have ht : t ≤ 12 := hb.2.1
    have ei : (nI (R.length + 1) - 1).toNatClampNeg = R.length := by rw [nI_pred, nI_clamp (by omega)]
    have ea : a5 (nI (R.length + 1) - 1).toNatClampNeg = nI t := by rw [ei]; exact hb.1
    have K : ¬ (t = 10 ∨ t = 9 ∨ (t = 8 ∧ k = 8)) → wX_blocksFit_117 post J (nI (R.length + 1)) (nI i) (nI k) le co so ce pe oc ac pl ru pc a1 a2 a3 a4 a5 a6 a7 a8 a9 a10 a11 a12 a13 := fun g => tc_bf117 (by omega) hk (H t R rfl g)
    have vi : vp_in (nI (R.length + 1) - 1) 4 := pk_in R.length 4 (by omega) (nI_pred _)
    exact br_f (nI_ne0 (n := R.length + 1) (by omega) (by omega)) ⟨vi, pk_eq t 10 (fun _ => H0) (fun n10 => ⟨vi, pk_eq t 9 (fun _ => H0) (fun n9 => ⟨vi, pk_eq t 8 (fun e8 => pk_eq k 8 (fun _ => H0) (fun nk => K (by omega))) (fun n8 => K (by omega)) (hx := ea)⟩) (hx := ea)⟩) (hx := ea)⟩
theorem tc_bf_l {post : Int32 → St1 → Prop} {co so ce pe oc ac pl ru pc : Int32} {a1 a2 a3 a4 a6 a7 a8 a9 a10 a11 a12 a13 : Nat → Int32} {n : Nat} (hn : n ≤ 40) (hs : ∀ j, j < n → ∃ k, k ≤ 12 ∧ a1 j = nI k)
    (H0 : ∀ b, post 0 (nI n, co, so, ce, pe, oc, ac, pl, ru, pc, a1, a2, a3, a4, b, a6, a7, a8, a9, a10, a11, a12, a13)) (H1 : ∀ b, tc_br a1 n = some [] → post 1 (nI n, co, so, ce, pe, oc, ac, pl, ru, pc, a1, a2, a3, a4, b, a6, a7, a8, a9, a10, a11, a12, a13)) :
    ∀ f i S b, i ≤ n → n - i < f → tc_br a1 i = some S → tc_stk b S → wX_blocksFit_4 post (nI n) co so ce pe oc ac pl ru pc f (nI S.length) (nI i) a1 a2 a3 a4 b a6 a7 a8 a9 a10 a11 a12 a13 := by
  intro f
  induction f with
  | zero => intro i _ _ _ h; omega
  | succ f ih =>
    intro i S b hi hf hbr hb
    have hl := tc_brL i hbr
    refine pk_le n i (fun g => pk_eq S.length 0 (fun e => H1 b ?_) (fun _ => H0 b)) (fun g => ?_)
    · rw [show n = i by omega, hbr, List.eq_nil_of_length_eq_zero e]
    · obtain ⟨k, hk, ek⟩ := hs i g
      have hkd := tc_kdE ek hk
      have hn1 := tc_brS hbr
      rw [hkd] at hn1
      refine ⟨pk_in i 40 (by omega), nm_r (show a1 (nI i).toNatClampNeg = nI k by rw [nI_clamp (by omega), ek]) ?_⟩
      have P : (k = 7 ∨ k = 10) → wX_blocksFit_31 post (wX_blocksFit_4 post (nI n) co so ce pe oc ac pl ru pc f) (nI S.length) (nI i) (nI k) (nI n) co so ce pe oc ac pl ru pc a1 a2 a3 a4 b a6 a7 a8 a9 a10 a11 a12 a13 := fun h =>
        tc_bf31 hl hk (H0 b) (fun g3 => ih (i + 1) (k :: S) _ (by omega) (by omega) (by rw [hn1, tc_stPushI h g3]) (tc_stk_p hk hb))
      have Q : (k = 8 ∨ k = 9) → wX_blocksFit_64 post (wX_blocksFit_4 post (nI n) co so ce pe oc ac pl ru pc f) (nI S.length) (nI i) (nI k) (nI n) co so ce pe oc ac pl ru pc a1 a2 a3 a4 b a6 a7 a8 a9 a10 a11 a12 a13 := fun h =>
        tc_bf64 hl hk hb (H0 b) (fun t R e gt => by
          subst e
          exact ih (i + 1) (k :: R) _ (by omega) (by omega) (by rw [hn1, tc_stSectI h gt]) (tc_stk_p hk hb.2.2))
      refine pk_eq k 7 (fun e => P (Or.inl e)) (fun n7 => pk_eq k 10 (fun e => P (Or.inr e)) (fun n10 => pk_eq k 8 (fun e => Q (Or.inl e)) (fun n8 => pk_eq k 9 (fun e => Q (Or.inr e)) (fun n9 => pk_eq k 11 (fun e => ?_) (fun n11 => ?_)))))
      · subst e
        cases S with
        | nil => exact br_t rfl (H0 b)
        | cons t R =>
          have hl' : R.length + 1 ≤ 3 := hl
          exact br_f (nI_ne0 (Nat.succ_pos _) (by omega)) (nm_r (pk_m1 R.length) (nm_r (nI_1 i) (ih (i + 1) R b (by omega) (by omega) hn1 hb.2.2)))
      · exact nm_r (nI_1 i) (ih (i + 1) S b (by omega) (by omega) (by rw [hn1, tc_stElse S (by omega) (by omega) n11]) hb)
theorem tc_blocksFit {post : Int32 → St1 → Prop} {co so ce pe oc ac pl ru pc : Int32} {a1 a2 a3 a4 a5 a6 a7 a8 a9 a10 a11 a12 a13 : Nat → Int32} {n : Nat} (hn : n ≤ 40) (hs : ∀ j, j < n → ∃ k, k ≤ 12 ∧ a1 j = nI k)
    (H0 : ∀ b, post 0 (nI n, co, so, ce, pe, oc, ac, pl, ru, pc, a1, a2, a3, a4, b, a6, a7, a8, a9, a10, a11, a12, a13)) (H1 : ∀ b, tc_br a1 n = some [] → post 1 (nI n, co, so, ce, pe, oc, ac, pl, ru, pc, a1, a2, a3, a4, b, a6, a7, a8, a9, a10, a11, a12, a13)) : wpX_blocksFit post (nI n, co, so, ce, pe, oc, ac, pl, ru, pc, a1, a2, a3, a4, a5, a6, a7, a8, a9, a10, a11, a12, a13) :=
  ⟨n + 1, tc_bf_l hn hs H0 H1 (n + 1) 0 [] a5 (by omega) (by omega) rfl trivial⟩
end
section
/-! the compiler's own blocks -/
def tc_jj (b : Int32) : Prop := ∃ z : Nat, z < 200 ∧ b = nI z
def tc_jp (b : Int32) : Prop := b = -1 ∨ tc_jj b
def tc_ent (b5 b6 b7 b8 b9 b10 b11 : Int32) (k : Nat) : Prop :=
  7 ≤ k ∧ k ≤ 10 ∧ (k = 10 → b5 = nI 10 ∧ (∃ t : Nat, t < 199 ∧ b6 = nI t) ∧ (∃ q : Nat, 510 ≤ q ∧ q < 600 ∧ b7 = nI q)) ∧
  (k ≠ 10 → b5 = nI 7 ∧ tc_jp b8 ∧ tc_jp b9 ∧ tc_jp b10 ∧ tc_jp b11 ∧ (k = 7 → tc_jj b8) ∧ (k ≠ 9 → tc_jj b9))
def tc_blk (a5 a6 a7 a8 a9 a10 a11 : Nat → Int32) : List Nat → Prop
  | [] => True
  | k :: R => tc_ent (a5 R.length) (a6 R.length) (a7 R.length) (a8 R.length) (a9 R.length) (a10 R.length) (a11 R.length) k ∧ tc_blk a5 a6 a7 a8 a9 a10 a11 R
theorem tc_blk_c {a5 a6 a7 a8 a9 a10 a11 b5 b6 b7 b8 b9 b10 b11 : Nat → Int32} : ∀ {S : List Nat}, (∀ j, j < S.length → b5 j = a5 j ∧ b6 j = a6 j ∧ b7 j = a7 j ∧ b8 j = a8 j ∧ b9 j = a9 j ∧ b10 j = a10 j ∧ b11 j = a11 j) → tc_blk a5 a6 a7 a8 a9 a10 a11 S → tc_blk b5 b6 b7 b8 b9 b10 b11 S
  | [], _, _ => trivial
  | k :: R, h, hb => by
    obtain ⟨e5, e6, e7, e8, e9, e10, e11⟩ := h R.length (Nat.lt_succ_self _)
    refine ⟨?_, tc_blk_c (fun j hj => h j (Nat.lt_succ_of_lt hj)) hb.2⟩
    rw [e5, e6, e7, e8, e9, e10, e11]
    exact hb.1
/-- what is owed behind a statement: a state with at most C words, at most Q pool cells, the blocks S, a safe memory -/
def tc_K (post : St1 → Prop) (le co so ac pl ru pc : Int32) (a1 a2 a3 a4 a13 : Nat → Int32) (C Q : Nat) (S : List Nat) : Prop :=
  ∀ (c q : Nat) (a5 a6 a7 a8 a9 a10 a11 a12 : Nat → Int32), c ≤ C → 510 ≤ q → q ≤ Q → tc_blk a5 a6 a7 a8 a9 a10 a11 S → tc_M a12 → post (le, co, so, nI c, nI q, nI S.length, ac, pl, ru, pc, a1, a2, a3, a4, a5, a6, a7, a8, a9, a10, a11, a12, a13)
theorem tc_openCase {post : St1 → Prop} {le co so ac pl ru pc : Int32} {a1 a2 a3 a4 a5 a6 a7 a8 a9 a10 a11 a12 a13 : Nat → Int32} {c q f C Q : Nat} {S : List Nat} {p0 : Int32} (hf : f ≤ 5) (hp : p0 = nI f) (hc : c + 3 ≤ C) (hC : C < 199) (hq : 510 ≤ q) (hQ : q ≤ Q) (hS : S.length < 3) (hb : tc_blk a5 a6 a7 a8 a9 a10 a11 S) (hM : tc_M a12)
    (H : tc_K post le co so ac pl ru pc a1 a2 a3 a4 a13 C Q (7 :: S)) : wpX_openCase post (le, co, so, nI c, nI q, nI S.length, ac, pl, ru, pc, a1, a2, a3, a4, a5, a6, a7, a8, a9, a10, a11, a12, a13) p0 := by
  have hs : S.length < 2 ^ 31 := by omega
  subst hp
  unfold wpX_openCase
  refine tc_wr c 1 (500 + f) hM (by omega) (by omega) (by omega) (by omega) (by omega) rfl (nI_add 500 f) (fun m hM => ?_)
  refine ⟨pk_in S.length 4 (by omega), nm_r (tc_ups hs) ⟨pk_in S.length 4 (by omega), nm_r (tc_up16 hs (by omega)) ?_⟩⟩
  refine tc_wr (c + 1) 10 364 hM (by omega) (by omega) (by omega) (by omega) (by omega) rfl rfl (fun m hM => ⟨pk_in S.length 4 (by omega), nm_r (tc_up16 hs (by omega)) ?_⟩)
  refine tc_wr (c + 2) 11 364 hM (by omega) (by omega) (by omega) (by omega) (by omega) rfl rfl (fun m hM => ⟨pk_in S.length 4 (by omega), nm_r (tc_ups hs) ⟨pk_in S.length 4 (by omega), nm_r (tc_ups hs) (nm_r (nI_1 S.length) ?_)⟩⟩)
  refine H (c + 3) q _ _ _ _ _ _ _ m hc hq hQ ⟨⟨by decide, by decide, fun z => absurd z (by decide), fun _ => ⟨pk_us, Or.inr ⟨c + 1, by omega, pk_us⟩, Or.inr ⟨c + 2, by omega, pk_us⟩, Or.inl pk_us, Or.inl pk_us, fun _ => ⟨c + 1, by omega, pk_us⟩, fun _ => ⟨c + 2, by omega, pk_us⟩⟩⟩, ?_⟩ hM
  exact tc_blk_c (fun j hj => ⟨pk_un (by omega), rfl, rfl, pk_un (by omega), pk_un (by omega), pk_un (by omega), pk_un (by omega)⟩) hb
theorem tc_openLoop {post : St1 → Prop} {le co so ac pl ru pc : Int32} {a1 a2 a3 a4 a5 a6 a7 a8 a9 a10 a11 a12 a13 : Nat → Int32} {c q C Q : Nat} {S : List Nat} {p0 : Int32} (hc : c + 4 ≤ C) (hC : C < 199) (hq : 510 ≤ q) (hQ : q + 2 ≤ Q) (hQ2 : Q < 600) (hS : S.length < 3) (hb : tc_blk a5 a6 a7 a8 a9 a10 a11 S) (hM : tc_M a12)
    (H : tc_K post le co so ac pl ru pc a1 a2 a3 a4 a13 C Q (10 :: S)) : wpX_openLoop post (le, co, so, nI c, nI q, nI S.length, ac, pl, ru, pc, a1, a2, a3, a4, a5, a6, a7, a8, a9, a10, a11, a12, a13) p0 := by
  have hs : S.length < 2 ^ 31 := by omega
  unfold wpX_openLoop
  refine tc_pl q hM (by omega) (by omega) (fun m hM => ?_)
  refine tc_pl (q + 1) hM (by omega) (by omega) (fun m hM => ?_)
  refine tc_wr c 1 q hM (by omega) (by omega) (by omega) (by omega) (by omega) rfl rfl (fun m hM => ?_)
  refine tc_wr (c + 1) 2 (q + 1) hM (by omega) (by omega) (by omega) (by omega) (by omega) rfl rfl (fun m hM => ?_)
  refine ⟨pk_in S.length 4 (by omega), nm_r (tc_ups hs) ⟨pk_in S.length 4 (by omega), nm_r (tc_up16 hs (by omega)) ⟨pk_in S.length 4 (by omega), nm_r (tc_up16 hs (by omega)) (nm_r (nI_1 S.length) ?_)⟩⟩⟩
  refine tc_wr (c + 2) 1 (q + 1) hM (by omega) (by omega) (by omega) (by omega) (by omega) rfl rfl (fun m hM => ?_)
  refine tc_wr (c + 3) 10 364 hM (by omega) (by omega) (by omega) (by omega) (by omega) rfl rfl (fun m hM => ?_)
  refine H (c + 4) (q + 2) _ _ _ _ _ _ _ m hc (by omega) hQ ⟨⟨by decide, by decide, fun _ => ⟨pk_us, ⟨c + 2, by omega, pk_us⟩, ⟨q + 1, by omega, by omega, pk_us⟩⟩, fun z => absurd rfl z⟩, ?_⟩ hM
  exact tc_blk_c (fun j hj => ⟨pk_un (by omega), pk_un (by omega), pk_un (by omega), rfl, rfl, rfl, rfl⟩) hb
theorem tc_os41 {post : St1 → Prop} {le co so ac pl ru pc : Int32} {a1 a2 a3 a4 a5 a6 a7 a8 a9 a10 a11 a12 a13 : Nat → Int32} {c q k t C Q : Nat} {R : List Nat} (hk : k = 8 ∨ k = 9) (ht : t ≠ 10) (ht9 : t ≠ 9) (h88 : ¬ (t = 8 ∧ k = 8)) (hc : c + 1 ≤ C) (hC : C < 199) (hq : 510 ≤ q) (hQ : q ≤ Q) (hR : R.length < 3) (hb : tc_blk a5 a6 a7 a8 a9 a10 a11 (t :: R)) (hM : tc_M a12)
    (H : tc_K post le co so ac pl ru pc a1 a2 a3 a4 a13 C Q (k :: R)) : wX_openSection_41 post (nI k) (nI R.length) le co so (nI c) (nI q) (nI (R.length + 1)) ac pl ru pc a1 a2 a3 a4 a5 a6 a7 a8 a9 a10 a11 a12 a13 := by
  have hs : R.length < 2 ^ 31 := by omega
  have hk8 : 8 ≤ k := by omega
  have hk9 : k ≤ 9 := by omega
  have t7 : 7 ≤ t := hb.1.1
  have t10 : t ≤ 10 := hb.1.2.1
  have g8 : k = 8 → t = 7 := by omega
  have ec : (nI R.length).toNatClampNeg = R.length := nI_clamp hs
  obtain ⟨⟨_, _, _, hx⟩, hr⟩ := hb
  obtain ⟨e5, p8, p9, p10, p11, j8, j9⟩ := hx ht
  obtain ⟨z9, hz9, ez9⟩ := j9 ht9
  unfold wX_openSection_41
  refine tc_wr c 9 364 hM (by omega) (by omega) (by omega) (by omega) (by omega) rfl rfl (fun m hM => ?_)
  refine pk_eq k 8 (fun e => ?_) (fun n8 => ?_)
  · obtain ⟨z8, hz8, ez8⟩ := j8 (g8 e)
    refine ⟨pk_in R.length 4 (by omega), ?_⟩
    refine tc_dr z8 10 (c + 1) hM (by omega) (by omega) (by omega) (by omega) (by omega) (by rw [ec]; exact ez8) rfl rfl (fun m hM => ⟨pk_in R.length 4 (by omega), nm_r (tc_ups hs) ?_⟩)
    refine H (c + 1) q _ _ _ _ _ _ _ m hc hq hQ ⟨⟨by omega, by omega, fun z => absurd z (by omega), fun _ => ⟨e5, Or.inl pk_us, p9, p10, p11, fun z => absurd z (by omega), fun _ => ⟨z9, hz9, ez9⟩⟩⟩, ?_⟩ hM
    exact tc_blk_c (fun j hj => ⟨rfl, rfl, rfl, pk_un (by omega), rfl, rfl, rfl⟩) hr
  · refine ⟨pk_in R.length 4 (by omega), ?_⟩
    refine tc_dr z9 11 (c + 1) hM (by omega) (by omega) (by omega) (by omega) (by omega) (by rw [ec]; exact ez9) rfl rfl (fun m hM => ⟨pk_in R.length 4 (by omega), nm_r (tc_ups hs) ?_⟩)
    refine H (c + 1) q _ _ _ _ _ _ _ m hc hq hQ ⟨⟨by omega, by omega, fun z => absurd z (by omega), fun _ => ⟨e5, p8, Or.inl pk_us, p10, p11, fun z => absurd z (by omega), fun z => absurd (hk.resolve_left n8) z⟩⟩, ?_⟩ hM
    exact tc_blk_c (fun j hj => ⟨rfl, rfl, rfl, rfl, pk_un (by omega), rfl, rfl⟩) hr
theorem tc_openSection {post : St1 → Prop} {le co so ac pl ru pc : Int32} {a1 a2 a3 a4 a5 a6 a7 a8 a9 a10 a11 a12 a13 : Nat → Int32} {c q k t C Q : Nat} {R : List Nat} (hk : k = 8 ∨ k = 9) (ht : t ≠ 10) (ht9 : t ≠ 9) (h88 : ¬ (t = 8 ∧ k = 8)) (hc : c + 1 ≤ C) (hC : C < 199) (hq : 510 ≤ q) (hQ : q ≤ Q) (hR : R.length < 3) (hb : tc_blk a5 a6 a7 a8 a9 a10 a11 (t :: R)) (hM : tc_M a12)
    (H : tc_K post le co so ac pl ru pc a1 a2 a3 a4 a13 C Q (k :: R)) : wpX_openSection post (le, co, so, nI c, nI q, nI (t :: R).length, ac, pl, ru, pc, a1, a2, a3, a4, a5, a6, a7, a8, a9, a10, a11, a12, a13) (nI k) := by
  have hs : R.length < 2 ^ 31 := by omega
  unfold wpX_openSection
  obtain ⟨⟨t7, t10, hl, hx⟩, hr⟩ := hb
  obtain ⟨e5, p8, p9, p10, p11, j8, j9⟩ := hx ht
  refine nm_r (nI_pred R.length) ⟨pk_in R.length 4 (by omega), br_c (fun _ => ⟨pk_in R.length 4 (by omega), nm_r (tc_up16 hs (by omega)) ?_⟩) (fun _ => ⟨pk_in R.length 4 (by omega), nm_r (tc_up16 hs (by omega)) ?_⟩)⟩
  · refine tc_os41 hk ht ht9 h88 hc hC hq hQ hR ⟨⟨t7, t10, fun z => absurd z ht, fun _ => ⟨e5, p8, p9, p10, Or.inr ⟨c, by omega, pk_us⟩, j8, j9⟩⟩, ?_⟩ hM H
    exact tc_blk_c (fun j hj => ⟨rfl, rfl, rfl, rfl, rfl, rfl, pk_un (by omega)⟩) hr
  · refine tc_os41 hk ht ht9 h88 hc hC hq hQ hR ⟨⟨t7, t10, fun z => absurd z ht, fun _ => ⟨e5, p8, p9, Or.inr ⟨c, by omega, pk_us⟩, p11, j8, j9⟩⟩, ?_⟩ hM H
    exact tc_blk_c (fun j hj => ⟨rfl, rfl, rfl, rfl, rfl, pk_un (by omega), rfl⟩) hr
/-! END -/
theorem tc_cb159 {post : St1 → Prop} {le co so pe oc ac pl ru pc : Int32} {a1 a2 a3 a4 a5 a6 a7 a8 a9 a10 a11 a12 a13 : Nat → Int32} {x c : Nat} (hx : x < 4) (hc : c < 200) (hj : tc_jp (a11 x)) (hM : tc_M a12) (H : ∀ m, tc_M m → post (le, co, so, nI c, pe, oc, ac, pl, ru, pc, a1, a2, a3, a4, a5, a6, a7, a8, a9, a10, a11, m, a13)) : wX_closeBlock_159 post (nI x) le co so (nI c) pe oc ac pl ru pc a1 a2 a3 a4 a5 a6 a7 a8 a9 a10 a11 a12 a13 := by
  have ec : (nI x).toNatClampNeg = x := nI_clamp (by omega)
  unfold wX_closeBlock_159
  refine ⟨pk_in x 4 hx, ?_⟩
  rcases hj with e | ⟨z, hz, e⟩
  · exact br_t (by rw [ec, e]; decide) (H _ hM)
  · exact br_f (by rw [ec, e]; exact nI_pos (by omega)) ⟨pk_in x 4 hx, tc_dr z 9 c hM hz (by omega) (by omega) (by omega) (by omega) (by rw [ec]; exact e) rfl rfl H⟩
theorem tc_cb134 {post : St1 → Prop} {le co so pe oc ac pl ru pc : Int32} {a1 a2 a3 a4 a5 a6 a7 a8 a9 a10 a11 a12 a13 : Nat → Int32} {x c : Nat} (hx : x < 4) (hc : c < 200) (hj : tc_jp (a10 x)) (hj2 : tc_jp (a11 x)) (hM : tc_M a12) (H : ∀ m, tc_M m → post (le, co, so, nI c, pe, oc, ac, pl, ru, pc, a1, a2, a3, a4, a5, a6, a7, a8, a9, a10, a11, m, a13)) : wX_closeBlock_134 post (nI x) le co so (nI c) pe oc ac pl ru pc a1 a2 a3 a4 a5 a6 a7 a8 a9 a10 a11 a12 a13 := by
  have ec : (nI x).toNatClampNeg = x := nI_clamp (by omega)
  unfold wX_closeBlock_134
  refine ⟨pk_in x 4 hx, ?_⟩
  rcases hj with e | ⟨z, hz, e⟩
  · exact br_t (by rw [ec, e]; decide) (tc_cb159 hx hc hj2 hM H)
  · exact br_f (by rw [ec, e]; exact nI_pos (by omega)) ⟨pk_in x 4 hx, tc_dr z 9 c hM hz (by omega) (by omega) (by omega) (by omega) (by rw [ec]; exact e) rfl rfl (fun m hM => tc_cb159 hx hc hj2 hM H)⟩
theorem tc_cb109 {post : St1 → Prop} {le co so pe oc ac pl ru pc : Int32} {a1 a2 a3 a4 a5 a6 a7 a8 a9 a10 a11 a12 a13 : Nat → Int32} {x c : Nat} (hx : x < 4) (hc : c < 200) (hj : tc_jp (a9 x)) (hj1 : tc_jp (a10 x)) (hj2 : tc_jp (a11 x)) (hM : tc_M a12) (H : ∀ m, tc_M m → post (le, co, so, nI c, pe, oc, ac, pl, ru, pc, a1, a2, a3, a4, a5, a6, a7, a8, a9, a10, a11, m, a13)) : wX_closeBlock_109 post (nI x) le co so (nI c) pe oc ac pl ru pc a1 a2 a3 a4 a5 a6 a7 a8 a9 a10 a11 a12 a13 := by
  have ec : (nI x).toNatClampNeg = x := nI_clamp (by omega)
  unfold wX_closeBlock_109
  refine ⟨pk_in x 4 hx, ?_⟩
  rcases hj with e | ⟨z, hz, e⟩
  · exact br_t (by rw [ec, e]; decide) (tc_cb134 hx hc hj1 hj2 hM H)
  · exact br_f (by rw [ec, e]; exact nI_pos (by omega)) ⟨pk_in x 4 hx, tc_dr z 11 c hM hz (by omega) (by omega) (by omega) (by omega) (by rw [ec]; exact e) rfl rfl (fun m hM => tc_cb134 hx hc hj1 hj2 hM H)⟩
theorem tc_closeBlock {post : St1 → Prop} {le co so ac pl ru pc : Int32} {a1 a2 a3 a4 a5 a6 a7 a8 a9 a10 a11 a12 a13 : Nat → Int32} {c q t C Q : Nat} {R : List Nat} (hc : c + 4 ≤ C) (hC : C < 199) (hq : 510 ≤ q) (hQ : q ≤ Q) (hR : R.length < 3) (hb : tc_blk a5 a6 a7 a8 a9 a10 a11 (t :: R)) (hM : tc_M a12)
    (H : tc_K post le co so ac pl ru pc a1 a2 a3 a4 a13 C Q R) : wpX_closeBlock post (le, co, so, nI c, nI q, nI (t :: R).length, ac, pl, ru, pc, a1, a2, a3, a4, a5, a6, a7, a8, a9, a10, a11, a12, a13) := by
  have hs : R.length < 2 ^ 31 := by omega
  have ec : (nI R.length).toNatClampNeg = R.length := nI_clamp hs
  obtain ⟨⟨t7, t10, hl, hx⟩, hr⟩ := hb
  have vi : vp_in (nI R.length) 4 := pk_in R.length 4 (by omega)
  unfold wpX_closeBlock
  refine nm_r (nI_pred R.length) ⟨vi, ?_⟩
  by_cases e10 : t = 10
  · obtain ⟨e5, ⟨z, hz, ez⟩, ⟨y, hy, hy2, ey⟩⟩ := hl e10
    refine br_t (by rw [ec]; exact e5) ⟨vi, nm_r (show a7 (nI R.length).toNatClampNeg = nI y by rw [ec]; exact ey) ?_⟩
    refine tc_wr c 1 y hM (by omega) (by omega) (by omega) (by omega) (by omega) rfl rfl (fun m hM => ?_)
    refine tc_wr (c + 1) 4 506 hM (by omega) (by omega) (by omega) (by omega) (by omega) rfl rfl (fun m hM => ?_)
    refine tc_wr (c + 2) 2 y hM (by omega) (by omega) (by omega) (by omega) (by omega) rfl rfl (fun m hM => ⟨vi, ?_⟩)
    refine tc_wr (c + 3) 9 z hM (by omega) (by omega) (by omega) (by omega) (by omega) rfl (by rw [ec]; exact ez) (fun m hM => ⟨vi, ?_⟩)
    exact tc_dr (z + 1) 10 (c + 4) hM (by omega) (by omega) (by omega) (by omega) (by omega) (by rw [ec, ez]; exact nI_1 z) rfl rfl (fun m hM => H (c + 4) q _ _ _ _ _ _ _ m hc hq hQ hr hM)
  · obtain ⟨e5, p8, p9, p10, p11, j8, j9⟩ := hx e10
    have K : ∀ m, tc_M m → wX_closeBlock_109 post (nI R.length) le co so (nI c) (nI q) (nI R.length) ac pl ru pc a1 a2 a3 a4 a5 a6 a7 a8 a9 a10 a11 m a13 := fun m hM => tc_cb109 (by omega) (by omega) p9 p10 p11 hM (fun m hM => H c q _ _ _ _ _ _ _ m (by omega) hq hQ hr hM)
    refine br_f (by rw [ec, e5]; decide) ⟨vi, ?_⟩
    rcases p8 with e | ⟨z, hz, e⟩
    · exact br_t (by rw [ec, e]; decide) (K _ hM)
    · exact br_f (by rw [ec, e]; exact nI_pos (by omega)) ⟨vi, tc_dr z 10 c hM hz (by omega) (by omega) (by omega) (by omega) (by rw [ec]; exact e) rfl rfl K⟩
/-! arithmetic -/
theorem tc_ca111 {post : St1 → Prop} {le co so pe oc ac pl ru pc : Int32} {a1 a2 a3 a4 a5 a6 a7 a8 a9 a10 a11 a12 a13 : Nat → Int32} {i c f : Nat} (hi : i < 40) (hc : c < 200) (hf : f ≤ 5) (ef : a2 i = nI f) (hM : tc_M a12) (H : ∀ m, tc_M m → post (le, co, so, nI (c + 1), pe, oc, ac, pl, ru, pc, a1, a2, a3, a4, a5, a6, a7, a8, a9, a10, a11, m, a13)) : wX_compileArithmetic_111 post (nI i) le co so (nI c) pe oc ac pl ru pc a1 a2 a3 a4 a5 a6 a7 a8 a9 a10 a11 a12 a13 := by
  have ec : (nI i).toNatClampNeg = i := nI_clamp (by omega)
  unfold wX_compileArithmetic_111
  exact ⟨pk_in i 40 hi, tc_wr c 2 (500 + f) hM hc (by omega) (by omega) (by omega) (by omega) rfl (by rw [ec, ef]; exact nI_add 500 f) H⟩
theorem tc_arith {post : St1 → Prop} {le co so pe oc ac pl ru pc : Int32} {a1 a2 a3 a4 a5 a6 a7 a8 a9 a10 a11 a12 a13 : Nat → Int32} {i c k f s t : Nat} (hi : i < 40) (hc : c + 3 < 200) (hf : f ≤ 5) (hs : s ≤ 5) (ht : t ≤ 5) (hk : k ≤ 12) (ek : a1 i = nI k) (ef : a2 i = nI f) (es : a3 i = nI s) (et : a4 i = nI t) (hM : tc_M a12)
    (H : ∀ m, tc_M m → post (le, co, so, nI (c + 3), pe, oc, ac, pl, ru, pc, a1, a2, a3, a4, a5, a6, a7, a8, a9, a10, a11, m, a13)) : wpX_compileArithmetic post (le, co, so, nI c, pe, oc, ac, pl, ru, pc, a1, a2, a3, a4, a5, a6, a7, a8, a9, a10, a11, a12, a13) (nI i) := by
  have ec : (nI i).toNatClampNeg = i := nI_clamp (by omega)
  have vi : vp_in (nI i) 40 := pk_in i 40 hi
  unfold wpX_compileArithmetic
  refine ⟨vi, nm_r (show a1 (nI i).toNatClampNeg = nI k by rw [ec, ek]) ⟨vi, nm_r (show 500 + a4 (nI i).toNatClampNeg = nI (500 + t) by rw [ec, et]; exact nI_add 500 t) ⟨vi, ?_⟩⟩⟩
  refine tc_wr c 1 (500 + s) hM (by omega) (by omega) (by omega) (by omega) (by omega) rfl (by rw [ec, es]; exact nI_add 500 s) (fun m hM => ?_)
  have K : ∀ m, tc_M m → wX_compileArithmetic_111 post (nI i) le co so (nI (c + 2)) pe oc ac pl ru pc a1 a2 a3 a4 a5 a6 a7 a8 a9 a10 a11 m a13 := fun m hM => tc_ca111 hi (by omega) hf ef hM H
  refine pk_eq k 4 (fun _ => tc_wr (c + 1) 7 364 hM (by omega) (by omega) (by omega) (by omega) (by omega) rfl rfl K) (fun n4 => ?_)
  refine pk_eq k 5 (fun _ => tc_wr (c + 1) 8 364 hM (by omega) (by omega) (by omega) (by omega) (by omega) rfl rfl K) (fun n5 => ?_)
  refine pk_eq k 1 (fun _ => tc_wr (c + 1) 3 (500 + t) hM (by omega) (by omega) (by omega) (by omega) (by omega) rfl rfl K) (fun n1 => ?_)
  refine pk_eq k 2 (fun _ => tc_wr (c + 1) 4 (500 + t) hM (by omega) (by omega) (by omega) (by omega) (by omega) rfl rfl K) (fun n2 => ?_)
  exact pk_eq k 3 (fun _ => tc_wr (c + 1) 5 (500 + t) hM (by omega) (by omega) (by omega) (by omega) (by omega) rfl rfl K) (fun n3 => tc_wr (c + 1) 6 (500 + t) hM (by omega) (by omega) (by omega) (by omega) (by omega) rfl rfl K)
/-! one statement -/
theorem tc_stmt {post : St1 → Prop} {le co so ac pl ru pc : Int32} {a1 a2 a3 a4 a5 a6 a7 a8 a9 a10 a11 a12 a13 : Nat → Int32} {n i c q C Q : Nat} {S S' : List Nat} (hn : n ≤ 40) (hi : i < n) (hs : tc_src n a1 a2 a3 a4) (hst : tc_st (tc_kd a1 i) S = some S') (hS : S.length ≤ 3) (hc : c + 4 ≤ C) (hC : C < 199) (hq : 510 ≤ q) (hQ : q + 2 ≤ Q) (hQ2 : Q < 600)
    (hb : tc_blk a5 a6 a7 a8 a9 a10 a11 S) (hM : tc_M a12) (H : tc_K post le co so ac pl ru pc a1 a2 a3 a4 a13 C Q S') : wpX_compileStatement post (le, co, so, nI c, nI q, nI S.length, ac, pl, ru, pc, a1, a2, a3, a4, a5, a6, a7, a8, a9, a10, a11, a12, a13) (nI i) := by
  obtain ⟨k, f, s, t, hk, ek, hf, hs5, es, ht5, et⟩ := hs i hi
  rw [tc_kdE ek hk] at hst
  have ec : (nI i).toNatClampNeg = i := nI_clamp (by omega)
  have vi : vp_in (nI i) 40 := pk_in i 40 (by omega)
  unfold wpX_compileStatement
  refine ⟨vi, nm_r (show a1 (nI i).toNatClampNeg = nI k by rw [ec, ek]) ?_⟩
  refine pk_eq k 0 (fun e0 => ⟨vi, ?_⟩) (fun n0 => pk_lt 6 k (fun g6 => ?_) (fun g6 => ?_))
  · rw [tc_stElse S (by omega) (by omega) (by omega)] at hst
    have eS := Option.some.inj hst
    subst eS
    refine tc_pl q hM (by omega) (by omega) (fun m hM => ?_)
    refine tc_wr c 1 q hM (by omega) (by omega) (by omega) (by omega) (by omega) rfl rfl (fun m hM => ⟨vi, ?_⟩)
    exact tc_wr (c + 1) 2 (500 + s) hM (by omega) (by omega) (by omega) (by omega) (by omega) rfl (by rw [ec, es]; exact nI_add 500 s) (fun m hM => H (c + 2) (q + 1) _ _ _ _ _ _ _ m (by omega) (by omega) (by omega) hb hM)
  · obtain ⟨ef, hf5⟩ := hf n0
    refine pk_eq k 7 (fun e => ⟨vi, ?_⟩) (fun n7 => ?_)
    · obtain ⟨h3, eS⟩ := tc_stPush (Or.inl e) hst
      subst eS
      subst e
      exact tc_openCase hf5 (by rw [ec]; exact ef) (by omega) hC hq (by omega) (by omega) hb hM H
    have Z : (k = 8 ∨ k = 9) → wX_compileStatement_91 post (nI k) le co so (nI c) (nI q) (nI S.length) ac pl ru pc a1 a2 a3 a4 a5 a6 a7 a8 a9 a10 a11 a12 a13 := fun h => by
      obtain ⟨t, R, eS, eS', g1, g2, g3⟩ := tc_stSect h hst
      subst eS
      subst eS'
      have hl : R.length + 1 ≤ 3 := hS
      unfold wX_compileStatement_91
      exact tc_openSection h g1 g2 g3 (by omega) hC hq (by omega) (by omega) hb hM H
    refine pk_eq k 8 (fun e => Z (Or.inl e)) (fun n8 => pk_eq k 9 (fun e => Z (Or.inr e)) (fun n9 => pk_eq k 10 (fun e => ⟨vi, ?_⟩) (fun n10 => pk_eq k 11 (fun e => ?_) (fun n11 => ⟨vi, ?_⟩))))
    · obtain ⟨h3, eS⟩ := tc_stPush (Or.inr e) hst
      subst eS
      subst e
      exact tc_openLoop hc hC hq hQ hQ2 (by omega) hb hM H
    · subst e
      obtain ⟨t, eS⟩ := tc_stEnd hst
      subst eS
      have hl : S'.length + 1 ≤ 3 := hS
      exact tc_closeBlock hc hC hq (by omega) (by omega) hb hM H
    · rw [tc_stElse S (by omega) (by omega) (by omega)] at hst
      have eS := Option.some.inj hst
      subst eS
      exact tc_wr c 12 (500 + f) hM (by omega) (by omega) (by omega) (by omega) (by omega) rfl (by rw [ec, ef]; exact nI_add 500 f) (fun m hM => H (c + 1) q _ _ _ _ _ _ _ m (by omega) (by omega) (by omega) hb hM)
  · obtain ⟨ef, hf5⟩ := hf n0
    rw [tc_stElse S (by omega) (by omega) (by omega)] at hst
    have eS := Option.some.inj hst
    subst eS
    exact tc_arith (by omega) (by omega) hf5 hs5 ht5 hk ek ef es et hM (fun m hM => H (c + 3) q _ _ _ _ _ _ _ m (by omega) (by omega) (by omega) hb hM)
/-! the whole compiler -/
theorem tc_comp_l {post : St1 → Prop} {co so ac pl ru pc : Int32} {a1 a2 a3 a4 a13 : Nat → Int32} {n : Nat} (hn : n ≤ 40) (hs : tc_src n a1 a2 a3 a4) (hbr : tc_br a1 n = some [])
    (H : ∀ (ce pe oc : Int32) (a5 a6 a7 a8 a9 a10 a11 a12 : Nat → Int32), tc_M a12 → post (nI n, co, so, ce, pe, oc, ac, pl, ru, pc, a1, a2, a3, a4, a5, a6, a7, a8, a9, a10, a11, a12, a13)) :
    ∀ (F i : Nat) (S : List Nat) (c q : Nat) (a5 a6 a7 a8 a9 a10 a11 a12 : Nat → Int32), i ≤ n → n - i < F → tc_br a1 i = some S → c ≤ 4 * i → 510 ≤ q → q ≤ 510 + 2 * i → tc_blk a5 a6 a7 a8 a9 a10 a11 S → tc_M a12 → wX_compile_61 post F (nI i) (nI n) co so (nI c) (nI q) (nI S.length) ac pl ru pc a1 a2 a3 a4 a5 a6 a7 a8 a9 a10 a11 a12 a13 := by
  intro F
  induction F with
  | zero => intro i _ _ _ _ _ _ _ _ _ _ _ _ h; omega
  | succ F ih =>
    intro i S c q a5 a6 a7 a8 a9 a10 a11 a12 hi hF hbi hc hq hq2 hb hM
    refine pk_le n i (fun g => ?_) (fun g => ?_)
    · exact tc_wr c 0 364 hM (by omega) (by omega) (by omega) (by omega) (by omega) rfl rfl (fun m hM => H _ _ _ _ _ _ _ _ _ _ m hM)
    · obtain ⟨S', hS'⟩ := tc_brD (i := i + 1) (n - (i + 1)) (show tc_br a1 (i + 1 + (n - (i + 1))) = some [] by rw [show i + 1 + (n - (i + 1)) = n by omega]; exact hbr)
      have hst : tc_st (tc_kd a1 i) S = some S' := by rw [← tc_brS hbi]; exact hS'
      refine tc_stmt (C := 4 * (i + 1)) (Q := 510 + 2 * (i + 1)) hn g hs hst (tc_brL i hbi) (by omega) (by omega) hq (by omega) (by omega) hb hM ?_
      intro c' q' a5 a6 a7 a8 a9 a10 a11 a12 h1 h2 h3 h4 h5
      exact nm_r (nI_1 i) (ih (i + 1) S' c' q' a5 a6 a7 a8 a9 a10 a11 a12 (by omega) (by omega) hS' h1 h2 h3 h4 h5)
theorem tc_compile {post : St1 → Prop} {co so ce pe oc ac pl ru pc : Int32} {a1 a2 a3 a4 a5 a6 a7 a8 a9 a10 a11 a12 a13 : Nat → Int32} {n : Nat} (hn : n ≤ 40) (hs : tc_src n a1 a2 a3 a4) (hM : tc_M a12)
    (H : ∀ (co so ce pe oc : Int32) (a5 a6 a7 a8 a9 a10 a11 a12 : Nat → Int32), tc_M a12 → post (nI n, co, so, ce, pe, oc, ac, pl, ru, pc, a1, a2, a3, a4, a5, a6, a7, a8, a9, a10, a11, a12, a13)) : wpX_compile post (nI n, co, so, ce, pe, oc, ac, pl, ru, pc, a1, a2, a3, a4, a5, a6, a7, a8, a9, a10, a11, a12, a13) := by
  unfold wpX_compile
  refine br_c (fun _ => ?_) (fun _ => H _ _ _ _ _ _ _ _ _ _ _ _ _ hM)
  refine tc_blocksFit hn (fun j hj => ?_) (fun b => ⟨rfl, rfl, br_t rfl (H _ _ _ _ _ _ _ _ _ _ _ _ _ hM)⟩) (fun b hbr => ⟨rfl, rfl, br_f (by decide) ?_⟩)
  · obtain ⟨k, f, s, t, hk, ek, _⟩ := hs j hj
    exact ⟨k, hk, ek⟩
  · refine tc_wordOf 1 (by decide) (by decide) (by decide) (nm_e ⟨n + 1, ?_⟩)
    exact tc_comp_l hn hs hbr (fun _ _ _ _ _ _ _ _ _ _ _ h => H _ _ _ _ _ _ _ _ _ _ _ _ _ h) (n + 1) 0 [] 0 510 _ _ _ _ _ _ _ _ (by omega) (by omega) rfl (by omega) (by omega) (by omega) trivial (tc_Mdata hM (by decide) ⟨_, tc_wd_lt _ 9 (by decide), rfl⟩)
end
section
/-! a run, in general -/
theorem tc_run_l {post : Int32 → St1 → Prop} {le co so ce pe oc : Int32} {a1 a2 a3 a4 a5 a6 a7 a8 a9 a10 a11 : Nat → Int32} (H : ∀ (r ac pl ru pc : Int32) (a12 a13 : Nat → Int32), tc_M a12 → post r (le, co, so, ce, pe, oc, ac, pl, ru, pc, a1, a2, a3, a4, a5, a6, a7, a8, a9, a10, a11, a12, a13)) :
    ∀ (F i k : Nat) (ac pl ru : Int32) (a12 a13 : Nat → Int32), i ≤ 40000 → 40000 - i < F → k ≤ i → tc_W ac → (ru = 0 ∨ ∃ p, p < 500 ∧ pl = nI p) → tc_M a12 → wX_run_37 post F (nI i) le co so ce pe oc ac pl ru (nI k) a1 a2 a3 a4 a5 a6 a7 a8 a9 a10 a11 a12 a13 := by
  intro F
  induction F with
  | zero => intro i _ _ _ _ _ _ _ h; omega
  | succ F ih =>
    intro i k ac pl ru a12 a13 hi hF hk hac hr hM
    refine pk_le 40000 i (fun _ => H _ _ _ _ _ _ _ hM) (fun g => br_c (fun _ => H _ _ _ _ _ _ _ hM) (fun nz => ?_))
    obtain ⟨p, hp, ep⟩ := hr.resolve_left nz
    obtain ⟨op, cell, ho, hc, em, h2, h9, h0⟩ := hM.2 p hp
    have hp1 : op ≠ 0 → p + 1 < 500 := fun z => by
      rcases Nat.lt_or_ge p 200 with q | q
      · omega
      · exact absurd (h0 q) z
    refine tc_exec ep (by omega) em ho hc hac (hM.1 cell (by omega)) rfl (by omega) (fun e => ?_) (fun e => ?_) (fun e => ?_) (fun r hw _ g3 g8 => ?_) (fun e b => ?_) (fun g1 g2 => ⟨?_, ?_⟩)
    · exact nm_r (nI_1 i) (ih (i + 1) k _ _ _ _ _ (by omega) (by omega) (by omega) hac (Or.inl rfl) hM)
    · exact nm_r (nI_1 i) (ih (i + 1) k _ _ _ _ _ (by omega) (by omega) (by omega) (hM.1 cell (by omega)) (Or.inr ⟨p + 1, hp1 (by omega), rfl⟩) hM)
    · exact nm_r (nI_1 i) (ih (i + 1) k _ _ _ _ _ (by omega) (by omega) (by omega) hac (Or.inr ⟨p + 1, hp1 (by omega), rfl⟩) (tc_Mdata hM (h2 e) hac))
    · exact nm_r (nI_1 i) (ih (i + 1) k _ _ _ _ _ (by omega) (by omega) (by omega) hw (Or.inr ⟨p + 1, hp1 (by omega), rfl⟩) hM)
    · exact nm_r (nI_1 i) (ih (i + 1) (k + 1) _ _ _ _ _ (by omega) (by omega) (by omega) hac (Or.inr ⟨p + 1, hp1 (by omega), rfl⟩) hM)
    · exact nm_r (nI_1 i) (ih (i + 1) k _ _ _ _ _ (by omega) (by omega) (by omega) hac (Or.inr ⟨p + 1, hp1 (by omega), rfl⟩) hM)
    · exact nm_r (nI_1 i) (ih (i + 1) k _ _ _ _ _ (by omega) (by omega) (by omega) hac (Or.inr ⟨cell, h9 g1 g2, rfl⟩) hM)
theorem tc_run {post : Int32 → St1 → Prop} {co so ce pe oc ac pl ru pc : Int32} {a1 a2 a3 a4 a5 a6 a7 a8 a9 a10 a11 a12 a13 : Nat → Int32} {n : Nat} (hn : n ≤ 40) (hs : tc_src n a1 a2 a3 a4) (hM : tc_M a12)
    (H : ∀ (r : Int32) (co so ce pe oc ac pl ru pc : Int32) (a5 a6 a7 a8 a9 a10 a11 a12 a13 : Nat → Int32), tc_M a12 → post r (nI n, co, so, ce, pe, oc, ac, pl, ru, pc, a1, a2, a3, a4, a5, a6, a7, a8, a9, a10, a11, a12, a13)) : wpX_run post (nI n, co, so, ce, pe, oc, ac, pl, ru, pc, a1, a2, a3, a4, a5, a6, a7, a8, a9, a10, a11, a12, a13) := by
  unfold wpX_run
  refine tc_compile hn hs hM (fun co so ce pe oc a5 a6 a7 a8 a9 a10 a11 a12 hM => br_c (fun _ => H _ _ _ _ _ _ _ _ _ _ _ _ _ _ _ _ _ _ _ hM) (fun _ => ⟨40001, ?_⟩))
  exact tc_run_l (fun r ac pl ru pc a12 a13 hM => H r _ _ _ _ _ _ _ _ _ _ _ _ _ _ _ _ _ _ hM) 40001 0 0 0 0 1 a12 a13 (by omega) (by omega) (by omega) tc_W0 (Or.inr ⟨0, by decide, rfl⟩) hM
/-! the exact run of one SUB v v v -/
theorem tc_compSub {post : St1 → Prop} {so ce pe oc ac pl ru pc : Int32} {a1 a2 a3 a4 a5 a6 a7 a8 a9 a10 a11 a12 a13 : Nat → Int32} {v : Nat} (hv : v ≤ 5) (e1 : a1 0 = nI 2) (e2 : a2 0 = nI v) (e3 : a3 0 = nI v) (e4 : a4 0 = nI v) (hM : tc_M a12)
    (H : ∀ m, tc_M m → m 0 = tc_enc 1 (500 + v) → m 1 = tc_enc 4 (500 + v) → m 2 = tc_enc 2 (500 + v) → m 3 = tc_enc 0 364 → (∀ j, 500 ≤ j → j < 506 → m j = a12 j) → post (nI 1, 1, 1, nI 4, 510, 0, ac, pl, ru, pc, a1, a2, a3, a4, a5, a6, a7, a8, a9, a10, a11, m, a13)) :
    wpX_compile post (nI 1, 0, so, ce, pe, oc, ac, pl, ru, pc, a1, a2, a3, a4, a5, a6, a7, a8, a9, a10, a11, a12, a13) := by
  have vi : vp_in (0 : Int32) 40 := pk_in 0 40 (by decide)
  have x1 : a1 (0 : Int32).toNatClampNeg = nI 2 := e1
  have x2 : 500 + a2 (0 : Int32).toNatClampNeg = nI (500 + v) := by
    rw [show (0 : Int32).toNatClampNeg = 0 from rfl, e2]; exact nI_add 500 v
  have x3 : 500 + a3 (0 : Int32).toNatClampNeg = nI (500 + v) := by
    rw [show (0 : Int32).toNatClampNeg = 0 from rfl, e3]; exact nI_add 500 v
  have x4 : 500 + a4 (0 : Int32).toNatClampNeg = nI (500 + v) := by
    rw [show (0 : Int32).toNatClampNeg = 0 from rfl, e4]; exact nI_add 500 v
  unfold wpX_compile
  refine br_t rfl ⟨2, ?_⟩
  refine br_f (by decide) ⟨vi, nm_r x1 (br_f (by decide) (br_f (by decide) (br_f (by decide) (br_f (by decide) (br_f (by decide) (nm_r (show (0 : Int32) + 1 = nI 1 by decide) ?_))))))⟩
  refine br_t (by decide) (br_t rfl ⟨rfl, rfl, br_f (by decide) ?_⟩)
  refine tc_wordOf 1 (by decide) (by decide) (by decide) (nm_e ⟨2, ?_⟩)
  refine br_f (by decide) ?_
  unfold wpX_compileStatement
  refine ⟨vi, nm_r x1 (br_f (by decide) (br_f (by decide) ?_))⟩
  unfold wpX_compileArithmetic
  refine ⟨vi, nm_r x1 ⟨vi, nm_r x4 ⟨vi, ?_⟩⟩⟩
  refine tc_write 0 1 (500 + v) (by omega) (by omega) (by omega) rfl x3 ?_
  refine br_f (by decide) (br_f (by decide) (br_f (by decide) (br_t (by decide) ?_)))
  refine tc_write 1 4 (500 + v) (by omega) (by omega) (by omega) rfl rfl ?_
  refine ⟨vi, tc_write 2 2 (500 + v) (by omega) (by omega) (by omega) rfl x2 ?_⟩
  refine nm_r (show (0 : Int32) + 1 = nI 1 by decide) (br_t (by decide) ?_)
  refine tc_write 3 0 364 (by omega) (by omega) (by omega) rfl rfl ?_
  have hW : tc_W (nI (tc_wd 1 9)) := ⟨_, tc_wd_lt _ 9 (by decide), rfl⟩
  refine H _ ?_ ?_ ?_ ?_ ?_ (fun j h5 h6 => ?_)
  · exact tc_Mcode (tc_Mcode (tc_Mcode (tc_Mcode (tc_Mdata hM (by decide) hW) (by decide) (by decide) (by omega) (by omega) (by omega)) (by decide) (by decide) (by omega) (by omega) (by omega)) (by decide) (by decide) (by omega) (by omega) (by omega)) (by decide) (by decide) (by omega) (by omega) (by omega)
  · rw [pk_un (by decide), pk_un (by decide), pk_un (by decide), pk_us]
  · rw [pk_un (by decide), pk_un (by decide), pk_us]
  · rw [pk_un (by decide), pk_us]
  · rw [pk_us]
  · rw [pk_un (by omega), pk_un (by omega), pk_un (by omega), pk_un (by omega), pk_un (by omega)]
theorem tc_runSub {post : Int32 → St1 → Prop} {so ce pe oc ac pl ru pc : Int32} {a1 a2 a3 a4 a5 a6 a7 a8 a9 a10 a11 a12 a13 : Nat → Int32} {v : Nat} (hv : v ≤ 5) (e1 : a1 0 = nI 2) (e2 : a2 0 = nI v) (e3 : a3 0 = nI v) (e4 : a4 0 = nI v) (hM : tc_M a12)
    (H : ∀ (co so ce pe oc ac pl ru pc : Int32)  (m : Nat → Int32), tc_M m → m (500 + v) = 0 → (∀ j, 500 ≤ j → j < 506 → j ≠ 500 + v → m j = a12 j) → post 0 (nI 1, co, so, ce, pe, oc, ac, pl, ru, pc, a1, a2, a3, a4, a5, a6, a7, a8, a9, a10, a11, m, a13)) :
    wpX_run post (nI 1, 0, so, ce, pe, oc, ac, pl, ru, pc, a1, a2, a3, a4, a5, a6, a7, a8, a9, a10, a11, a12, a13) := by
  unfold wpX_run
  refine tc_compSub hv e1 e2 e3 e4 hM (fun m hM m0 m1 m2 m3 mv => br_f (by decide) ⟨5, ?_⟩)
  have hw : tc_W (m (500 + v)) := hM.1 _ (by omega)
  refine br_f (by decide) (br_f (by decide) ?_)
  refine tc_exec (p := 0) (k := 0) rfl (by decide) m0 (by decide) (by omega) tc_W0 hw rfl (by decide) (fun z => absurd z (by decide)) (fun _ => nm_r (show (0 : Int32) + 1 = nI 1 by decide) ?_) (fun z => absurd z (by decide)) (fun _ _ _ z => absurd z (by decide)) (fun z => absurd z (by decide)) (fun z => absurd z (by decide))
  refine br_f (by decide) (br_f (by decide) ?_)
  refine tc_exec (p := 1) (k := 0) rfl (by decide) m1 (by decide) (by omega) hw hw rfl (by decide) (fun z => absurd z (by decide)) (fun z => absurd z (by decide)) (fun z => absurd z (by decide)) (fun r hr h _ _ => nm_r (show nI 1 + 1 = nI 2 by decide) ?_) (fun z => absurd z (by decide)) (fun z => absurd z (by decide))
  have er := h rfl rfl
  subst er
  refine br_f (by decide) (br_f (by decide) ?_)
  refine tc_exec (p := 2) (k := 0) rfl (by decide) m2 (by decide) (by omega) tc_W0 hw rfl (by decide) (fun z => absurd z (by decide)) (fun z => absurd z (by decide)) (fun _ => nm_r (show nI 2 + 1 = nI 3 by decide) ?_) (fun _ _ _ z => absurd z (by decide)) (fun z => absurd z (by decide)) (fun z => absurd z (by decide))
  refine br_f (by decide) (br_f (by decide) ?_)
  have h3 : upd m (500 + v) 0 3 = tc_enc 0 364 := by rw [pk_un (by omega), m3]
  have hM' : tc_M (upd m (500 + v) 0) := tc_Mdata hM (by omega) tc_W0
  refine tc_exec (p := 3) (k := 0) rfl (by decide) h3 (by decide) (by decide) tc_W0 (hM'.1 364 (by decide)) rfl (by decide) (fun _ => nm_r (show nI 3 + 1 = nI 4 by decide) ?_) (fun z => absurd z (by decide)) (fun z => absurd z (by decide)) (fun _ _ _ z => absurd z (by decide)) (fun z => absurd z (by decide)) (fun z => absurd z (by decide))
  refine br_f (by decide) (br_t rfl ?_)
  exact H _ _ _ _ _ _ _ _ _ _ hM' pk_us (fun j h5 h6 hj => by rw [pk_un hj]; exact mv j h5 h6)
end
section
/-! the calls that the law makes -/
theorem tc_isVar {post : Int32 → Prop} {le co so ce pe oc ac pl ru pc : Int32} {a1 a2 a3 a4 a5 a6 a7 a8 a9 a10 a11 a12 a13 : Nat → Int32} {v : Nat} (hv : v ≤ 5) (H : post 1) : wpX_isVariable post (le, co, so, ce, pe, oc, ac, pl, ru, pc, a1, a2, a3, a4, a5, a6, a7, a8, a9, a10, a11, a12, a13) (nI v) :=
  br_f (nI_pos (by omega)) (pk_lt 5 v (fun z => absurd z (by omega)) (fun _ => H))
theorem tc_c5 {v : Nat} (hv : v ≤ 5) : ((500 : Int32) + nI v).toNatClampNeg = 500 + v := by
  rw [show (500 : Int32) + nI v = nI (500 + v) from nI_add 500 v, nI_clamp (by omega)]
theorem tc_variable {post : Int32 → Prop} {le co so ce pe oc ac pl ru pc : Int32} {a1 a2 a3 a4 a5 a6 a7 a8 a9 a10 a11 a12 a13 : Nat → Int32} {v : Nat} (hv : v ≤ 5) (H : post (tc_val (a12 (500 + v)))) : wpX_variable post (le, co, so, ce, pe, oc, ac, pl, ru, pc, a1, a2, a3, a4, a5, a6, a7, a8, a9, a10, a11, a12, a13) (nI v) := by
  unfold wpX_variable
  refine tc_isVar hv (br_f (by decide) ⟨pk_in (500 + v) 729 (by omega) (nI_add 500 v), ?_⟩)
  rw [tc_c5 hv]
  exact tc_valueOf H
theorem tc_trit {post : Int32 → Prop} {le co so ce pe oc ac pl ru pc : Int32} {a1 a2 a3 a4 a5 a6 a7 a8 a9 a10 a11 a12 a13 : Nat → Int32} {v k : Nat} (hv : v ≤ 5) (hk : k ≤ 8) (H : post (tc_tr (a12 (500 + v)) (nI k))) : wpX_trit post (le, co, so, ce, pe, oc, ac, pl, ru, pc, a1, a2, a3, a4, a5, a6, a7, a8, a9, a10, a11, a12, a13) (nI v) (nI k) := by
  unfold wpX_trit
  refine tc_isVar hv (br_f (by decide) (br_f (nI_pos (by omega)) (pk_le k 8 (fun _ => ⟨pk_in (500 + v) 729 (by omega) (nI_add 500 v), ?_⟩) (fun z => absurd z (by omega)))))
  rw [tc_c5 hv]
  exact tc_tritOf H
theorem tc_sums13 {post : Int32 → Prop} {J : Int32 → Prop} {le co so ce pe oc ac pl ru pc : Int32} {a1 a2 a3 a4 a5 a6 a7 a8 a9 a10 a11 a12 a13 : Nat → Int32} {v : Nat} (hv : v ≤ 5) (H : J (nI (v + 1))) : ∀ k, k ≤ 9 → wL_sums_13 post J (nI v) le co so ce pe oc ac pl ru pc a1 a2 a3 a4 a5 a6 a7 a8 a9 a10 a11 a12 a13 (k + 1) (tc_hor (a12 (500 + v)) (9 - k)) (nI k + (-1))
  | 0, _ => br_t (by decide) (tc_variable hv (br_t rfl (nm_r (nI_1 v) H)))
  | k + 1, h => by
    have e : 3 * tc_hor (a12 (500 + v)) (9 - (k + 1)) + tc_tr (a12 (500 + v)) (nI k) = tc_hor (a12 (500 + v)) (9 - k) := by
      rw [show 9 - k = (9 - (k + 1)) + 1 by omega]
      show _ = 3 * tc_hor (a12 (500 + v)) (9 - (k + 1)) + tc_tr (a12 (500 + v)) (nI (8 - (9 - (k + 1))))
      rw [show 8 - (9 - (k + 1)) = k by omega]
    have t := tc_tr3 (a12 (500 + v)) (nI k)
    rw [pk_m1]
    exact br_f (nI_pos (by omega)) (tc_trit hv (by omega) (br_f (by rcases t with t | t | t <;> rw [t] <;> decide) (br_t (by rcases t with t | t | t <;> rw [t] <;> decide) (nm_r e (nm_e (tc_sums13 hv H k (by omega)))))))
theorem tc_sums2 {post : Int32 → Prop} {le co so ce pe oc ac pl ru pc : Int32} {a1 a2 a3 a4 a5 a6 a7 a8 a9 a10 a11 a12 a13 : Nat → Int32} (H : post 1) : ∀ F v, v ≤ 6 → 6 - v < F → wL_sums_2 post le co so ce pe oc ac pl ru pc a1 a2 a3 a4 a5 a6 a7 a8 a9 a10 a11 a12 a13 F (nI v) := by
  intro F
  induction F with
  | zero => intro v _ h; omega
  | succ F ih =>
    intro v hv hF
    refine pk_le 6 v (fun _ => H) (fun g => ⟨10, ?_⟩)
    have h := tc_sums13 (post := post) (le := le) (co := co) (so := so) (ce := ce) (pe := pe) (oc := oc) (ac := ac) (pl := pl) (ru := ru) (pc := pc) (a1 := a1) (a2 := a2) (a3 := a3) (a4 := a4) (a5 := a5) (a6 := a6) (a7 := a7) (a8 := a8) (a9 := a9) (a10 := a10) (a11 := a11) (a12 := a12) (a13 := a13) (v := v) (by omega) (ih (v + 1) (by omega) (by omega)) 9 (by decide)
    rw [show nI 9 + (-1) = 8 by decide] at h
    exact h
theorem tc_sums {post : Int32 → Prop} {le co so ce pe oc ac pl ru pc : Int32} {a1 a2 a3 a4 a5 a6 a7 a8 a9 a10 a11 a12 a13 : Nat → Int32} (H : post 1) : wpL_sums post (le, co, so, ce, pe, oc, ac, pl, ru, pc, a1, a2, a3, a4, a5, a6, a7, a8, a9, a10, a11, a12, a13) := ⟨7, tc_sums2 H 7 0 (by decide) (by decide)⟩
/-- the law's hash over the other variables -/
def tc_on (m : Nat → Int32) (b : Nat) : Nat → Int32
  | 0 => 0
  | v + 1 => if v = b then tc_on m b v else 31 * tc_on m b v + tc_val (m (500 + v))
theorem tc_on_c {m m' : Nat → Int32} {b : Nat} (h : ∀ j, 500 ≤ j → j < 506 → j ≠ 500 + b → m' j = m j) : ∀ v, v ≤ 6 → tc_on m' b v = tc_on m b v
  | 0, _ => rfl
  | v + 1, hv => by
    show (if v = b then tc_on m' b v else 31 * tc_on m' b v + tc_val (m' (500 + v))) = (if v = b then tc_on m b v else 31 * tc_on m b v + tc_val (m (500 + v)))
    rw [tc_on_c h v (by omega)]
    by_cases e : v = b
    · rw [if_pos e, if_pos e]
    · rw [if_neg e, if_neg e, h (500 + v) (by omega) (by omega) (by omega)]
theorem tc_ones_l {post : Int32 → Prop} {le co so ce pe oc ac pl ru pc : Int32} {a1 a2 a3 a4 a5 a6 a7 a8 a9 a10 a11 a12 a13 : Nat → Int32} {b : Nat} (hb : b < 6) (H : post (tc_on a12 b 6)) : ∀ F v, v ≤ 6 → 6 - v < F → wL_ones_4 post (nI b) le co so ce pe oc ac pl ru pc a1 a2 a3 a4 a5 a6 a7 a8 a9 a10 a11 a12 a13 F (tc_on a12 b v) (nI v) := by
  intro F
  induction F with
  | zero => intro v _ h; omega
  | succ F ih =>
    intro v hv hF
    refine pk_le 6 v (fun g => ?_) (fun g => ?_)
    · rw [show v = 6 by omega]
      exact H
    · have h := ih (v + 1) (by omega) (by omega)
      refine pk_eq v b (fun e => nm_r (nI_1 v) ?_) (fun e => tc_variable (by omega) (nm_r ?_ (nm_r (nI_1 v) h)))
      · rw [show tc_on a12 b (v + 1) = tc_on a12 b v from if_pos e] at h
        exact h
      · exact (if_neg e).symm
theorem tc_ones {post : Int32 → Prop} {le co so ce pe oc ac pl ru pc : Int32} {a1 a2 a3 a4 a5 a6 a7 a8 a9 a10 a11 a12 a13 : Nat → Int32} {b : Nat} (hb : b < 6) (H : post (tc_on a12 b 6)) : wpL_ones post (le, co, so, ce, pe, oc, ac, pl, ru, pc, a1, a2, a3, a4, a5, a6, a7, a8, a9, a10, a11, a12, a13) (nI b) := ⟨7, tc_ones_l hb H 7 0 (by decide) (by decide)⟩
/-! add -/
theorem tc_add {post : Int32 → St1 → Prop} {co so ce pe oc ac pl ru pc : Int32} {a1 a2 a3 a4 a5 a6 a7 a8 a9 a10 a11 a12 a13 : Nat → Int32} {n k a s t : Nat} {x F : Int32} (hn : n ≤ 40) (hk : k ≤ 12) (ha : a ≤ 5) (hs : s ≤ 5) (ht : t ≤ 5) (f0 : k = 0 → F = x ∧ s = a) (f1 : k ≠ 0 → F = nI a ∧ x = nI s)
    (H0 : n = 40 → post (-10001) (nI n, co, so, ce, pe, oc, ac, pl, ru, pc, a1, a2, a3, a4, a5, a6, a7, a8, a9, a10, a11, a12, a13)) (H1 : n < 40 → post (nI (n + 1)) (nI (n + 1), 0, so, ce, pe, oc, ac, pl, ru, pc, upd a1 n (nI k), upd a2 n F, upd a3 n (nI s), upd a4 n (nI t), a5, a6, a7, a8, a9, a10, a11, a12, a13)) : wpX_add post (nI n, co, so, ce, pe, oc, ac, pl, ru, pc, a1, a2, a3, a4, a5, a6, a7, a8, a9, a10, a11, a12, a13) (nI k) (nI a) x (nI t) := by
  unfold wpX_add
  refine pk_lt n 40 (fun g => ?_) (fun g => H0 (by omega))
  have hn' : n < 2 ^ 31 := by omega
  have vi : vp_in (nI n) 40 := pk_in n 40 g
  have A109 : wX_add_109 post (nI k) (nI a) x (nI t) (nI n) co so ce pe oc ac pl ru pc a1 a2 a3 a4 a5 a6 a7 a8 a9 a10 a11 a12 a13 := by
    unfold wX_add_109
    refine ⟨vi, nm_r (tc_up8 hn' (by omega)) (pk_eq k 0 (fun e => ?_) (fun e => ?_))⟩
    · unfold wX_add_137
      refine ⟨vi, nm_r (show upd a2 (nI n).toNatClampNeg x = upd a2 n F by rw [nI_clamp hn', (f0 e).1]) (br_t (by rw [e]; rfl) ?_)⟩
      exact ⟨vi, nm_r (show upd a3 (nI n).toNatClampNeg (nI a).toInt8.toInt32 = upd a3 n (nI s) by rw [(f0 e).2]; exact tc_up8 hn' (by omega)) ⟨vi, nm_r (tc_up8 hn' (by omega)) (nm_r (nI_1 n) (H1 g))⟩⟩
    · unfold wX_add_137
      refine ⟨vi, nm_r (show upd a2 (nI n).toNatClampNeg (nI a) = upd a2 n F by rw [nI_clamp hn', (f1 e).1]) (br_f (nI_ne0 (by omega) (by omega)) ?_)⟩
      exact ⟨vi, nm_r (show upd a3 (nI n).toNatClampNeg x.toInt8.toInt32 = upd a3 n (nI s) by rw [(f1 e).2]; exact tc_up8 hn' (by omega)) ⟨vi, nm_r (tc_up8 hn' (by omega)) (nm_r (nI_1 n) (H1 g))⟩⟩
  have A96 : wX_add_96 post (nI k) (nI a) x (nI t) (nI n) co so ce pe oc ac pl ru pc a1 a2 a3 a4 a5 a6 a7 a8 a9 a10 a11 a12 a13 := tc_isVar ht (br_f (by decide) A109)
  have A90 : wX_add_90 post (nI k) (nI a) x (nI t) (nI n) co so ce pe oc ac pl ru pc a1 a2 a3 a4 a5 a6 a7 a8 a9 a10 a11 a12 a13 := pk_eq k 6 (fun _ => A96) (fun _ => A109)
  have A80 : wX_add_80 post (nI k) (nI a) x (nI t) (nI n) co so ce pe oc ac pl ru pc a1 a2 a3 a4 a5 a6 a7 a8 a9 a10 a11 a12 a13 := pk_lt k 1 (fun _ => A90) (fun _ => pk_le k 3 (fun _ => A96) (fun _ => A90))
  have A57 : wX_add_57 post (nI k) (nI a) x (nI t) (nI n) co so ce pe oc ac pl ru pc a1 a2 a3 a4 a5 a6 a7 a8 a9 a10 a11 a12 a13 := by
    unfold wX_add_57
    refine pk_lt k 1 (fun _ => A80) (fun g1 => pk_lt 6 k (fun _ => A80) (fun _ => ?_))
    have ex := (f1 (by omega)).2
    subst ex
    exact tc_isVar hs (br_f (by decide) A80)
  exact br_f (nI_pos (by omega)) (pk_le k 12 (fun _ => pk_eq k 8 (fun _ => A57) (fun _ => pk_eq k 9 (fun _ => A57) (fun _ => pk_eq k 11 (fun _ => A57) (fun _ => tc_isVar ha (br_f (by decide) A57))))) (fun z => absurd z (by omega)))
theorem tc_src_s {n k f s t : Nat} {F : Int32} {a1 a2 a3 a4 : Nat → Int32} (h : tc_src n a1 a2 a3 a4) (hk : k ≤ 12) (hf : k ≠ 0 → F = nI f ∧ f ≤ 5) (hs : s ≤ 5) (ht : t ≤ 5) : tc_src (n + 1) (upd a1 n (nI k)) (upd a2 n F) (upd a3 n (nI s)) (upd a4 n (nI t)) := by
  intro j hj
  by_cases e : j = n
  · subst e
    exact ⟨k, f, s, t, hk, pk_us, fun z => ⟨by rw [pk_us]; exact (hf z).1, (hf z).2⟩, hs, pk_us, ht, pk_us⟩
  · rw [pk_un e, pk_un e, pk_un e, pk_un e]
    exact h j (by omega)
theorem tc_src_m {n m : Nat} {a1 a2 a3 a4 : Nat → Int32} (h : tc_src n a1 a2 a3 a4) (hm : m ≤ n) : tc_src m a1 a2 a3 a4 := fun j hj => h j (by omega)
/-- add in general: any answer, the source stays a source -/
theorem tc_addG {post : Int32 → St1 → Prop} {co so ce pe oc ac pl ru pc : Int32} {a1 a2 a3 a4 a5 a6 a7 a8 a9 a10 a11 a12 a13 : Nat → Int32} {n k a s t : Nat} {p0 p1 x p3 : Int32} (hn : n ≤ 40) (hsrc : tc_src n a1 a2 a3 a4) (hk : k ≤ 12) (ha : a ≤ 5) (hs : s ≤ 5) (ht : t ≤ 5) (f1 : k ≠ 0 → x = nI s) (h0 : p0 = nI k) (h1 : p1 = nI a) (h3 : p3 = nI t)
    (H : ∀ (r co : Int32) (n : Nat) (a1 a2 a3 a4 : Nat → Int32), n ≤ 40 → tc_src n a1 a2 a3 a4 → post r (nI n, co, so, ce, pe, oc, ac, pl, ru, pc, a1, a2, a3, a4, a5, a6, a7, a8, a9, a10, a11, a12, a13)) : wpX_add post (nI n, co, so, ce, pe, oc, ac, pl, ru, pc, a1, a2, a3, a4, a5, a6, a7, a8, a9, a10, a11, a12, a13) p0 p1 x p3 := by
  subst h0 h1 h3
  by_cases e : k = 0
  · exact tc_add (s := a) (F := x) hn hk ha ha ht (fun _ => ⟨rfl, rfl⟩) (fun z => absurd e z) (fun _ => H _ _ n _ _ _ _ hn hsrc) (fun g => H _ _ (n + 1) _ _ _ _ (by omega) (tc_src_s (f := a) hsrc hk (fun z => absurd e z) ha ht))
  · exact tc_add (s := s) (F := nI a) hn hk ha hs ht (fun z => absurd z e) (fun z => ⟨rfl, f1 z⟩) (fun _ => H _ _ n _ _ _ _ hn hsrc) (fun g => H _ _ (n + 1) _ _ _ _ (by omega) (tc_src_s (f := a) hsrc hk (fun _ => ⟨rfl, ha⟩) hs ht))
/-! retract, put -/
theorem tc_retract {post : Int32 → St1 → Prop} {co so ce pe oc ac pl ru pc : Int32} {a1 a2 a3 a4 a5 a6 a7 a8 a9 a10 a11 a12 a13 : Nat → Int32} {n : Nat} (hn : n ≤ 40) (H0 : n = 0 → post (-10000) (nI n, co, so, ce, pe, oc, ac, pl, ru, pc, a1, a2, a3, a4, a5, a6, a7, a8, a9, a10, a11, a12, a13)) (H1 : 0 < n → post (nI (n - 1)) (nI (n - 1), 0, so, ce, pe, oc, ac, pl, ru, pc, a1, a2, a3, a4, a5, a6, a7, a8, a9, a10, a11, a12, a13)) : wpX_retract post (nI n, co, so, ce, pe, oc, ac, pl, ru, pc, a1, a2, a3, a4, a5, a6, a7, a8, a9, a10, a11, a12, a13) := by
  unfold wpX_retract
  refine pk_eq n 0 (fun e => H0 e) (fun e => nm_r (show nI n - 1 = nI (n - 1) from pk_sub (b := 1) (by omega)) (H1 (by omega)))
theorem tc_put {post : Int32 → St1 → Prop} {le co so ce pe oc ac pl ru pc : Int32} {a1 a2 a3 a4 a5 a6 a7 a8 a9 a10 a11 a12 a13 : Nat → Int32} {v : Nat} {x : Int32} (hv : v ≤ 5) (hM : tc_M a12) (H : ∀ m, tc_M m → post 1 (le, co, so, ce, pe, oc, ac, pl, ru, pc, a1, a2, a3, a4, a5, a6, a7, a8, a9, a10, a11, m, a13)) : wpX_put post (le, co, so, ce, pe, oc, ac, pl, ru, pc, a1, a2, a3, a4, a5, a6, a7, a8, a9, a10, a11, a12, a13) (nI v) x := by
  unfold wpX_put
  exact tc_isVar hv (br_f (by decide) (tc_wordOfI (fun w hw => ⟨pk_in (500 + v) 729 (by omega) (nI_add 500 v), nm_r (show upd a12 ((500 : Int32) + nI v).toNatClampNeg w = upd a12 (500 + v) w by rw [tc_c5 hv]) (H _ (tc_Mdata hM (by omega) hw))⟩)))
end
section
/-! the law's loops, from the last to the first -/
theorem tc_l357 (L : Nat) (xs : Nat → Int32) (kc ks : Nat) : ∀ (F v : Nat) (co so ce pe oc ac pl ru pc : Int32) (a1 a2 a3 a4 a5 a6 a7 a8 a9 a10 a11 a12 a13 : Nat → Int32), v ≤ 6 → 6 - v < F → tc_M a12 → wL_law_357 (fun r => r = 1) L xs kc ks F (nI v) (nI 0) co so ce pe oc ac pl ru pc a1 a2 a3 a4 a5 a6 a7 a8 a9 a10 a11 a12 a13 := by
  intro F
  induction F with
  | zero => intro v; intros; omega
  | succ F ih =>
    intro v co so ce pe oc ac pl ru pc a1 a2 a3 a4 a5 a6 a7 a8 a9 a10 a11 a12 a13 hv hF hM
    refine pk_le 6 v (fun _ => tc_sums rfl) (fun g => ?_)
    refine tc_ones g ?_
    refine tc_add (k := 2) (a := v) (s := v) (t := v) (F := nI v) (by decide) (by decide) (by omega) (by omega) (by omega) (fun z => absurd z (by decide)) (fun _ => ⟨rfl, rfl⟩) (fun z => absurd z (by decide)) (fun _ => br_t rfl ?_)
    refine tc_runSub (v := v) (by omega) pk_us pk_us pk_us pk_us hM (fun co so ce pe oc ac pl ru pc m hM m0 mo => br_t rfl ?_)
    refine tc_variable (by omega) (br_t (by rw [m0]; decide) ?_)
    refine tc_ones g (br_t (tc_on_c mo 6 (by decide)) ?_)
    refine tc_retract (n := 1) (by decide) (fun z => absurd z (by decide)) (fun _ => br_t rfl (nm_r (nI_1 v) ?_))
    exact ih (v + 1) _ _ _ _ _ _ _ _ _ _ _ _ _ _ _ _ _ _ _ _ m _ (by omega) (by omega) hM
theorem tc_l338 (L : Nat) (xs : Nat → Int32) (kc ks : Nat) : ∀ (F k n : Nat) (co so ce pe oc ac pl ru pc : Int32) (a1 a2 a3 a4 a5 a6 a7 a8 a9 a10 a11 a12 a13 : Nat → Int32), k ≤ 40 → 40 - k < F → n + k ≤ 40 → tc_M a12 → wL_law_338 (fun r => r = 1) L xs kc ks F (nI k) (nI n) co so ce pe oc ac pl ru pc a1 a2 a3 a4 a5 a6 a7 a8 a9 a10 a11 a12 a13 := by
  intro F
  induction F with
  | zero => intro k; intros; omega
  | succ F ih =>
    intro k n co so ce pe oc ac pl ru pc a1 a2 a3 a4 a5 a6 a7 a8 a9 a10 a11 a12 a13 hk hF hn hM
    refine pk_le 40 k (fun g => ?_) (fun g => ?_)
    · have e : n = 0 := by omega
      subst e
      exact ⟨7, tc_l357 L xs kc ks 7 0 _ _ _ _ _ _ _ _ _ _ _ _ _ _ _ _ _ _ _ _ _ _ (by omega) (by omega) hM⟩
    · refine tc_retract (by omega) (fun e => nm_r (nI_1 k) (ih (k + 1) n _ _ _ _ _ _ _ _ _ _ _ _ _ _ _ _ _ _ _ _ _ _ (by omega) (by omega) (by omega) hM)) (fun e => nm_r (nI_1 k) (ih (k + 1) (n - 1) _ _ _ _ _ _ _ _ _ _ _ _ _ _ _ _ _ _ _ _ _ _ (by omega) (by omega) (by omega) hM))
theorem tc_l296 (L : Nat) (xs : Nat → Int32) (kc ks : Nat) (x2 : Int32) : ∀ (F k n : Nat) (co so ce pe oc ac pl ru pc : Int32) (a1 a2 a3 a4 a5 a6 a7 a8 a9 a10 a11 a12 a13 : Nat → Int32), k ≤ 3 → 3 - k < F → n ≤ 40 → tc_src n a1 a2 a3 a4 → tc_M a12 → wL_law_296 (fun r => r = 1) L xs x2 kc ks F (nI k) (nI n) co so ce pe oc ac pl ru pc a1 a2 a3 a4 a5 a6 a7 a8 a9 a10 a11 a12 a13 := by
  intro F
  induction F with
  | zero => intro k; intros; omega
  | succ F ih =>
    intro k n co so ce pe oc ac pl ru pc a1 a2 a3 a4 a5 a6 a7 a8 a9 a10 a11 a12 a13 hk hF hn hs hM
    refine pk_le 3 k (fun g => ?_) (fun g => br_c (fun _ => nm_r (nI_1 k) ?_) (fun _ => ?_))
    · refine tc_run hn hs hM (fun r co so ce pe oc ac pl ru pc a5 a6 a7 a8 a9 a10 a11 a12 a13 hM => tc_sums (br_f (by decide) ⟨41, ?_⟩))
      exact tc_l338 L xs kc ks 41 0 n _ _ _ _ _ _ _ _ _ _ _ _ _ _ _ _ _ _ _ _ _ _ (by omega) (by omega) (by omega) hM
    · exact ih (k + 1) n _ _ _ _ _ _ _ _ _ _ _ _ _ _ _ _ _ _ _ _ _ _ (by omega) (by omega) hn hs hM
    · refine tc_addG (k := 11) (a := 0) (s := 0) (t := 0) hn hs (by decide) (by decide) (by decide) (by decide) (fun _ => rfl) rfl rfl rfl (fun r co n a1 a2 a3 a4 hn hs => nm_r (nI_1 k) ?_)
      exact ih (k + 1) n _ _ _ _ _ _ _ _ _ _ _ _ _ _ _ _ _ _ _ _ _ _ (by omega) (by omega) hn hs hM
theorem tc_md (y : Int32) (d : Nat) (h0 : 0 < d) (hd : d < 100) : ∃ k, k < d ∧ (y &&& 255) - (y &&& 255) / nI d * nI d = nI k := by
  obtain ⟨j, hj, ej⟩ := pk_andE y (m := 255) 8 (by decide)
  refine ⟨j % d, Nat.mod_lt _ h0, ?_⟩
  rw [ej]
  exact pk_rem (by omega) h0 (by omega)
theorem tc_l40 (L : Nat) (hL : L ≤ 260) (xs : Nat → Int32) (kc ks : Nat) : ∀ (F i n : Nat) (x2 : Int32) (co so ce pe oc ac pl ru pc : Int32) (a1 a2 a3 a4 a5 a6 a7 a8 a9 a10 a11 a12 a13 : Nat → Int32), i ≤ 264 → L - i < F → n ≤ 40 → tc_src n a1 a2 a3 a4 → tc_M a12 → wL_law_40 (fun r => r = 1) L xs kc ks F x2 (nI i) (nI n) co so ce pe oc ac pl ru pc a1 a2 a3 a4 a5 a6 a7 a8 a9 a10 a11 a12 a13 := by
  intro F
  induction F with
  | zero => intro i; intros; omega
  | succ F ih =>
    intro i n x2 co so ce pe oc ac pl ru pc a1 a2 a3 a4 a5 a6 a7 a8 a9 a10 a11 a12 a13 hi hF hn hs hM
    by_cases h : i + 3 < L
    · have K : ∀ (x2 : Int32) {n : Nat} {co so ce pe oc ac pl ru pc : Int32} {a1 a2 a3 a4 a5 a6 a7 a8 a9 a10 a11 a12 a13 : Nat → Int32}, n ≤ 40 → tc_src n a1 a2 a3 a4 → tc_M a12 → ∀ x3 : Int32, x3 = nI i + 4 → wL_law_40 (fun r => r = 1) L xs kc ks F x2 x3 (nI n) co so ce pe oc ac pl ru pc a1 a2 a3 a4 a5 a6 a7 a8 a9 a10 a11 a12 a13 := fun x2 {n} {co} {so} {ce} {pe} {oc} {ac} {pl} {ru} {pc} {a1} {a2} {a3} {a4} {a5} {a6} {a7} {a8} {a9} {a10} {a11} {a12} {a13} hn hs hM => nm_r (nI_add i 4) (ih (i + 4) n x2 _ _ _ _ _ _ _ _ _ _ _ _ _ _ _ _ _ _ _ _ _ _ (by omega) (by omega) hn hs hM)
      have hc : ¬ (nI L - nI 4 < nI i) := by
        rw [pk_sub (by omega)]
        exact nI_nlt (by omega) (by omega)
      obtain ⟨k, hk, ek⟩ := tc_md (xs (nI i).toNatClampNeg) 15 (by decide) (by decide)
      obtain ⟨a, ha, ea⟩ := tc_md (xs (nI i + 1).toNatClampNeg) 6 (by decide) (by decide)
      obtain ⟨b, hb, eb⟩ := tc_md (xs (nI i + 2).toNatClampNeg) 6 (by decide) (by decide)
      obtain ⟨c, hc6, ec⟩ := tc_md (xs (nI i + 3).toNatClampNeg) 6 (by decide) (by decide)
      refine br_f hc ⟨pk_in i L (by omega), by decide, nm_r ek ⟨pk_in (i + 1) L (by omega) (nI_1 i), by decide, nm_r ea ⟨pk_in (i + 2) L (by omega) (nI_add i 2), by decide, nm_r eb ⟨pk_in (i + 3) L (by omega) (nI_add i 3), by decide, nm_r ec ?_⟩⟩⟩⟩
      have A139 : k ≤ 12 → wL_law_139 (fun r => r = 1) L xs (wL_law_40 (fun r => r = 1) L xs kc ks F) x2 (nI i) (nI k) (nI a) (nI b) (nI c) kc ks (nI n) co so ce pe oc ac pl ru pc a1 a2 a3 a4 a5 a6 a7 a8 a9 a10 a11 a12 a13 := fun h12 =>
        tc_addG (k := k) (a := a) (s := b) (t := c) hn hs h12 (by omega) (by omega) (by omega) (fun _ => rfl) rfl rfl rfl (fun r co n a1 a2 a3 a4 hn hs => K x2 hn hs hM)
      have A169 : k ≤ 12 → wL_law_169 (fun r => r = 1) L xs (wL_law_40 (fun r => r = 1) L xs kc ks F) x2 (nI i) (nI k) (nI a) kc ks (nI n) co so ce pe oc ac pl ru pc a1 a2 a3 a4 a5 a6 a7 a8 a9 a10 a11 a12 a13 := fun h12 =>
        br_c (fun _ => K x2 hn hs hM) (fun _ => tc_addG (k := k) (a := a) (s := 0) (t := 0) hn hs h12 (by omega) (by omega) (by omega) (fun _ => rfl) rfl rfl rfl (fun r co n a1 a2 a3 a4 hn hs => br_c (fun _ => K x2 hn hs hM) (fun _ => nm_e (K (x2 + 1) hn hs hM))))
      refine pk_eq k 0 (fun e => ⟨pk_in (i + 3) L (by omega) (nI_add i 3), ?_⟩) (fun n0 => pk_le k 6 (fun g => A139 (by omega)) (fun g => pk_eq k 12 (fun e => A139 (by omega)) (fun n12 => pk_eq k 7 (fun e => A169 (by omega)) (fun n7 => pk_eq k 10 (fun e => A169 (by omega)) (fun n10 => pk_eq k 11 (fun e => ?_) (fun n11 => pk_lt 9 k (fun g9 => ?_) (fun g9 => ?_)))))))
      · exact tc_addG (k := k) (a := a) (s := 0) (t := 0) hn hs (by omega) (by omega) (by omega) (by omega) (fun z => absurd e z) rfl rfl rfl (fun r co n a1 a2 a3 a4 hn hs => K x2 hn hs hM)
      · exact br_c (fun _ => K x2 hn hs hM) (fun _ => tc_addG (k := k) (a := 0) (s := 0) (t := 0) hn hs (by omega) (by omega) (by omega) (by omega) (fun _ => rfl) rfl rfl rfl (fun r co n a1 a2 a3 a4 hn hs => br_c (fun _ => K x2 hn hs hM) (fun _ => nm_e (K (x2 + (-1)) hn hs hM))))
      · exact tc_run hn hs hM (fun r co so ce pe oc ac pl ru pc a5 a6 a7 a8 a9 a10 a11 a12 a13 hM => tc_sums (br_f (by decide) (K x2 hn hs hM)))
      · refine br_c (fun _ => K x2 hn hs hM) (fun _ => ?_)
        refine tc_addG (k := 7) (a := a) (s := 0) (t := 0) hn hs (by omega) (by omega) (by omega) (by omega) (fun _ => rfl) rfl rfl rfl (fun r co n a1 a2 a3 a4 hn hs => br_c (fun _ => K x2 hn hs hM) (fun _ => nm_e ?_))
        refine tc_addG (k := 4) (a := b) (s := c) (t := 0) hn hs (by omega) (by omega) (by omega) (by omega) (fun _ => rfl) rfl rfl rfl (fun r co n a1 a2 a3 a4 hn hs => ?_)
        exact tc_addG (k := k) (a := 0) (s := 0) (t := 0) hn hs (by omega) (by omega) (by omega) (by omega) (fun _ => rfl) rfl rfl rfl (fun r co n a1 a2 a3 a4 hn hs => K (x2 + 1) hn hs hM)
    · have hc : nI L - nI 4 < nI i := by
        rw [Int32.lt_iff_toInt_lt, pk_sub_toInt (by omega) (by omega), nI_toInt (by omega)]
        omega
      exact br_t hc ⟨4, tc_l296 L xs kc ks x2 4 0 n _ _ _ _ _ _ _ _ _ _ _ _ _ _ _ _ _ _ _ _ _ _ (by omega) (by omega) hn hs hM⟩
theorem tc_l10 (L : Nat) (hL : L ≤ 260) (xs : Nat → Int32) (kc ks : Nat) : ∀ (F v : Nat) (co so ce pe oc ac pl ru pc : Int32) (a1 a2 a3 a4 a5 a6 a7 a8 a9 a10 a11 a12 a13 : Nat → Int32), v ≤ 6 → 6 - v < F → tc_M a12 → wL_law_10 (fun r => r = 1) L xs kc ks F (nI v) (nI 0) co so ce pe oc ac pl ru pc a1 a2 a3 a4 a5 a6 a7 a8 a9 a10 a11 a12 a13 := by
  intro F
  induction F with
  | zero => intro v; intros; omega
  | succ F ih =>
    intro v co so ce pe oc ac pl ru pc a1 a2 a3 a4 a5 a6 a7 a8 a9 a10 a11 a12 a13 hv hF hM
    refine pk_le 6 v (fun _ => ⟨L + 1, ?_⟩) (fun g => ?_)
    · exact tc_l40 L hL xs kc ks (L + 1) 6 0 0 _ _ _ _ _ _ _ _ _ _ _ _ _ _ _ _ _ _ _ _ _ _ (by omega) (by omega) (by omega) (fun j hj => absurd hj (by omega)) hM
    · have P : ∀ x : Int32, wpX_put (fun _ u => match u with | (le', co', so', ce', pe', oc', ac', pl', ru', pc', a1', a2', a3', a4', a5', a6', a7', a8', a9', a10', a11', a12', a13') => ∀ x2, x2 = nI v + 1 → wL_law_10 (fun r => r = 1) L xs kc ks F x2 le' co' so' ce' pe' oc' ac' pl' ru' pc' a1' a2' a3' a4' a5' a6' a7' a8' a9' a10' a11' a12' a13') (nI 0, co, so, ce, pe, oc, ac, pl, ru, pc, a1, a2, a3, a4, a5, a6, a7, a8, a9, a10, a11, a12, a13) (nI v) x := fun x =>
        tc_put (by omega) hM (fun m hM => nm_r (nI_1 v) (ih (v + 1) _ _ _ _ _ _ _ _ _ _ _ _ _ _ _ _ _ _ _ _ _ _ (by omega) (by omega) hM))
      exact pk_le L v (fun _ => P 0) (fun z => ⟨pk_in v L z, P _⟩)
theorem i_vc (xs : Nat → Int32) (L : Nat) (hL : L ≤ 260) : wpL_law (fun r => r = 1) L xs := by
  refine ⟨13, 965, by decide, by decide, ?_⟩
  refine ⟨by decide, by decide, by decide, by decide, by decide, by decide, by decide, by decide, by decide, by decide, by decide, by decide, by decide, by decide, by decide, by decide, by decide, by decide, by decide, by decide, by decide, by decide, by decide, by decide, by decide, by decide, ?_⟩
  exact ⟨7, tc_l10 L hL xs _ _ 7 0 _ _ _ _ _ _ _ _ _ _ _ _ _ _ _ _ _ _ _ _ _ _ (by decide) (by decide) tc_M0⟩
end
