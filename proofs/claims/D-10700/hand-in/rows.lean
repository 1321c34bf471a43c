section
/-! part 01: the words, as pure functions: what wordOf and valueOf compute -/
/-- the trit that wordOf takes off -/
def tc_tr (x : Int64) : Int32 := if (x - x / 3 * 3).toInt32 = 2 then -1 else if (x - x / 3 * 3).toInt32 = -2 then 1 else (x - x / 3 * 3).toInt32
def tc_wt (w i t : Int32) : Int32 := if t = 1 then w ||| ((1 : Int32) <<< (i &&& 31)) else if t = -1 then w ||| ((1 : Int32) <<< ((9 + i) &&& 31)) else w
def tc_wl : Nat → Int64 → Int32 → Int32 → Int32
  | 0 => fun _ w _ => w
  | n + 1 => fun x w i => tc_wl n ((x - (tc_tr x).toInt64) / 3) (tc_wt w i (tc_tr x)) (i + 1)
def tc_word (x : Int64) : Int32 := tc_wl 9 x 0 0
def tc_ti (w i : Int32) : Int32 := ((w >>> (i &&& 31)) &&& 1) - ((w >>> ((9 + i) &&& 31)) &&& 1)
def tc_vl (w : Int32) : Nat → Int32 → Int32
  | 0 => fun v => v
  | n + 1 => fun v => tc_vl w n (3 * v + tc_ti w (nI n))
def tc_val (w : Int32) : Int32 := tc_vl w 9 0
/-- a machine word out of operation and cell, and its two parts -/
def tc_wd (o c : Nat) : Int32 := tc_word (((729 * (nI o).toInt64) + (nI c).toInt64) - 364)
def tc_opp (w : Int32) : Int32 := ((w &&& 511) >>> ((6 : Int32) &&& 31)) ||| ((w >>> ((15 : Int32) &&& 31)) <<< ((9 : Int32) &&& 31))
def tc_cep (w : Int32) : Int32 := (w &&& 63) ||| (((w >>> ((9 : Int32) &&& 31)) &&& 63) <<< ((9 : Int32) &&& 31))
abbrev tc_ok (o c : Nat) : Prop := tc_val (tc_opp (tc_wd o c)) = nI o ∧ tc_val (tc_cep (tc_wd o c)) + 364 = nI c
theorem tc_okV : ∀ o, o < 13 → ∀ a, a < 6 → tc_ok o (500 + a) := by decide +kernel
theorem tc_okC : ∀ o, o < 13 → tc_ok o 364 := by decide +kernel
theorem tc_okP : tc_ok 1 510 := by decide +kernel
/-! numbers: no overflow -/
theorem tc_bm64 {x : Int} (h1 : -9223372036854775808 ≤ x) (h2 : x < 9223372036854775808) : x.bmod (2 ^ 64) = x := by
  refine (Int.bmod_eq_iff (by decide)).mpr ⟨by omega, by omega, ?_⟩
  rw [Int.sub_self]
  exact Int.dvd_zero _
theorem tc_bm32 {x : Int} (h1 : -2147483648 ≤ x) (h2 : x < 2147483648) : x.bmod (2 ^ 32) = x := by
  refine (Int.bmod_eq_iff (by decide)).mpr ⟨by omega, by omega, ?_⟩
  rw [Int.sub_self]
  exact Int.dvd_zero _
theorem tc_td3 (a : Int) : (0 ≤ a ∧ 3 * a.tdiv 3 ≤ a ∧ a < 3 * a.tdiv 3 + 3) ∨ (a < 0 ∧ a ≤ 3 * a.tdiv 3 ∧ 3 * a.tdiv 3 < a + 3) := by
  rcases Int.lt_or_le a 0 with h | h
  · right
    have e : a.tdiv 3 = -((-a) / 3) := by
      rw [← Int.tdiv_eq_ediv_of_nonneg (show 0 ≤ -a by omega), Int.neg_tdiv, Int.neg_neg]
    rw [e]
    omega
  · left
    rw [Int.tdiv_eq_ediv_of_nonneg h]
    omega
theorem tc_td9 (a : Int) : (0 ≤ a ∧ 19683 * a.tdiv 19683 ≤ a ∧ a < 19683 * a.tdiv 19683 + 19683) ∨ (a < 0 ∧ a ≤ 19683 * a.tdiv 19683 ∧ 19683 * a.tdiv 19683 < a + 19683) := by
  rcases Int.lt_or_le a 0 with h | h
  · right
    have e : a.tdiv 19683 = -((-a) / 19683) := by
      rw [← Int.tdiv_eq_ediv_of_nonneg (show 0 ≤ -a by omega), Int.neg_tdiv, Int.neg_neg]
    rw [e]
    omega
  · left
    rw [Int.tdiv_eq_ediv_of_nonneg h]
    omega
theorem tc_l3 : (3 : Int64).toInt = 3 := by decide
theorem tc_l9 : (19683 : Int64).toInt = 19683 := by decide
theorem tc_l98 : (9841 : Int64).toInt = 9841 := by decide
theorem tc_div3 (x : Int64) : (x / 3).toInt = x.toInt.tdiv 3 := by
  rw [Int64.toInt_div_of_ne_right x 3 (by decide), tc_l3]
theorem tc_rem3 (x : Int64) (h1 : -1099511627776 ≤ x.toInt) (h2 : x.toInt ≤ 1099511627776) : (x - x / 3 * 3).toInt32.toInt = x.toInt - 3 * x.toInt.tdiv 3 := by
  have h := tc_td3 x.toInt
  rw [Int64.toInt_toInt32, Int64.toInt_sub, Int64.toInt_mul, tc_div3, tc_l3]
  generalize x.toInt.tdiv 3 = q at h
  rw [tc_bm64 (x := q * 3) (by omega) (by omega), tc_bm64 (by omega) (by omega), tc_bm32 (by omega) (by omega)]
  omega
theorem tc_rem9 (x : Int64) (h1 : -1099511627776 ≤ x.toInt) (h2 : x.toInt ≤ 1099511627776) : (x - x / 19683 * 19683).toInt32.toInt = x.toInt - 19683 * x.toInt.tdiv 19683 := by
  have h := tc_td9 x.toInt
  rw [Int64.toInt_toInt32, Int64.toInt_sub, Int64.toInt_mul, Int64.toInt_div_of_ne_right x 19683 (by decide), tc_l9]
  generalize x.toInt.tdiv 19683 = q at h
  rw [tc_bm64 (x := q * 19683) (by omega) (by omega), tc_bm64 (by omega) (by omega), tc_bm32 (by omega) (by omega)]
  omega
/-- one step of wordOf: the trit, and what is left -/
theorem tc_nxt (x : Int64) (h1 : -1099511627776 ≤ x.toInt) (h2 : x.toInt ≤ 1099511627776) (t : Int32) (y : Int) (ht : -1 ≤ t.toInt) (ht' : t.toInt ≤ 1) (e : x.toInt = 3 * y + t.toInt) : ((x - t.toInt64) / 3).toInt = y := by
  rw [tc_div3, Int64.toInt_sub, Int32.toInt_toInt64, tc_bm64 (by omega) (by omega), show x.toInt - t.toInt = 3 * y by omega]
  exact Int.mul_tdiv_cancel_left y (by decide)
theorem tc_step (x : Int64) (h1 : -1099511627776 ≤ x.toInt) (h2 : x.toInt ≤ 1099511627776) :
    ∃ y : Int, ((x - (tc_tr x).toInt64) / 3).toInt = y ∧ ((tc_tr x = 1 ∧ x.toInt = 3 * y + 1) ∨ (tc_tr x = -1 ∧ x.toInt = 3 * y - 1) ∨ (tc_tr x = 0 ∧ x.toInt = 3 * y)) := by
  have h := tc_td3 x.toInt
  have hr := tc_rem3 x h1 h2
  have e1 : (1 : Int32).toInt = 1 := by decide
  have em : (-1 : Int32).toInt = -1 := by decide
  have e0 : (0 : Int32).toInt = 0 := by decide
  have k : tc_tr x = 1 ∧ x.toInt = 3 * x.toInt.tdiv 3 + 1 ∨ tc_tr x = 1 ∧ x.toInt = 3 * (x.toInt.tdiv 3 - 1) + 1 ∨ tc_tr x = -1 ∧ x.toInt = 3 * x.toInt.tdiv 3 - 1 ∨ tc_tr x = -1 ∧ x.toInt = 3 * (x.toInt.tdiv 3 + 1) - 1 ∨ tc_tr x = 0 ∧ x.toInt = 3 * x.toInt.tdiv 3 := by
    unfold tc_tr
    generalize (x - x / 3 * 3).toInt32 = m at hr
    generalize x.toInt.tdiv 3 = q at h hr
    by_cases c1 : m = 2
    · rw [if_pos c1]
      have : m.toInt = 2 := by rw [c1]; decide
      right; right; right; left
      exact ⟨rfl, by omega⟩
    · rw [if_neg c1]
      by_cases c2 : m = -2
      · rw [if_pos c2]
        have : m.toInt = -2 := by rw [c2]; decide
        right; left
        exact ⟨rfl, by omega⟩
      · rw [if_neg c2]
        have d1 : m.toInt ≠ 2 := fun z => c1 (Int32.toInt_inj.mp (by rw [z]; decide))
        have d2 : m.toInt ≠ -2 := fun z => c2 (Int32.toInt_inj.mp (by rw [z]; decide))
        have d : m.toInt = 1 ∨ m.toInt = -1 ∨ m.toInt = 0 := by omega
        rcases d with d | d | d
        · left
          exact ⟨Int32.toInt_inj.mp (by rw [d]; decide), by omega⟩
        · right; right; left
          exact ⟨Int32.toInt_inj.mp (by rw [d]; decide), by omega⟩
        · right; right; right; right
          exact ⟨Int32.toInt_inj.mp (by rw [d]; decide), by omega⟩
  rcases k with k | k | k | k | k
  · exact ⟨_, tc_nxt x h1 h2 _ _ (by rw [k.1]; decide) (by rw [k.1]; decide) (by rw [k.1, e1]; exact k.2), Or.inl ⟨k.1, k.2⟩⟩
  · exact ⟨_, tc_nxt x h1 h2 _ _ (by rw [k.1]; decide) (by rw [k.1]; decide) (by rw [k.1, e1]; exact k.2), Or.inl ⟨k.1, k.2⟩⟩
  · exact ⟨_, tc_nxt x h1 h2 _ _ (by rw [k.1]; decide) (by rw [k.1]; decide) (by rw [k.1, em]; exact k.2), Or.inr (Or.inl ⟨k.1, k.2⟩)⟩
  · exact ⟨_, tc_nxt x h1 h2 _ _ (by rw [k.1]; decide) (by rw [k.1]; decide) (by rw [k.1, em]; exact k.2), Or.inr (Or.inl ⟨k.1, k.2⟩)⟩
  · exact ⟨_, tc_nxt x h1 h2 _ _ (by rw [k.1]; decide) (by rw [k.1]; decide) (by rw [k.1, e0, Int.add_zero]; exact k.2), Or.inr (Or.inr ⟨k.1, k.2⟩)⟩
end
section
/-! part 02: the value of the word of a number is the number's balanced rest by 3^9 -/
theorem tc_orI (a b : Nat) : nI a ||| nI b = nI (a ||| b) := by
  apply Int32.toBitVec_inj.1
  show BitVec.ofNat 32 a ||| BitVec.ofNat 32 b = BitVec.ofNat 32 (a ||| b)
  apply BitVec.eq_of_getLsbD_eq
  intro i hi
  simp [hi]
theorem tc_sl : ∀ i, i < 9 → ((1 : Int32) <<< (nI i &&& 31)) = nI (2 ^ i) ∧ ((1 : Int32) <<< ((9 + nI i) &&& 31)) = nI (512 * 2 ^ i) := by decide +kernel
theorem tc_p8 {i : Nat} (hi : i < 9) : 2 ^ i ≤ 256 := show 2 ^ i ≤ 2 ^ 8 from Nat.pow_le_pow_right (by decide) (by omega)
theorem tc_orP {P N i : Nat} (hP : P < 2 ^ i) (hi : i < 9) : (P + 512 * N) ||| 2 ^ i = P + 2 ^ i + 512 * N := by
  have h2 := tc_p8 hi
  have a := Nat.two_pow_add_eq_or_of_lt (i := 9) (b := P) (by omega) N
  have b := Nat.two_pow_add_eq_or_of_lt (i := i) (b := P) hP 1
  rw [Nat.mul_one] at b
  generalize 2 ^ i = m at b h2 hP
  have c := Nat.two_pow_add_eq_or_of_lt (i := 9) (b := m + P) (by omega) N
  rw [show P + 512 * N = 2 ^ 9 * N + P by omega, a, Nat.or_assoc, Nat.or_comm P m, ← b, ← c]
  omega
theorem tc_orM {P N i : Nat} (hP : P < 512) (hN : N < 2 ^ i) : (P + 512 * N) ||| (512 * 2 ^ i) = P + 512 * (N + 2 ^ i) := by
  have a := Nat.two_pow_add_eq_or_of_lt (i := 9) (b := P) (by omega) N
  have b := Nat.two_pow_add_eq_or_of_lt (i := i) (b := N) hN 1
  rw [Nat.mul_one] at b
  generalize 2 ^ i = m at b hN
  have c := Nat.two_pow_add_eq_or_of_lt (i := 9) (b := P) (by omega) (m + N)
  have d : N * 2 ^ 9 ||| m * 2 ^ 9 = (N ||| m) * 2 ^ 9 := by
    rw [← Nat.shiftLeft_eq, ← Nat.shiftLeft_eq, ← Nat.shiftLeft_or_distrib, Nat.shiftLeft_eq]
  rw [show P + 512 * N = 2 ^ 9 * N + P by omega, a, Nat.or_assoc, Nat.or_comm P, ← Nat.or_assoc, show 2 ^ 9 * N = N * 2 ^ 9 by omega, show 512 * m = m * 2 ^ 9 by omega, d, Nat.or_comm N m, ← b, show (m + N) * 2 ^ 9 = 2 ^ 9 * (m + N) by omega, ← c]
  omega
/-- the number of the trits 1 in the bits of P -/
def tc_V (P : Nat) : Int := ((P / 1 % 2 + 3 * (P / 2 % 2) + 9 * (P / 4 % 2) + 27 * (P / 8 % 2) + 81 * (P / 16 % 2) + 243 * (P / 32 % 2) + 729 * (P / 64 % 2) + 2187 * (P / 128 % 2) + 6561 * (P / 256 % 2) : Nat) : Int)
theorem tc_Vs : ∀ i, i < 9 → ∀ P, P < 2 ^ i → tc_V (P + 2 ^ i) = tc_V P + 3 ^ i := by decide +kernel
theorem tc_Vb (P : Nat) : 0 ≤ tc_V P ∧ tc_V P ≤ 9841 := by
  unfold tc_V
  omega
theorem tc_r1 (y M a b : Int) : (3 * y + 1) * M + a - b = y * (3 * M) + (a + M) - b := by
  rw [Int.add_mul, Int.one_mul, Int.mul_assoc, Int.mul_left_comm y 3 M]
  omega
theorem tc_r2 (y M a b : Int) : (3 * y - 1) * M + a - b = y * (3 * M) + a - (b + M) := by
  rw [Int.sub_mul, Int.one_mul, Int.mul_assoc, Int.mul_left_comm y 3 M]
  omega
theorem tc_r3 (y M a b : Int) : (3 * y) * M + a - b = y * (3 * M) + a - b := by
  rw [Int.mul_assoc, Int.mul_left_comm y 3 M]
theorem tc_wlv : ∀ (k i : Nat) (x : Int64) (P N : Nat), i + k = 9 → P < 2 ^ i → N < 2 ^ i → -1099511627776 ≤ x.toInt → x.toInt ≤ 1099511627776 →
    ∃ (P' N' : Nat) (y : Int), P' < 512 ∧ N' < 512 ∧ tc_wl k x (nI (P + 512 * N)) (nI i) = nI (P' + 512 * N') ∧ x.toInt * 3 ^ i + tc_V P - tc_V N = tc_V P' - tc_V N' + 19683 * y := by
  intro k
  induction k with
  | zero =>
    intro i x P N hi hP hN _ _
    have e : i = 9 := by omega
    subst e
    refine ⟨P, N, x.toInt, hP, hN, rfl, ?_⟩
    rw [show (3 : Int) ^ 9 = 19683 by decide]
    omega
  | succ k ih =>
    intro i x P N hi hP hN b1 b2
    obtain ⟨y, hy, hc⟩ := tc_step x b1 b2
    have p2 : 2 ^ (i + 1) = 2 ^ i + 2 ^ i := by rw [Nat.pow_succ]; omega
    have p3 : (3 : Int) ^ (i + 1) = 3 * 3 ^ i := by rw [Int.pow_succ]; exact Int.mul_comm _ _
    have h2 := tc_p8 (show i < 9 by omega)
    obtain ⟨s1, s2⟩ := tc_sl i (by omega)
    have V' := tc_Vs i (by omega)
    rcases hc with ⟨ht, hx⟩ | ⟨ht, hx⟩ | ⟨ht, hx⟩
    · obtain ⟨P', N', z, g1, g2, g3, g4⟩ := ih (i + 1) ((x - (tc_tr x).toInt64) / 3) (P + 2 ^ i) N (by omega) (by rw [p2]; omega) (by rw [p2]; omega) (by rw [hy]; omega) (by rw [hy]; omega)
      refine ⟨P', N', z, g1, g2, ?_, ?_⟩
      · have q : tc_wt (nI (P + 512 * N)) (nI i) (tc_tr x) = nI (P + 2 ^ i + 512 * N) := by
          rw [ht]
          unfold tc_wt
          rw [if_pos rfl, s1, tc_orI, tc_orP hP (by omega)]
        show tc_wl k ((x - (tc_tr x).toInt64) / 3) (tc_wt (nI (P + 512 * N)) (nI i) (tc_tr x)) (nI i + 1) = _
        rw [q, nI_1]
        exact g3
      · rw [hy, V' P hP, p3] at g4
        rw [← g4, hx]
        exact tc_r1 _ _ _ _
    · obtain ⟨P', N', z, g1, g2, g3, g4⟩ := ih (i + 1) ((x - (tc_tr x).toInt64) / 3) P (N + 2 ^ i) (by omega) (by rw [p2]; omega) (by rw [p2]; omega) (by rw [hy]; omega) (by rw [hy]; omega)
      refine ⟨P', N', z, g1, g2, ?_, ?_⟩
      · have q : tc_wt (nI (P + 512 * N)) (nI i) (tc_tr x) = nI (P + 512 * (N + 2 ^ i)) := by
          rw [ht]
          unfold tc_wt
          rw [if_neg (by decide), if_pos rfl, s2, tc_orI, tc_orM (by omega) hN]
        show tc_wl k ((x - (tc_tr x).toInt64) / 3) (tc_wt (nI (P + 512 * N)) (nI i) (tc_tr x)) (nI i + 1) = _
        rw [q, nI_1]
        exact g3
      · rw [hy, V' N hN, p3] at g4
        rw [← g4, hx]
        exact tc_r2 _ _ _ _
    · obtain ⟨P', N', z, g1, g2, g3, g4⟩ := ih (i + 1) ((x - (tc_tr x).toInt64) / 3) P N (by omega) (by rw [p2]; omega) (by rw [p2]; omega) (by rw [hy]; omega) (by rw [hy]; omega)
      refine ⟨P', N', z, g1, g2, ?_, ?_⟩
      · have q : tc_wt (nI (P + 512 * N)) (nI i) (tc_tr x) = nI (P + 512 * N) := by
          rw [ht]
          unfold tc_wt
          rw [if_neg (by decide), if_neg (by decide)]
        show tc_wl k ((x - (tc_tr x).toInt64) / 3) (tc_wt (nI (P + 512 * N)) (nI i) (tc_tr x)) (nI i + 1) = _
        rw [q, nI_1]
        exact g3
      · rw [hy, p3] at g4
        rw [← g4, hx]
        exact tc_r3 _ _ _ _
/-! the value -/
theorem tc_sn : ∀ j, j < 9 → (((nI j &&& 31)).toBitVec.smod 32).toNat = j ∧ (((9 + nI j) &&& 31).toBitVec.smod 32).toNat = 9 + j := by decide +kernel
theorem tc_b1 {P N j : Nat} (hP : P < 512) (hj : j < 9) : (P + 512 * N) / 2 ^ j % 2 ^ 1 = P / 2 ^ j % 2 := by
  have h : j = 0 ∨ j = 1 ∨ j = 2 ∨ j = 3 ∨ j = 4 ∨ j = 5 ∨ j = 6 ∨ j = 7 ∨ j = 8 := by omega
  rcases h with rfl | rfl | rfl | rfl | rfl | rfl | rfl | rfl | rfl <;> omega
theorem tc_b2 {P N j : Nat} (hP : P < 512) : (P + 512 * N) / 2 ^ (9 + j) % 2 ^ 1 = N / 2 ^ j % 2 := by
  rw [Nat.pow_add, ← Nat.div_div_eq_div_mul, show (P + 512 * N) / 2 ^ 9 = N by omega]
theorem tc_tiN {P N j : Nat} (hP : P < 512) (hN : N < 512) (hj : j < 9) : tc_ti (nI (P + 512 * N)) (nI j) = nI (P / 2 ^ j % 2) - nI (N / 2 ^ j % 2) := by
  obtain ⟨s1, s2⟩ := tc_sn j hj
  unfold tc_ti
  rw [pk_shrN (by omega) _ j s1, pk_shrN (by omega) _ (9 + j) s2, pk_andN (Nat.lt_of_le_of_lt (Nat.div_le_self _ _) (by omega)) 1 (by decide), pk_andN (Nat.lt_of_le_of_lt (Nat.div_le_self _ _) (by omega)) 1 (by decide), tc_b1 hP hj, tc_b2 hP]
def tc_hv (P N : Nat) : Nat → Int → Int
  | 0 => fun v => v
  | n + 1 => fun v => tc_hv P N n (3 * v + (((P / 2 ^ n % 2 : Nat) : Int) - ((N / 2 ^ n % 2 : Nat) : Int)))
theorem tc_nIo (n : Nat) : nI n = Int32.ofInt (n : Int) := Int32.ofInt_eq_ofNat.symm
theorem tc_vlN {P N : Nat} (hP : P < 512) (hN : N < 512) : ∀ n, n ≤ 9 → ∀ v : Int, tc_vl (nI (P + 512 * N)) n (Int32.ofInt v) = Int32.ofInt (tc_hv P N n v) := by
  intro n
  induction n with
  | zero => intro _ v; rfl
  | succ n ih =>
    intro hn v
    show tc_vl (nI (P + 512 * N)) n (3 * Int32.ofInt v + tc_ti (nI (P + 512 * N)) (nI n)) = Int32.ofInt (tc_hv P N n (3 * v + (((P / 2 ^ n % 2 : Nat) : Int) - ((N / 2 ^ n % 2 : Nat) : Int))))
    rw [← ih (by omega), Int32.ofInt_add, Int32.ofInt_mul, Int32.ofInt_sub, ← tc_nIo, ← tc_nIo, tc_tiN hP hN (by omega)]
    rfl
theorem tc_lin (p0 p1 p2 p3 p4 p5 p6 p7 p8 n0 n1 n2 n3 n4 n5 n6 n7 n8 : Nat) : (3 * (3 * (3 * (3 * (3 * (3 * (3 * (3 * (3 * 0 + ((p8 : Int) - (n8 : Int))) + ((p7 : Int) - (n7 : Int))) + ((p6 : Int) - (n6 : Int))) + ((p5 : Int) - (n5 : Int))) + ((p4 : Int) - (n4 : Int))) + ((p3 : Int) - (n3 : Int))) + ((p2 : Int) - (n2 : Int))) + ((p1 : Int) - (n1 : Int))) + ((p0 : Int) - (n0 : Int))) = ((p0 + 3 * p1 + 9 * p2 + 27 * p3 + 81 * p4 + 243 * p5 + 729 * p6 + 2187 * p7 + 6561 * p8 : Nat) : Int) - ((n0 + 3 * n1 + 9 * n2 + 27 * n3 + 81 * n4 + 243 * n5 + 729 * n6 + 2187 * n7 + 6561 * n8 : Nat) : Int) := by omega
theorem tc_valN {P N : Nat} (hP : P < 512) (hN : N < 512) : tc_val (nI (P + 512 * N)) = Int32.ofInt (tc_V P - tc_V N) := by
  have h : tc_val (nI (P + 512 * N)) = Int32.ofInt (tc_hv P N 9 0) := tc_vlN hP hN 9 (by omega) 0
  have e : tc_hv P N 9 0 = tc_V P - tc_V N := tc_lin (P / 2 ^ 0 % 2) (P / 2 ^ 1 % 2) (P / 2 ^ 2 % 2) (P / 2 ^ 3 % 2) (P / 2 ^ 4 % 2) (P / 2 ^ 5 % 2) (P / 2 ^ 6 % 2) (P / 2 ^ 7 % 2) (P / 2 ^ 8 % 2) (N / 2 ^ 0 % 2) (N / 2 ^ 1 % 2) (N / 2 ^ 2 % 2) (N / 2 ^ 3 % 2) (N / 2 ^ 4 % 2) (N / 2 ^ 5 % 2) (N / 2 ^ 6 % 2) (N / 2 ^ 7 % 2) (N / 2 ^ 8 % 2)
  rw [h, e]
/-- what the law holds a number to -/
def tc_x9 (v : Int32) : Int32 := ((v.toInt64 + 9841) - (v.toInt64 + 9841) / 19683 * 19683).toInt32
def tc_held (v : Int32) : Int32 := (if 0 ≤ tc_x9 v then tc_x9 v else tc_x9 v + 19683) - 9841
theorem tc_fin (v q a b y x h : Int) (hv : v + 9841 - 19683 * q = x) (hq : (0 ≤ v + 9841 ∧ 19683 * q ≤ v + 9841 ∧ v + 9841 < 19683 * q + 19683) ∨ (v + 9841 < 0 ∧ v + 9841 ≤ 19683 * q ∧ 19683 * q < v + 9841 + 19683)) (ha : 0 ≤ a ∧ a ≤ 9841) (hb : 0 ≤ b ∧ b ≤ 9841) (he : v = a - b + 19683 * y) (hh : (0 ≤ x ∧ h = x - 9841) ∨ (x < 0 ∧ h = x + 19683 - 9841)) : a - b = h := by
  omega
theorem tc_heldv (v : Int32) : tc_val (tc_word v.toInt64) = tc_held v := by
  have b1 := Int32.le_toInt v
  have b2 := Int32.toInt_lt v
  have e64 : v.toInt64.toInt = v.toInt := Int32.toInt_toInt64 v
  obtain ⟨P, N, y, hP, hN, hw, he⟩ := tc_wlv 9 0 v.toInt64 0 0 rfl (by decide) (by decide) (by rw [e64]; omega) (by rw [e64]; omega)
  have hw' : tc_word v.toInt64 = nI (P + 512 * N) := hw
  have ea : (v.toInt64 + 9841).toInt = v.toInt + 9841 := by
    rw [Int64.toInt_add, tc_l98, e64, tc_bm64 (by omega) (by omega)]
  have hx : (tc_x9 v).toInt = v.toInt + 9841 - 19683 * (v.toInt + 9841).tdiv 19683 := by
    have := tc_rem9 (v.toInt64 + 9841) (by rw [ea]; omega) (by rw [ea]; omega)
    rw [ea] at this
    exact this
  have hq := tc_td9 (v.toInt + 9841)
  have ha := tc_Vb P
  have hb := tc_Vb N
  rw [e64, Int.pow_zero, Int.mul_one, show tc_V 0 = 0 by decide, Int.add_zero, Int.sub_zero] at he
  rw [hw', tc_valN hP hN]
  apply Int32.toInt_inj.mp
  rw [Int32.toInt_ofInt_of_le (by omega) (by omega)]
  generalize (v.toInt + 9841).tdiv 19683 = q at hx hq
  have hxb : -19683 < (tc_x9 v).toInt ∧ (tc_x9 v).toInt < 19683 := by omega
  refine tc_fin _ q _ _ y (tc_x9 v).toInt _ hx.symm hq ha hb he ?_
  have e0 : (0 : Int32).toInt = 0 := by decide
  have e1 : (9841 : Int32).toInt = 9841 := by decide
  have e2 : (19683 : Int32).toInt = 19683 := by decide
  unfold tc_held
  by_cases c : 0 ≤ tc_x9 v
  · left
    rw [if_pos c, Int32.toInt_sub, e1, tc_bm32 (by omega) (by omega)]
    rw [Int32.le_iff_toInt_le, e0] at c
    exact ⟨c, rfl⟩
  · right
    rw [if_neg c, Int32.toInt_sub, Int32.toInt_add, e1, e2, tc_bm32 (x := (tc_x9 v).toInt + 19683) (by omega) (by omega), tc_bm32 (by omega) (by omega)]
    rw [Int32.le_iff_toInt_le, e0] at c
    exact ⟨by omega, rfl⟩
theorem tc_val0 : tc_val 0 = 0 := by decide +kernel
end
section
/-! part 03: the small methods -/
def tc_in (v : Int32) : Prop := ¬ v < 0 ∧ ¬ 5 < v
theorem tc_inI {v : Int32} (h : tc_in v) : ∃ j : Nat, j < 6 ∧ v = nI j := by
  obtain ⟨j, hj, e⟩ := nI_of h.1
  refine ⟨j, Nat.lt_of_not_le (fun z => h.2 ?_), e⟩
  rw [e]
  exact nI_lt (a := 5) (b := j) (by omega) hj
theorem tc_inN {j : Nat} (h : j < 6) : tc_in (nI j) := ⟨nI_pos (by omega), nI_nlt (a := 5) (b := j) (by omega) (by omega)⟩
theorem tc_inL {post : Int32 → Prop} {v : Int32} (hy : tc_in v → post 1) (hn : ¬ tc_in v → post 0) : wpL_in post () v :=
  br_c (fun h => hn (fun z => z.1 h)) (fun h => br_c (fun g => hn (fun z => z.2 g)) (fun g => hy ⟨h, g⟩))
theorem tc_isv {post : Int32 → Prop} {u : St2} {v : Int32} (hy : tc_in v → post 1) (hn : ¬ tc_in v → post 0) : wpX_isVariable post u v := by
  obtain ⟨l, cp, sd, ce, pe, oc, ac, pl, ru, pc, a1, a2, a3, a4, a5, a6, a7, a8, a9, a10, a11, a12, a13⟩ := u
  exact br_c (fun h => hn (fun z => z.1 h)) (fun h => br_c (fun g => hn (fun z => z.2 g)) (fun g => hy ⟨h, g⟩))
theorem tc_tritOf {post : Int32 → Prop} {u : St2} {w i : Int32} (h : post (tc_ti w i)) : wpX_tritOf post u w i := by
  obtain ⟨l, cp, sd, ce, pe, oc, ac, pl, ru, pc, a1, a2, a3, a4, a5, a6, a7, a8, a9, a10, a11, a12, a13⟩ := u
  exact h
theorem tc_withTrit {post : Int32 → Prop} {u : St2} {w i t : Int32} (h : post (tc_wt w i t)) : wpX_withTrit post u w i t := by
  obtain ⟨l, cp, sd, ce, pe, oc, ac, pl, ru, pc, a1, a2, a3, a4, a5, a6, a7, a8, a9, a10, a11, a12, a13⟩ := u
  unfold tc_wt at h
  by_cases h1 : t = 1
  · rw [if_pos h1] at h
    exact br_t h1 h
  · rw [if_neg h1] at h
    refine br_f h1 ?_
    by_cases h2 : t = -1
    · rw [if_pos h2] at h
      exact br_t h2 h
    · rw [if_neg h2] at h
      exact br_f h2 h
theorem tc_w42 {post : Int32 → Prop} {J8 : Int64 → Int32 → Int32 → Prop} {x : Int64} {w i t : Int32} {l cp sd ce pe oc ac pl ru pc : Int32} {a1 a2 a3 a4 a5 a6 a7 a8 a9 a10 a11 a12 a13 : Nat → Int32} (h : J8 ((x - t.toInt64) / 3) (tc_wt w i t) (i + 1)) : wX_wordOf_42 post J8 x w i t l cp sd ce pe oc ac pl ru pc a1 a2 a3 a4 a5 a6 a7 a8 a9 a10 a11 a12 a13 :=
  tc_withTrit ⟨by decide, nm_e (nm_e h)⟩
theorem tc_w8 {post : Int32 → Prop} {l cp sd ce pe oc ac pl ru pc : Int32} {a1 a2 a3 a4 a5 a6 a7 a8 a9 a10 a11 a12 a13 : Nat → Int32} : ∀ (k i : Nat) (x : Int64) (w : Int32), i + k = 9 → post (tc_wl k x w (nI i)) → wX_wordOf_8 post l cp sd ce pe oc ac pl ru pc a1 a2 a3 a4 a5 a6 a7 a8 a9 a10 a11 a12 a13 (k + 1) x w (nI i) := by
  intro k
  induction k with
  | zero =>
    intro i x w hi hp
    have e : i = 9 := by omega
    subst e
    exact pk_le 9 9 (fun _ => hp) (fun z => absurd z (by omega))
  | succ k ih =>
    intro i x w hi hp
    refine pk_le 9 i (fun z => absurd z (by omega)) (fun _ => ⟨by decide, nm_e ?_⟩)
    have hp' : post (tc_wl k ((x - (tc_tr x).toInt64) / 3) (tc_wt w (nI i) (tc_tr x)) (nI (i + 1))) := by
      rw [← nI_1]
      exact hp
    have g := ih (i + 1) _ _ (by omega) hp'
    rw [← nI_1] at g
    unfold tc_tr at g
    by_cases c1 : (x - x / 3 * 3).toInt32 = 2
    · rw [if_pos c1] at g
      exact br_t c1 (br_f (by decide) (tc_w42 g))
    · rw [if_neg c1] at g
      refine br_f c1 ?_
      by_cases c2 : (x - x / 3 * 3).toInt32 = -2
      · rw [if_pos c2] at g
        exact br_t c2 (tc_w42 g)
      · rw [if_neg c2] at g
        exact br_f c2 (tc_w42 g)
theorem tc_wordOf {post : Int32 → Prop} {u : St2} {x : Int64} (hp : post (tc_word x)) : wpX_wordOf post u x := by
  obtain ⟨l, cp, sd, ce, pe, oc, ac, pl, ru, pc, a1, a2, a3, a4, a5, a6, a7, a8, a9, a10, a11, a12, a13⟩ := u
  exact ⟨10, tc_w8 9 0 x 0 rfl hp⟩
theorem tc_v5 {post : Int32 → Prop} {w : Int32} {l cp sd ce pe oc ac pl ru pc : Int32} {a1 a2 a3 a4 a5 a6 a7 a8 a9 a10 a11 a12 a13 : Nat → Int32} : ∀ (n : Nat) (v : Int32), n ≤ 9 → post (tc_vl w n v) → wX_valueOf_5 post w l cp sd ce pe oc ac pl ru pc a1 a2 a3 a4 a5 a6 a7 a8 a9 a10 a11 a12 a13 (n + 1) v (nI n + (-1)) := by
  intro n
  induction n with
  | zero =>
    intro v _ hp
    exact br_t (by decide) hp
  | succ n ih =>
    intro v hn hp
    rw [pk_m1]
    exact br_f (nI_pos (by omega)) (tc_tritOf (nm_e (nm_e (ih _ (by omega) hp))))
theorem tc_valueOf {post : Int32 → Prop} {u : St2} {w r : Int32} (h : tc_val w = r) (hp : post r) : wpX_valueOf post u w := by
  obtain ⟨l, cp, sd, ce, pe, oc, ac, pl, ru, pc, a1, a2, a3, a4, a5, a6, a7, a8, a9, a10, a11, a12, a13⟩ := u
  subst h
  have g := tc_v5 (post := post) (w := w) (l := l) (cp := cp) (sd := sd) (ce := ce) (pe := pe) (oc := oc) (ac := ac) (pl := pl) (ru := ru) (pc := pc) (a1 := a1) (a2 := a2) (a3 := a3) (a4 := a4) (a5 := a5) (a6 := a6) (a7 := a7) (a8 := a8) (a9 := a9) (a10 := a10) (a11 := a11) (a12 := a12) (a13 := a13) 9 0 (by omega) hp
  rw [show nI 9 + (-1) = 8 by decide] at g
  exact ⟨10, g⟩
/-! sum and product end, with some answer -/
theorem tc_s56 {post : Int32 → Prop} {J8 : Int32 → Int32 → Int32 → Prop} {x1 x2 x3 x6 z : Int32} {i : Nat} {l cp sd ce pe oc ac pl ru pc : Int32} {a1 a2 a3 a4 a5 a6 a7 a8 a9 a10 a11 a12 a13 : Nat → Int32} (h : ∀ r, J8 r z (nI (i + 1))) : wX_sum_56 post J8 x1 x2 x3 (nI i) x6 z l cp sd ce pe oc ac pl ru pc a1 a2 a3 a4 a5 a6 a7 a8 a9 a10 a11 a12 a13 :=
  tc_withTrit (nm_r (nI_1 i) (h _))
theorem tc_s8 {post : Int32 → Prop} {x1 x2 : Int32} {l cp sd ce pe oc ac pl ru pc : Int32} {a1 a2 a3 a4 a5 a6 a7 a8 a9 a10 a11 a12 a13 : Nat → Int32} (h : ∀ r, post r) : ∀ (k i : Nat) (w c : Int32), i + k = 9 → wX_sum_8 post x1 x2 l cp sd ce pe oc ac pl ru pc a1 a2 a3 a4 a5 a6 a7 a8 a9 a10 a11 a12 a13 (k + 1) w c (nI i) := by
  intro k
  induction k with
  | zero =>
    intro i w c hi
    have e : i = 9 := by omega
    subst e
    exact pk_le 9 9 (fun _ => h _) (fun z => absurd z (by omega))
  | succ k ih =>
    intro i w c hi
    exact pk_le 9 i (fun z => absurd z (by omega)) (fun _ => tc_tritOf (tc_tritOf (nm_e (br_c (fun _ => br_c (fun _ => tc_s56 (fun r => ih (i + 1) r _ (by omega))) (fun _ => tc_s56 (fun r => ih (i + 1) r _ (by omega)))) (fun _ => tc_s56 (fun r => ih (i + 1) r _ (by omega)))))))
theorem tc_sum {post : Int32 → Prop} {u : St2} {x1 x2 : Int32} (h : ∀ r, post r) : wpX_sum post u x1 x2 := by
  obtain ⟨l, cp, sd, ce, pe, oc, ac, pl, ru, pc, a1, a2, a3, a4, a5, a6, a7, a8, a9, a10, a11, a12, a13⟩ := u
  exact ⟨10, tc_s8 h 9 0 0 0 rfl⟩
theorem tc_shU {post : Int32 → Prop} {u : St2} {w : Int32} (h : ∀ r, post r) : wpX_shiftedUp post u w := by
  obtain ⟨l, cp, sd, ce, pe, oc, ac, pl, ru, pc, a1, a2, a3, a4, a5, a6, a7, a8, a9, a10, a11, a12, a13⟩ := u
  exact h _
theorem tc_shD {post : Int32 → Prop} {u : St2} {w : Int32} (h : ∀ r, post r) : wpX_shiftedDown post u w := by
  obtain ⟨l, cp, sd, ce, pe, oc, ac, pl, ru, pc, a1, a2, a3, a4, a5, a6, a7, a8, a9, a10, a11, a12, a13⟩ := u
  exact h _
theorem tc_neg {post : Int32 → Prop} {u : St2} {w : Int32} (h : ∀ r, post r) : wpX_negated post u w := by
  obtain ⟨l, cp, sd, ce, pe, oc, ac, pl, ru, pc, a1, a2, a3, a4, a5, a6, a7, a8, a9, a10, a11, a12, a13⟩ := u
  exact h _
theorem tc_les {post : Int32 → Prop} {u : St2} {w x : Int32} (h : ∀ r, post r) : wpX_lesser post u w x := by
  obtain ⟨l, cp, sd, ce, pe, oc, ac, pl, ru, pc, a1, a2, a3, a4, a5, a6, a7, a8, a9, a10, a11, a12, a13⟩ := u
  exact h _
theorem tc_p60 {post : Int32 → Prop} {J8 : Int32 → Int32 → Int32 → Prop} {x2 x3 x4 : Int32} {i : Nat} {l cp sd ce pe oc ac pl ru pc : Int32} {a1 a2 a3 a4 a5 a6 a7 a8 a9 a10 a11 a12 a13 : Nat → Int32} (h : ∀ a b, J8 a b (nI (i + 1))) : wX_product_60 post J8 x2 x3 x4 (nI i) l cp sd ce pe oc ac pl ru pc a1 a2 a3 a4 a5 a6 a7 a8 a9 a10 a11 a12 a13 :=
  tc_shU (fun r => nm_r (nI_1 i) (h _ r))
theorem tc_p38 {post : Int32 → Prop} {J8 : Int32 → Int32 → Int32 → Prop} {x2 x3 x4 x6 : Int32} {i : Nat} {l cp sd ce pe oc ac pl ru pc : Int32} {a1 a2 a3 a4 a5 a6 a7 a8 a9 a10 a11 a12 a13 : Nat → Int32} (h : ∀ a b, J8 a b (nI (i + 1))) : wX_product_38 post J8 x2 x3 x4 (nI i) x6 l cp sd ce pe oc ac pl ru pc a1 a2 a3 a4 a5 a6 a7 a8 a9 a10 a11 a12 a13 :=
  tc_neg (fun _ => br_c (fun _ => tc_sum (fun _ => tc_p60 h)) (fun _ => tc_p60 h))
theorem tc_p8l {post : Int32 → Prop} {x2 : Int32} {l cp sd ce pe oc ac pl ru pc : Int32} {a1 a2 a3 a4 a5 a6 a7 a8 a9 a10 a11 a12 a13 : Nat → Int32} (h : ∀ r, post r) : ∀ (k i : Nat) (x3 x4 : Int32), i + k = 9 → wX_product_8 post x2 l cp sd ce pe oc ac pl ru pc a1 a2 a3 a4 a5 a6 a7 a8 a9 a10 a11 a12 a13 (k + 1) x3 x4 (nI i) := by
  intro k
  induction k with
  | zero =>
    intro i x3 x4 hi
    have e : i = 9 := by omega
    subst e
    exact pk_le 9 9 (fun _ => h _) (fun z => absurd z (by omega))
  | succ k ih =>
    intro i x3 x4 hi
    exact pk_le 9 i (fun z => absurd z (by omega)) (fun _ => tc_tritOf (br_c (fun _ => tc_sum (fun _ => tc_p38 (fun a b => ih (i + 1) a b (by omega)))) (fun _ => tc_p38 (fun a b => ih (i + 1) a b (by omega)))))
theorem tc_product {post : Int32 → Prop} {u : St2} {x1 x2 : Int32} (h : ∀ r, post r) : wpX_product post u x1 x2 := by
  obtain ⟨l, cp, sd, ce, pe, oc, ac, pl, ru, pc, a1, a2, a3, a4, a5, a6, a7, a8, a9, a10, a11, a12, a13⟩ := u
  exact ⟨10, tc_p8l h 9 0 0 x1 rfl⟩
theorem tc_combined {post : Int32 → Prop} {u : St2} {o w : Int32} (h : ∀ r, post r) : wpX_combined post u o w := by
  obtain ⟨l, cp, sd, ce, pe, oc, ac, pl, ru, pc, a1, a2, a3, a4, a5, a6, a7, a8, a9, a10, a11, a12, a13⟩ := u
  exact br_c (fun _ => tc_sum h) (fun _ => tc_neg (fun _ => br_c (fun _ => tc_sum h) (fun _ => br_c (fun _ => tc_product h) (fun _ => tc_les h))))
/-! the source's own methods -/
theorem tc_500 (j : Nat) : (500 : Int32) + nI j = nI (500 + j) := nI_add 500 j
theorem tc_5c {j : Nat} (hj : j < 6) : ((500 : Int32) + nI j).toNatClampNeg = 500 + j := by rw [tc_500, nI_clamp (by omega)]
theorem tc_5h {f : Nat → Int32} {a : Nat} (h : f 0 = nI a) : (500 : Int32) + f (0 : Int32).toNatClampNeg = nI (500 + a) := by
  rw [sb_cl0, h]
  exact tc_500 a
theorem tc_put {post : Int32 → St2 → Prop} {l cp sd ce pe oc ac pl ru pc : Int32} {a1 a2 a3 a4 a5 a6 a7 a8 a9 a10 a11 a12 a13 : Nat → Int32} {v x : Int32} (hy : ∀ j, j < 6 → v = nI j → post 1 (l, cp, sd, ce, pe, oc, ac, pl, ru, pc, a1, a2, a3, a4, a5, a6, a7, a8, a9, a10, a11, upd a12 (500 + j) (tc_word x.toInt64), a13)) (hn : ¬ tc_in v → post 0 (l, cp, sd, ce, pe, oc, ac, pl, ru, pc, a1, a2, a3, a4, a5, a6, a7, a8, a9, a10, a11, a12, a13)) : wpX_put post (l, cp, sd, ce, pe, oc, ac, pl, ru, pc, a1, a2, a3, a4, a5, a6, a7, a8, a9, a10, a11, a12, a13) v x := by
  unfold wpX_put
  dsimp only
  refine tc_isv (fun h => br_f (by decide) ?_) (fun h => br_t rfl (hn h))
  obtain ⟨j, hj, rfl⟩ := tc_inI h
  exact tc_wordOf ⟨pk_in (500 + j) 729 (by omega) (tc_500 j), nm_r (by rw [tc_5c hj]) (hy j hj rfl)⟩
theorem tc_variable {post : Int32 → Prop} {l cp sd ce pe oc ac pl ru pc : Int32} {a1 a2 a3 a4 a5 a6 a7 a8 a9 a10 a11 a12 a13 : Nat → Int32} {v : Int32} (hy : ∀ j, j < 6 → v = nI j → post (tc_val (a12 (500 + j)))) (hn : ¬ tc_in v → post (-10000)) : wpX_variable post (l, cp, sd, ce, pe, oc, ac, pl, ru, pc, a1, a2, a3, a4, a5, a6, a7, a8, a9, a10, a11, a12, a13) v := by
  unfold wpX_variable
  dsimp only
  refine tc_isv (fun h => br_f (by decide) ?_) (fun h => br_t rfl (hn h))
  obtain ⟨j, hj, rfl⟩ := tc_inI h
  exact ⟨pk_in (500 + j) 729 (by omega) (tc_500 j), tc_valueOf (by rw [tc_5c hj]) (hy j hj rfl)⟩
theorem tc_out0 {post : Int32 → Prop} {l cp sd ce pe oc ac pl ru : Int32} {a1 a2 a3 a4 a5 a6 a7 a8 a9 a10 a11 a12 a13 : Nat → Int32} (h : post (-10000)) : wpX_output post (l, cp, sd, ce, pe, oc, ac, pl, ru, 0, a1, a2, a3, a4, a5, a6, a7, a8, a9, a10, a11, a12, a13) 0 := br_f (by decide) (br_t (by decide) h)
theorem tc_out1 {post : Int32 → Prop} {l cp sd ce pe oc ac pl ru : Int32} {a1 a2 a3 a4 a5 a6 a7 a8 a9 a10 a11 a12 a13 : Nat → Int32} (h : post (tc_val (a13 0))) : wpX_output post (l, cp, sd, ce, pe, oc, ac, pl, ru, 1, a1, a2, a3, a4, a5, a6, a7, a8, a9, a10, a11, a12, a13) 0 := br_f (by decide) (br_f (by decide) (br_t (by decide) ⟨pk_in 0 48 (by omega), tc_valueOf (by rw [sb_cl0]) h⟩))
theorem tc_ret0 {post : Int32 → St2 → Prop} {cp sd ce pe oc ac pl ru pc : Int32} {a1 a2 a3 a4 a5 a6 a7 a8 a9 a10 a11 a12 a13 : Nat → Int32} (h : post (-10000) (0, cp, sd, ce, pe, oc, ac, pl, ru, pc, a1, a2, a3, a4, a5, a6, a7, a8, a9, a10, a11, a12, a13)) : wpX_retract post (0, cp, sd, ce, pe, oc, ac, pl, ru, pc, a1, a2, a3, a4, a5, a6, a7, a8, a9, a10, a11, a12, a13) := br_t rfl h
theorem tc_ret1 {post : Int32 → St2 → Prop} {cp sd ce pe oc ac pl ru pc : Int32} {a1 a2 a3 a4 a5 a6 a7 a8 a9 a10 a11 a12 a13 : Nat → Int32} (h : post 0 (0, 0, sd, ce, pe, oc, ac, pl, ru, pc, a1, a2, a3, a4, a5, a6, a7, a8, a9, a10, a11, a12, a13)) : wpX_retract post (1, cp, sd, ce, pe, oc, ac, pl, ru, pc, a1, a2, a3, a4, a5, a6, a7, a8, a9, a10, a11, a12, a13) := br_f (by decide) (nm_r (show (1 : Int32) - 1 = 0 by decide) h)
theorem tc_write {post : St2 → Prop} {l cp sd pe oc ac pl ru pc : Int32} {a1 a2 a3 a4 a5 a6 a7 a8 a9 a10 a11 a12 a13 : Nat → Int32} {x : Int32} (k o c : Nat) (hx : x = nI c) (hk : k < 729) (h : post (l, cp, sd, nI (k + 1), pe, oc, ac, pl, ru, pc, a1, a2, a3, a4, a5, a6, a7, a8, a9, a10, a11, upd a12 k (tc_wd o c), a13)) : wpX_write post (l, cp, sd, nI k, pe, oc, ac, pl, ru, pc, a1, a2, a3, a4, a5, a6, a7, a8, a9, a10, a11, a12, a13) (nI o) x := by
  subst hx
  unfold wpX_write
  dsimp only
  exact tc_wordOf ⟨pk_in k 729 hk, nm_r (by rw [nI_clamp (by omega)]; rfl) (nm_r (nI_1 k) h)⟩
theorem tc_pool {post : Int32 → St2 → Prop} {l cp sd ce oc ac pl ru pc : Int32} {a1 a2 a3 a4 a5 a6 a7 a8 a9 a10 a11 a12 a13 : Nat → Int32} (k : Nat) (x : Int32) (hk : k < 729) (h : post (nI k) (l, cp, sd, ce, nI (k + 1), oc, ac, pl, ru, pc, a1, a2, a3, a4, a5, a6, a7, a8, a9, a10, a11, upd a12 k (tc_word x.toInt64), a13)) : wpX_pool post (l, cp, sd, ce, nI k, oc, ac, pl, ru, pc, a1, a2, a3, a4, a5, a6, a7, a8, a9, a10, a11, a12, a13) x := by
  unfold wpX_pool
  dsimp only
  exact tc_wordOf ⟨pk_in k 729 hk, nm_r (by rw [nI_clamp (by omega)]) (nm_r (nI_1 k) h)⟩
end
section
/-! part 04: the machine, one word at a time -/
theorem tc_u0 (f : Nat → Int32) (x : Int32) : upd f (0 : Int32).toNatClampNeg x = upd f 0 x := by rw [sb_cl0]
theorem tc_xHalt {post : St2 → Prop} {l cp sd ce pe oc ac ru pc : Int32} {a1 a2 a3 a4 a5 a6 a7 a8 a9 a10 a11 a12 a13 : Nat → Int32} (p : Nat) (hp : p < 729) (hw : a12 p = tc_wd 0 364) (h : post (l, cp, sd, ce, pe, oc, ac, nI (p + 1), 0, pc, a1, a2, a3, a4, a5, a6, a7, a8, a9, a10, a11, a12, a13)) : wpX_execute post (l, cp, sd, ce, pe, oc, ac, nI p, ru, pc, a1, a2, a3, a4, a5, a6, a7, a8, a9, a10, a11, a12, a13) := by
  have hk := tc_okC 0 (by omega)
  unfold wpX_execute
  dsimp only
  refine ⟨pk_in p 729 hp, nm_r (show a12 (nI p).toNatClampNeg = tc_wd 0 364 by rw [nI_clamp (by omega)]; exact hw) (tc_valueOf hk.1 (tc_valueOf rfl (nm_r hk.2 (nm_r (nI_1 p) ?_))))⟩
  exact br_t rfl h
theorem tc_xLoad {post : St2 → Prop} {l cp sd ce pe oc ac ru pc : Int32} {a1 a2 a3 a4 a5 a6 a7 a8 a9 a10 a11 a12 a13 : Nat → Int32} (p c : Nat) (hp : p < 729) (hc : c < 729) (hk : tc_ok 1 c) (hw : a12 p = tc_wd 1 c) (h : post (l, cp, sd, ce, pe, oc, a12 c, nI (p + 1), ru, pc, a1, a2, a3, a4, a5, a6, a7, a8, a9, a10, a11, a12, a13)) : wpX_execute post (l, cp, sd, ce, pe, oc, ac, nI p, ru, pc, a1, a2, a3, a4, a5, a6, a7, a8, a9, a10, a11, a12, a13) := by
  unfold wpX_execute
  dsimp only
  refine ⟨pk_in p 729 hp, nm_r (show a12 (nI p).toNatClampNeg = tc_wd 1 c by rw [nI_clamp (by omega)]; exact hw) (tc_valueOf hk.1 (tc_valueOf rfl (nm_r hk.2 (nm_r (nI_1 p) ?_))))⟩
  exact br_f (by decide) (br_t rfl ⟨pk_in c 729 hc, nm_r (by rw [nI_clamp (by omega)]) h⟩)
theorem tc_xStore {post : St2 → Prop} {l cp sd ce pe oc ac ru pc : Int32} {a1 a2 a3 a4 a5 a6 a7 a8 a9 a10 a11 a12 a13 : Nat → Int32} (p c : Nat) (hp : p < 729) (hc : c < 729) (hk : tc_ok 2 c) (hw : a12 p = tc_wd 2 c) (h : post (l, cp, sd, ce, pe, oc, ac, nI (p + 1), ru, pc, a1, a2, a3, a4, a5, a6, a7, a8, a9, a10, a11, upd a12 c ac, a13)) : wpX_execute post (l, cp, sd, ce, pe, oc, ac, nI p, ru, pc, a1, a2, a3, a4, a5, a6, a7, a8, a9, a10, a11, a12, a13) := by
  unfold wpX_execute
  dsimp only
  refine ⟨pk_in p 729 hp, nm_r (show a12 (nI p).toNatClampNeg = tc_wd 2 c by rw [nI_clamp (by omega)]; exact hw) (tc_valueOf hk.1 (tc_valueOf rfl (nm_r hk.2 (nm_r (nI_1 p) ?_))))⟩
  exact br_f (by decide) (br_f (by decide) (br_t rfl ⟨pk_in c 729 hc, nm_r (by rw [nI_clamp (by omega)]) h⟩))
/-- PLUS, MINUS, TIMES, LESSER and the two shifts: the accumulator holds something -/
theorem tc_xArith {post : St2 → Prop} {l cp sd ce pe oc ac ru pc : Int32} {a1 a2 a3 a4 a5 a6 a7 a8 a9 a10 a11 a12 a13 : Nat → Int32} (p o c : Nat) (hp : p < 729) (hc : c < 729) (ho : 3 ≤ o) (ho' : o ≤ 8) (hk : tc_ok o c) (hw : a12 p = tc_wd o c) (h : ∀ r, post (l, cp, sd, ce, pe, oc, r, nI (p + 1), ru, pc, a1, a2, a3, a4, a5, a6, a7, a8, a9, a10, a11, a12, a13)) : wpX_execute post (l, cp, sd, ce, pe, oc, ac, nI p, ru, pc, a1, a2, a3, a4, a5, a6, a7, a8, a9, a10, a11, a12, a13) := by
  unfold wpX_execute
  dsimp only
  refine ⟨pk_in p 729 hp, nm_r (show a12 (nI p).toNatClampNeg = tc_wd o c by rw [nI_clamp (by omega)]; exact hw) (tc_valueOf hk.1 (tc_valueOf rfl (nm_r hk.2 (nm_r (nI_1 p) ?_))))⟩
  refine pk_eq o 0 (fun z => absurd z (by omega)) (fun _ => pk_eq o 1 (fun z => absurd z (by omega)) (fun _ => pk_eq o 2 (fun z => absurd z (by omega)) (fun _ => pk_lt 6 o (fun h6 => ?_) (fun _ => ?_))))
  · exact pk_eq o 7 (fun _ => tc_shU h) (fun h7 => pk_eq o 8 (fun _ => tc_shD h) (fun h8 => absurd ho' (by omega)))
  · exact ⟨pk_in c 729 hc, tc_combined h⟩
theorem tc_xPrint {post : St2 → Prop} {l cp sd ce pe oc ac ru : Int32} {a1 a2 a3 a4 a5 a6 a7 a8 a9 a10 a11 a12 a13 : Nat → Int32} (p c : Nat) (hp : p < 729) (hc : c < 729) (hk : tc_ok 12 c) (hw : a12 p = tc_wd 12 c) (h : post (l, cp, sd, ce, pe, oc, ac, nI (p + 1), ru, 1, a1, a2, a3, a4, a5, a6, a7, a8, a9, a10, a11, a12, upd a13 0 (a12 c))) : wpX_execute post (l, cp, sd, ce, pe, oc, ac, nI p, ru, 0, a1, a2, a3, a4, a5, a6, a7, a8, a9, a10, a11, a12, a13) := by
  unfold wpX_execute
  dsimp only
  refine ⟨pk_in p 729 hp, nm_r (show a12 (nI p).toNatClampNeg = tc_wd 12 c by rw [nI_clamp (by omega)]; exact hw) (tc_valueOf hk.1 (tc_valueOf rfl (nm_r hk.2 (nm_r (nI_1 p) ?_))))⟩
  refine br_f (by decide) (br_f (by decide) (br_f (by decide) (br_t (by decide) (br_f (by decide) (br_f (by decide) (br_t rfl ⟨pk_in c 729 hc, ?_⟩))))))
  rw [nI_clamp (by omega)]
  exact br_f (by decide) ⟨pk_in 0 48 (by omega), nm_r (tc_u0 _ _) (nm_r (show (0 : Int32) + 1 = 1 by decide) h)⟩
/-! the run's loop -/
theorem tc_rHalt {post : Int32 → St2 → Prop} {n : Nat} {l cp sd ce pe oc ac pc : Int32} {a1 a2 a3 a4 a5 a6 a7 a8 a9 a10 a11 a12 a13 : Nat → Int32} (i p : Nat) (hi : i < 39999) (hp : p < 729) (hw : a12 p = tc_wd 0 364) (h : post pc (l, cp, sd, ce, pe, oc, ac, nI (p + 1), 0, pc, a1, a2, a3, a4, a5, a6, a7, a8, a9, a10, a11, a12, a13)) : wX_run_37 post (n + 1 + 1) (nI i) l cp sd ce pe oc ac (nI p) 1 pc a1 a2 a3 a4 a5 a6 a7 a8 a9 a10 a11 a12 a13 :=
  pk_le 40000 i (fun z => absurd z (by omega)) (fun _ => br_f (by decide) (tc_xHalt p hp hw (nm_r (nI_1 i) (pk_le 40000 (i + 1) (fun z => absurd z (by omega)) (fun _ => br_t rfl h)))))
theorem tc_rLoad {post : Int32 → St2 → Prop} {n : Nat} {l cp sd ce pe oc ac pc : Int32} {a1 a2 a3 a4 a5 a6 a7 a8 a9 a10 a11 a12 a13 : Nat → Int32} (i p c : Nat) (hi : i < 39999) (hp : p < 729) (hc : c < 729) (hk : tc_ok 1 c) (hw : a12 p = tc_wd 1 c) (h : wX_run_37 post n (nI (i + 1)) l cp sd ce pe oc (a12 c) (nI (p + 1)) 1 pc a1 a2 a3 a4 a5 a6 a7 a8 a9 a10 a11 a12 a13) : wX_run_37 post (n + 1) (nI i) l cp sd ce pe oc ac (nI p) 1 pc a1 a2 a3 a4 a5 a6 a7 a8 a9 a10 a11 a12 a13 :=
  pk_le 40000 i (fun z => absurd z (by omega)) (fun _ => br_f (by decide) (tc_xLoad p c hp hc hk hw (nm_r (nI_1 i) h)))
theorem tc_rStore {post : Int32 → St2 → Prop} {n : Nat} {l cp sd ce pe oc ac pc : Int32} {a1 a2 a3 a4 a5 a6 a7 a8 a9 a10 a11 a12 a13 : Nat → Int32} (i p c : Nat) (hi : i < 39999) (hp : p < 729) (hc : c < 729) (hk : tc_ok 2 c) (hw : a12 p = tc_wd 2 c) (h : wX_run_37 post n (nI (i + 1)) l cp sd ce pe oc ac (nI (p + 1)) 1 pc a1 a2 a3 a4 a5 a6 a7 a8 a9 a10 a11 (upd a12 c ac) a13) : wX_run_37 post (n + 1) (nI i) l cp sd ce pe oc ac (nI p) 1 pc a1 a2 a3 a4 a5 a6 a7 a8 a9 a10 a11 a12 a13 :=
  pk_le 40000 i (fun z => absurd z (by omega)) (fun _ => br_f (by decide) (tc_xStore p c hp hc hk hw (nm_r (nI_1 i) h)))
theorem tc_rArith {post : Int32 → St2 → Prop} {n : Nat} {l cp sd ce pe oc ac pc : Int32} {a1 a2 a3 a4 a5 a6 a7 a8 a9 a10 a11 a12 a13 : Nat → Int32} (i p o c : Nat) (hi : i < 39999) (hp : p < 729) (hc : c < 729) (ho : 3 ≤ o) (ho' : o ≤ 8) (hk : tc_ok o c) (hw : a12 p = tc_wd o c) (h : ∀ r, wX_run_37 post n (nI (i + 1)) l cp sd ce pe oc r (nI (p + 1)) 1 pc a1 a2 a3 a4 a5 a6 a7 a8 a9 a10 a11 a12 a13) : wX_run_37 post (n + 1) (nI i) l cp sd ce pe oc ac (nI p) 1 pc a1 a2 a3 a4 a5 a6 a7 a8 a9 a10 a11 a12 a13 :=
  pk_le 40000 i (fun z => absurd z (by omega)) (fun _ => br_f (by decide) (tc_xArith p o c hp hc ho ho' hk hw (fun r => nm_r (nI_1 i) (h r))))
theorem tc_rPrint {post : Int32 → St2 → Prop} {n : Nat} {l cp sd ce pe oc ac : Int32} {a1 a2 a3 a4 a5 a6 a7 a8 a9 a10 a11 a12 a13 : Nat → Int32} (i p c : Nat) (hi : i < 39999) (hp : p < 729) (hc : c < 729) (hk : tc_ok 12 c) (hw : a12 p = tc_wd 12 c) (h : wX_run_37 post n (nI (i + 1)) l cp sd ce pe oc ac (nI (p + 1)) 1 1 a1 a2 a3 a4 a5 a6 a7 a8 a9 a10 a11 a12 (upd a13 0 (a12 c))) : wX_run_37 post (n + 1) (nI i) l cp sd ce pe oc ac (nI p) 1 0 a1 a2 a3 a4 a5 a6 a7 a8 a9 a10 a11 a12 a13 :=
  pk_le 40000 i (fun z => absurd z (by omega)) (fun _ => br_f (by decide) (tc_xPrint p c hp hc hk hw (nm_r (nI_1 i) h)))
end
section
/-! part 05: soundness and the compiler, over a source of no statement or of one -/
theorem tc_bf0 {post : Int32 → St2 → Prop} {cp sd ce pe oc ac pl ru pc : Int32} {a1 a2 a3 a4 a5 a6 a7 a8 a9 a10 a11 a12 a13 : Nat → Int32} (h : post 1 (0, cp, sd, ce, pe, oc, ac, pl, ru, pc, a1, a2, a3, a4, a5, a6, a7, a8, a9, a10, a11, a12, a13)) : wpX_blocksFit post (0, cp, sd, ce, pe, oc, ac, pl, ru, pc, a1, a2, a3, a4, a5, a6, a7, a8, a9, a10, a11, a12, a13) := ⟨1, br_t (by decide) (br_t rfl h)⟩
theorem tc_bf1 {post : Int32 → St2 → Prop} {cp sd ce pe oc ac pl ru pc : Int32} {a1 a2 a3 a4 a5 a6 a7 a8 a9 a10 a11 a12 a13 : Nat → Int32} (k : Nat) (hk : a1 0 = nI k) (hr : k < 7 ∨ k = 12) (h : post 1 (1, cp, sd, ce, pe, oc, ac, pl, ru, pc, a1, a2, a3, a4, a5, a6, a7, a8, a9, a10, a11, a12, a13)) : wpX_blocksFit post (1, cp, sd, ce, pe, oc, ac, pl, ru, pc, a1, a2, a3, a4, a5, a6, a7, a8, a9, a10, a11, a12, a13) :=
  ⟨2, br_f (by decide) ⟨pk_in 0 40 (by omega), nm_r (show a1 (0 : Int32).toNatClampNeg = nI k by rw [sb_cl0]; exact hk) (pk_eq k 7 (fun z => absurd z (by omega)) (fun _ => pk_eq k 10 (fun z => absurd z (by omega)) (fun _ => pk_eq k 8 (fun z => absurd z (by omega)) (fun _ => pk_eq k 9 (fun z => absurd z (by omega)) (fun _ => pk_eq k 11 (fun z => absurd z (by omega)) (fun _ => nm_r (show (0 : Int32) + 1 = 1 by decide) (br_t (by decide) (br_t rfl h))))))))⟩⟩
theorem tc_bfO {post : Int32 → St2 → Prop} {cp sd ce pe oc ac pl ru pc : Int32} {a1 a2 a3 a4 a5 a6 a7 a8 a9 a10 a11 a12 a13 : Nat → Int32} (k : Nat) (hk : a1 0 = nI k) (hr : 7 ≤ k ∧ k ≤ 11) (h : ∀ b, post 0 (1, cp, sd, ce, pe, oc, ac, pl, ru, pc, a1, a2, a3, a4, b, a6, a7, a8, a9, a10, a11, a12, a13)) : wpX_blocksFit post (1, cp, sd, ce, pe, oc, ac, pl, ru, pc, a1, a2, a3, a4, a5, a6, a7, a8, a9, a10, a11, a12, a13) := by
  have o : ∀ x3 : Int32, wX_blocksFit_31 post (wX_blocksFit_4 post 1 cp sd ce pe oc ac pl ru pc 1) 0 0 x3 1 cp sd ce pe oc ac pl ru pc a1 a2 a3 a4 a5 a6 a7 a8 a9 a10 a11 a12 a13 := fun x3 =>
    br_f (by decide) ⟨pk_in 0 4 (by omega), nm_e (nm_r (show (0 : Int32) + 1 = 1 by decide) (nm_r (show (0 : Int32) + 1 = 1 by decide) (br_t (by decide) (br_f (by decide) (h _)))))⟩
  have m : ∀ x3 : Int32, wX_blocksFit_64 post (wX_blocksFit_4 post 1 cp sd ce pe oc ac pl ru pc 1) 0 0 x3 1 cp sd ce pe oc ac pl ru pc a1 a2 a3 a4 a5 a6 a7 a8 a9 a10 a11 a12 a13 := fun x3 => br_t rfl (h a5)
  exact ⟨2, br_f (by decide) ⟨pk_in 0 40 (by omega), nm_r (show a1 (0 : Int32).toNatClampNeg = nI k by rw [sb_cl0]; exact hk) (pk_eq k 7 (fun _ => o _) (fun _ => pk_eq k 10 (fun _ => o _) (fun _ => pk_eq k 8 (fun _ => m _) (fun _ => pk_eq k 9 (fun _ => m _) (fun _ => pk_eq k 11 (fun _ => br_t rfl (h a5)) (fun _ => absurd hr (by omega)))))))⟩⟩
/-! one statement -/
theorem tc_csSet {post : St2 → Prop} {l cp sd oc ac pl ru pc : Int32} {a1 a2 a3 a4 a5 a6 a7 a8 a9 a10 a11 a12 a13 : Nat → Int32} (a : Nat) (h1 : a1 0 = nI 0) (h3 : a3 0 = nI a) (h : post (l, cp, sd, nI 2, nI 511, oc, ac, pl, ru, pc, a1, a2, a3, a4, a5, a6, a7, a8, a9, a10, a11, upd (upd (upd a12 510 (tc_word (a2 0).toInt64)) 0 (tc_wd 1 510)) 1 (tc_wd 2 (500 + a)), a13)) : wpX_compileStatement post (l, cp, sd, nI 0, nI 510, oc, ac, pl, ru, pc, a1, a2, a3, a4, a5, a6, a7, a8, a9, a10, a11, a12, a13) 0 :=
  ⟨pk_in 0 40 (by omega), nm_r (show a1 (0 : Int32).toNatClampNeg = nI 0 by rw [sb_cl0]; exact h1) (br_t rfl ⟨pk_in 0 40 (by omega), tc_pool 510 _ (by omega) (tc_write 0 1 510 rfl (by omega) ⟨pk_in 0 40 (by omega), tc_write 1 2 (500 + a) (tc_5h h3) (by omega) h⟩)⟩)⟩
theorem tc_csPrint {post : St2 → Prop} {l cp sd pe oc ac pl ru pc : Int32} {a1 a2 a3 a4 a5 a6 a7 a8 a9 a10 a11 a12 a13 : Nat → Int32} (a : Nat) (h1 : a1 0 = nI 12) (h2 : a2 0 = nI a) (h : post (l, cp, sd, nI 1, pe, oc, ac, pl, ru, pc, a1, a2, a3, a4, a5, a6, a7, a8, a9, a10, a11, upd a12 0 (tc_wd 12 (500 + a)), a13)) : wpX_compileStatement post (l, cp, sd, nI 0, pe, oc, ac, pl, ru, pc, a1, a2, a3, a4, a5, a6, a7, a8, a9, a10, a11, a12, a13) 0 :=
  ⟨pk_in 0 40 (by omega), nm_r (show a1 (0 : Int32).toNatClampNeg = nI 12 by rw [sb_cl0]; exact h1) (br_f (by decide) (br_t (by decide) (br_f (by decide) (br_f (by decide) (br_f (by decide) (br_f (by decide) (br_f (by decide) ⟨pk_in 0 40 (by omega), tc_write 0 12 (500 + a) (tc_5h h2) (by omega) h⟩)))))))⟩
theorem tc_a111 {post : St2 → Prop} {l cp sd pe oc ac pl ru pc : Int32} {a1 a2 a3 a4 a5 a6 a7 a8 a9 a10 a11 a12 a13 : Nat → Int32} (a : Nat) (h2 : a2 0 = nI a) (h : post (l, cp, sd, nI 3, pe, oc, ac, pl, ru, pc, a1, a2, a3, a4, a5, a6, a7, a8, a9, a10, a11, upd a12 2 (tc_wd 2 (500 + a)), a13)) : wX_compileArithmetic_111 post 0 l cp sd (nI 2) pe oc ac pl ru pc a1 a2 a3 a4 a5 a6 a7 a8 a9 a10 a11 a12 a13 :=
  ⟨pk_in 0 40 (by omega), tc_write 2 2 (500 + a) (tc_5h h2) (by omega) h⟩
theorem tc_csArith {post : St2 → Prop} {l cp sd pe oc ac pl ru pc : Int32} {a1 a2 a3 a4 a5 a6 a7 a8 a9 a10 a11 a12 a13 : Nat → Int32} (k a b : Nat) (h1 : a1 0 = nI k) (hr : 1 ≤ k ∧ k ≤ 6) (h2 : a2 0 = nI a) (h3 : a3 0 = nI b) (h4 : k ≤ 3 ∨ k = 6 → ∃ c, c < 6 ∧ a4 0 = nI c)
    (h : ∀ o c, 3 ≤ o → o ≤ 8 → c < 729 → tc_ok o c → post (l, cp, sd, nI 3, pe, oc, ac, pl, ru, pc, a1, a2, a3, a4, a5, a6, a7, a8, a9, a10, a11, upd (upd (upd a12 0 (tc_wd 1 (500 + b))) 1 (tc_wd o c)) 2 (tc_wd 2 (500 + a)), a13)) : wpX_compileStatement post (l, cp, sd, nI 0, pe, oc, ac, pl, ru, pc, a1, a2, a3, a4, a5, a6, a7, a8, a9, a10, a11, a12, a13) 0 := by
  have h1' : a1 (0 : Int32).toNatClampNeg = nI k := by rw [sb_cl0]; exact h1
  refine ⟨pk_in 0 40 (by omega), nm_r h1' (pk_eq k 0 (fun z => absurd z (by omega)) (fun _ => pk_lt 6 k (fun z => absurd z (by omega)) (fun _ => ?_)))⟩
  refine ⟨pk_in 0 40 (by omega), nm_r h1' ⟨pk_in 0 40 (by omega), nm_e ⟨pk_in 0 40 (by omega), tc_write 0 1 (500 + b) (tc_5h h3) (by omega) ?_⟩⟩⟩
  have c4 : ∀ {o : Nat}, 3 ≤ o → o ≤ 8 → k ≤ 3 ∨ k = 6 → ∃ c, c < 6 ∧ (500 : Int32) + a4 (0 : Int32).toNatClampNeg = nI (500 + c) ∧ tc_ok o (500 + c) := by
    intro o _ ho hk
    obtain ⟨c, hc, e⟩ := h4 hk
    exact ⟨c, hc, tc_5h e, tc_okV o (by omega) c hc⟩
  refine pk_eq k 4 (fun _ => ?_) (fun n4 => pk_eq k 5 (fun _ => ?_) (fun n5 => pk_eq k 1 (fun e1 => ?_) (fun n1 => pk_eq k 2 (fun e2 => ?_) (fun n2 => pk_eq k 3 (fun e3 => ?_) (fun n3 => ?_)))))
  · exact tc_write 1 7 364 rfl (by omega) (tc_a111 a h2 (h 7 364 (by omega) (by omega) (by omega) (tc_okC 7 (by omega))))
  · exact tc_write 1 8 364 rfl (by omega) (tc_a111 a h2 (h 8 364 (by omega) (by omega) (by omega) (tc_okC 8 (by omega))))
  · obtain ⟨c, hc, e, g⟩ := c4 (o := 3) (by omega) (by omega) (by omega)
    exact tc_write 1 3 (500 + c) e (by omega) (tc_a111 a h2 (h 3 (500 + c) (by omega) (by omega) (by omega) g))
  · obtain ⟨c, hc, e, g⟩ := c4 (o := 4) (by omega) (by omega) (by omega)
    exact tc_write 1 4 (500 + c) e (by omega) (tc_a111 a h2 (h 4 (500 + c) (by omega) (by omega) (by omega) g))
  · obtain ⟨c, hc, e, g⟩ := c4 (o := 5) (by omega) (by omega) (by omega)
    exact tc_write 1 5 (500 + c) e (by omega) (tc_a111 a h2 (h 5 (500 + c) (by omega) (by omega) (by omega) g))
  · obtain ⟨c, hc, e, g⟩ := c4 (o := 6) (by omega) (by omega) (by omega)
    exact tc_write 1 6 (500 + c) e (by omega) (tc_a111 a h2 (h 6 (500 + c) (by omega) (by omega) (by omega) g))
/-! compile -/
theorem tc_cOpen {post : St2 → Prop} {sd ce pe oc ac pl ru pc : Int32} {a1 a2 a3 a4 a5 a6 a7 a8 a9 a10 a11 a12 a13 : Nat → Int32} (k : Nat) (hk : a1 0 = nI k) (hr : 7 ≤ k ∧ k ≤ 11) (h : ∀ b, post (1, 1, 0, ce, pe, oc, ac, pl, ru, pc, a1, a2, a3, a4, b, a6, a7, a8, a9, a10, a11, a12, a13)) : wpX_compile post (1, 0, sd, ce, pe, oc, ac, pl, ru, pc, a1, a2, a3, a4, a5, a6, a7, a8, a9, a10, a11, a12, a13) :=
  br_t rfl (tc_bfO k hk hr (fun b => ⟨rfl, rfl, br_t rfl (h b)⟩))
theorem tc_c0 {post : St2 → Prop} {sd ce pe oc ac pl ru pc : Int32} {a1 a2 a3 a4 a5 a6 a7 a8 a9 a10 a11 a12 a13 : Nat → Int32} (h : post (0, 1, 1, nI 1, 510, 0, ac, pl, ru, pc, a1, a2, a3, a4, a5, a6, a7, a8, a9, a10, a11, upd (upd a12 506 (tc_word 1)) 0 (tc_wd 0 364), a13)) : wpX_compile post (0, 0, sd, ce, pe, oc, ac, pl, ru, pc, a1, a2, a3, a4, a5, a6, a7, a8, a9, a10, a11, a12, a13) :=
  br_t rfl (tc_bf0 ⟨rfl, rfl, br_f (by decide) (tc_wordOf (nm_e ⟨1, br_t (by decide) (tc_write 0 0 364 rfl (by omega) h)⟩))⟩)
theorem tc_cSet {post : St2 → Prop} {sd ce pe oc ac pl ru pc : Int32} {a1 a2 a3 a4 a5 a6 a7 a8 a9 a10 a11 a12 a13 : Nat → Int32} (a : Nat) (h1 : a1 0 = nI 0) (h3 : a3 0 = nI a) (h : post (1, 1, 1, nI 3, nI 511, 0, ac, pl, ru, pc, a1, a2, a3, a4, a5, a6, a7, a8, a9, a10, a11, upd (upd (upd (upd (upd a12 506 (tc_word 1)) 510 (tc_word (a2 0).toInt64)) 0 (tc_wd 1 510)) 1 (tc_wd 2 (500 + a))) 2 (tc_wd 0 364), a13)) : wpX_compile post (1, 0, sd, ce, pe, oc, ac, pl, ru, pc, a1, a2, a3, a4, a5, a6, a7, a8, a9, a10, a11, a12, a13) :=
  br_t rfl (tc_bf1 0 h1 (by omega) ⟨rfl, rfl, br_f (by decide) (tc_wordOf (nm_e ⟨2, br_f (by decide) (tc_csSet a h1 h3 (nm_r (show (0 : Int32) + 1 = 1 by decide) (br_t (by decide) (tc_write 2 0 364 rfl (by omega) h))))⟩))⟩)
theorem tc_cPrint {post : St2 → Prop} {sd ce pe oc ac pl ru pc : Int32} {a1 a2 a3 a4 a5 a6 a7 a8 a9 a10 a11 a12 a13 : Nat → Int32} (a : Nat) (h1 : a1 0 = nI 12) (h2 : a2 0 = nI a) (h : post (1, 1, 1, nI 2, 510, 0, ac, pl, ru, pc, a1, a2, a3, a4, a5, a6, a7, a8, a9, a10, a11, upd (upd (upd a12 506 (tc_word 1)) 0 (tc_wd 12 (500 + a))) 1 (tc_wd 0 364), a13)) : wpX_compile post (1, 0, sd, ce, pe, oc, ac, pl, ru, pc, a1, a2, a3, a4, a5, a6, a7, a8, a9, a10, a11, a12, a13) :=
  br_t rfl (tc_bf1 12 h1 (by omega) ⟨rfl, rfl, br_f (by decide) (tc_wordOf (nm_e ⟨2, br_f (by decide) (tc_csPrint a h1 h2 (nm_r (show (0 : Int32) + 1 = 1 by decide) (br_t (by decide) (tc_write 1 0 364 rfl (by omega) h))))⟩))⟩)
theorem tc_cArith {post : St2 → Prop} {sd ce pe oc ac pl ru pc : Int32} {a1 a2 a3 a4 a5 a6 a7 a8 a9 a10 a11 a12 a13 : Nat → Int32} (k a b : Nat) (h1 : a1 0 = nI k) (hr : 1 ≤ k ∧ k ≤ 6) (h2 : a2 0 = nI a) (h3 : a3 0 = nI b) (h4 : k ≤ 3 ∨ k = 6 → ∃ c, c < 6 ∧ a4 0 = nI c)
    (h : ∀ o c, 3 ≤ o → o ≤ 8 → c < 729 → tc_ok o c → post (1, 1, 1, nI 4, 510, 0, ac, pl, ru, pc, a1, a2, a3, a4, a5, a6, a7, a8, a9, a10, a11, upd (upd (upd (upd (upd a12 506 (tc_word 1)) 0 (tc_wd 1 (500 + b))) 1 (tc_wd o c)) 2 (tc_wd 2 (500 + a))) 3 (tc_wd 0 364), a13)) : wpX_compile post (1, 0, sd, ce, pe, oc, ac, pl, ru, pc, a1, a2, a3, a4, a5, a6, a7, a8, a9, a10, a11, a12, a13) :=
  br_t rfl (tc_bf1 k h1 (by omega) ⟨rfl, rfl, br_f (by decide) (tc_wordOf (nm_e ⟨2, br_f (by decide) (tc_csArith k a b h1 hr h2 h3 h4 (fun o c g1 g2 g3 g4 => nm_r (show (0 : Int32) + 1 = 1 by decide) (br_t (by decide) (tc_write 3 0 364 rfl (by omega) (h o c g1 g2 g3 g4)))))⟩))⟩)
end
section
/-! part 06: run -/
theorem tc_40 {f : Nat → Int32} {x y z w : Int32} : upd (upd (upd (upd f 0 x) 1 y) 2 z) 3 w 0 = x := rfl
theorem tc_41 {f : Nat → Int32} {x y z w : Int32} : upd (upd (upd (upd f 0 x) 1 y) 2 z) 3 w 1 = y := rfl
theorem tc_42 {f : Nat → Int32} {x y z w : Int32} : upd (upd (upd (upd f 0 x) 1 y) 2 z) 3 w 2 = z := rfl
theorem tc_43 {f : Nat → Int32} {x y z w : Int32} : upd (upd (upd (upd f 0 x) 1 y) 2 z) 3 w 3 = w := rfl
theorem tc_30 {f : Nat → Int32} {x y z : Int32} : upd (upd (upd f 0 x) 1 y) 2 z 0 = x := rfl
theorem tc_31 {f : Nat → Int32} {x y z : Int32} : upd (upd (upd f 0 x) 1 y) 2 z 1 = y := rfl
theorem tc_32 {f : Nat → Int32} {x y z : Int32} : upd (upd (upd f 0 x) 1 y) 2 z 2 = z := rfl
theorem tc_20 {f : Nat → Int32} {x y : Int32} : upd (upd f 0 x) 1 y 0 = x := rfl
theorem tc_21 {f : Nat → Int32} {x y : Int32} : upd (upd f 0 x) 1 y 1 = y := rfl
theorem tc_runOpen {post : Int32 → St2 → Prop} {sd ce pe oc ac pl ru pc : Int32} {a1 a2 a3 a4 a5 a6 a7 a8 a9 a10 a11 a12 a13 : Nat → Int32} (k : Nat) (hk : a1 0 = nI k) (hr : 7 ≤ k ∧ k ≤ 11) (h : ∀ b, post (-10002) (1, 1, 0, ce, pe, oc, ac, pl, ru, pc, a1, a2, a3, a4, b, a6, a7, a8, a9, a10, a11, a12, a13)) : wpX_run post (1, 0, sd, ce, pe, oc, ac, pl, ru, pc, a1, a2, a3, a4, a5, a6, a7, a8, a9, a10, a11, a12, a13) := by
  unfold wpX_run
  dsimp only
  exact tc_cOpen k hk hr (fun b => br_t rfl (h b))
theorem tc_run0 {post : Int32 → St2 → Prop} {sd ce pe oc ac pl ru pc : Int32} {a1 a2 a3 a4 a5 a6 a7 a8 a9 a10 a11 a12 a13 : Nat → Int32} (h : ∀ (cp sd ce pe oc ac pl ru : Int32) (a12 : Nat → Int32), post 0 (0, cp, sd, ce, pe, oc, ac, pl, ru, 0, a1, a2, a3, a4, a5, a6, a7, a8, a9, a10, a11, a12, a13)) : wpX_run post (0, 0, sd, ce, pe, oc, ac, pl, ru, pc, a1, a2, a3, a4, a5, a6, a7, a8, a9, a10, a11, a12, a13) := by
  unfold wpX_run
  dsimp only
  refine tc_c0 ?_
  dsimp only
  exact br_f (by decide) ⟨2, tc_rHalt 0 0 (by omega) (by omega) pk_us (h _ _ _ _ _ _ _ _ _)⟩
theorem tc_runSet {post : Int32 → St2 → Prop} {sd ce pe oc ac pl ru pc : Int32} {a1 a2 a3 a4 a5 a6 a7 a8 a9 a10 a11 a12 a13 : Nat → Int32} (a : Nat) (ha : a < 6) (h1 : a1 0 = nI 0) (h3 : a3 0 = nI a) (h : ∀ (cp sd ce pe oc ac pl ru : Int32) (a12 : Nat → Int32), post 0 (1, cp, sd, ce, pe, oc, ac, pl, ru, 0, a1, a2, a3, a4, a5, a6, a7, a8, a9, a10, a11, a12, a13)) : wpX_run post (1, 0, sd, ce, pe, oc, ac, pl, ru, pc, a1, a2, a3, a4, a5, a6, a7, a8, a9, a10, a11, a12, a13) := by
  unfold wpX_run
  dsimp only
  refine tc_cSet a h1 h3 ?_
  dsimp only
  refine br_f (by decide) ⟨4, ?_⟩
  refine tc_rLoad 0 0 510 (by omega) (by omega) (by omega) tc_okP tc_30 ?_
  refine tc_rStore 1 1 (500 + a) (by omega) (by omega) (by omega) (tc_okV 2 (by omega) a ha) tc_31 ?_
  exact tc_rHalt 2 2 (by omega) (by omega) ((pk_un (by omega)).trans tc_32) (h _ _ _ _ _ _ _ _ _)
theorem tc_runArith {post : Int32 → St2 → Prop} {sd ce pe oc ac pl ru pc : Int32} {a1 a2 a3 a4 a5 a6 a7 a8 a9 a10 a11 a12 a13 : Nat → Int32} (k a b : Nat) (ha : a < 6) (hb : b < 6) (h1 : a1 0 = nI k) (hr : 1 ≤ k ∧ k ≤ 6) (h2 : a2 0 = nI a) (h3 : a3 0 = nI b) (h4 : k ≤ 3 ∨ k = 6 → ∃ c, c < 6 ∧ a4 0 = nI c)
    (h : ∀ (cp sd ce pe oc ac pl ru : Int32) (a12 : Nat → Int32), post 0 (1, cp, sd, ce, pe, oc, ac, pl, ru, 0, a1, a2, a3, a4, a5, a6, a7, a8, a9, a10, a11, a12, a13)) : wpX_run post (1, 0, sd, ce, pe, oc, ac, pl, ru, pc, a1, a2, a3, a4, a5, a6, a7, a8, a9, a10, a11, a12, a13) := by
  unfold wpX_run
  dsimp only
  refine tc_cArith k a b h1 hr h2 h3 h4 (fun o c g1 g2 g3 g4 => ?_)
  dsimp only
  refine br_f (by decide) ⟨5, ?_⟩
  refine tc_rLoad 0 0 (500 + b) (by omega) (by omega) (by omega) (tc_okV 1 (by omega) b hb) tc_40 ?_
  refine tc_rArith 1 1 o c (by omega) (by omega) g3 g1 g2 g4 tc_41 (fun _ => ?_)
  refine tc_rStore 2 2 (500 + a) (by omega) (by omega) (by omega) (tc_okV 2 (by omega) a ha) tc_42 ?_
  exact tc_rHalt 3 3 (by omega) (by omega) ((pk_un (by omega)).trans tc_43) (h _ _ _ _ _ _ _ _ _)
theorem tc_runPrint {post : Int32 → St2 → Prop} {sd ce pe oc ac pl ru pc : Int32} {a1 a2 a3 a4 a5 a6 a7 a8 a9 a10 a11 a12 a13 : Nat → Int32} (a : Nat) (ha : a < 6) (h1 : a1 0 = nI 12) (h2 : a2 0 = nI a) (h : ∀ (cp sd ce pe oc ac pl ru : Int32) (b12 b13 : Nat → Int32), b13 0 = a12 (500 + a) → post 1 (1, cp, sd, ce, pe, oc, ac, pl, ru, 1, a1, a2, a3, a4, a5, a6, a7, a8, a9, a10, a11, b12, b13)) : wpX_run post (1, 0, sd, ce, pe, oc, ac, pl, ru, pc, a1, a2, a3, a4, a5, a6, a7, a8, a9, a10, a11, a12, a13) := by
  have e : upd (upd (upd a12 506 (tc_word 1)) 0 (tc_wd 12 (500 + a))) 1 (tc_wd 0 364) (500 + a) = a12 (500 + a) := by
    rw [pk_un (by omega), pk_un (by omega), pk_un (by omega)]
  unfold wpX_run
  dsimp only
  refine tc_cPrint a h1 h2 ?_
  dsimp only
  refine br_f (by decide) ⟨3, ?_⟩
  refine tc_rPrint 0 0 (500 + a) (by omega) (by omega) (by omega) (tc_okV 12 (by omega) a ha) tc_20 ?_
  exact tc_rHalt 1 1 (by omega) (by omega) tc_21 (h _ _ _ _ _ _ _ _ _ _ (pk_us.trans e))
end
section
/-! part 07: add -/
def tc_mk (k : Int32) : Prop := k = 8 ∨ k = 9 ∨ k = 11
def tc_C2 (k b : Int32) : Prop := ¬ k < 1 → ¬ 6 < k → tc_in b
def tc_C3 (k c : Int32) : Prop := ((¬ k < 1 ∧ k ≤ 3) ∨ k = 6) → tc_in c
def tc_F1 (k a : Int32) : Prop := ¬ k < 0 ∧ ¬ 12 < k ∧ (tc_mk k ∨ tc_in a)
def tc_F (k a b c : Int32) : Prop := (tc_F1 k a ∧ tc_C2 k b) ∧ tc_C3 k c
theorem tc_ad109 {post : Int32 → St2 → Prop} {cp sd ce pe oc ac pl ru pc : Int32} {a1 a2 a3 a4 a5 a6 a7 a8 a9 a10 a11 a12 a13 : Nat → Int32} {x1 x2 x3 x4 : Int32} (h : post 1 (1, 0, sd, ce, pe, oc, ac, pl, ru, pc, upd a1 0 x1.toInt8.toInt32, upd a2 0 (if x1 = 0 then x3 else x2), upd a3 0 (if x1 = 0 then x2 else x3).toInt8.toInt32, upd a4 0 x4.toInt8.toInt32, a5, a6, a7, a8, a9, a10, a11, a12, a13)) : wX_add_109 post x1 x2 x3 x4 0 cp sd ce pe oc ac pl ru pc a1 a2 a3 a4 a5 a6 a7 a8 a9 a10 a11 a12 a13 := by
  refine ⟨pk_in 0 40 (by omega), nm_r (tc_u0 _ _) ?_⟩
  by_cases c : x1 = 0
  · rw [if_pos c, if_pos c] at h
    exact br_t c ⟨pk_in 0 40 (by omega), nm_r (tc_u0 _ _) (br_t c ⟨pk_in 0 40 (by omega), nm_r (tc_u0 _ _) ⟨pk_in 0 40 (by omega), nm_r (tc_u0 _ _) (nm_r (show (0 : Int32) + 1 = 1 by decide) h)⟩⟩)⟩
  · rw [if_neg c, if_neg c] at h
    exact br_f c ⟨pk_in 0 40 (by omega), nm_r (tc_u0 _ _) (br_f c ⟨pk_in 0 40 (by omega), nm_r (tc_u0 _ _) ⟨pk_in 0 40 (by omega), nm_r (tc_u0 _ _) (nm_r (show (0 : Int32) + 1 = 1 by decide) h)⟩⟩)⟩
theorem tc_ad80 {post : Int32 → St2 → Prop} {cp sd ce pe oc ac pl ru pc : Int32} {a1 a2 a3 a4 a5 a6 a7 a8 a9 a10 a11 a12 a13 : Nat → Int32} {x1 x2 x3 x4 : Int32} (hn : ¬ tc_C3 x1 x4 → post (-10000) (0, cp, sd, ce, pe, oc, ac, pl, ru, pc, a1, a2, a3, a4, a5, a6, a7, a8, a9, a10, a11, a12, a13)) (hy : tc_C3 x1 x4 → wX_add_109 post x1 x2 x3 x4 0 cp sd ce pe oc ac pl ru pc a1 a2 a3 a4 a5 a6 a7 a8 a9 a10 a11 a12 a13) : wX_add_80 post x1 x2 x3 x4 0 cp sd ce pe oc ac pl ru pc a1 a2 a3 a4 a5 a6 a7 a8 a9 a10 a11 a12 a13 := by
  have h96 : ((¬ x1 < 1 ∧ x1 ≤ 3) ∨ x1 = 6) → wX_add_96 post x1 x2 x3 x4 0 cp sd ce pe oc ac pl ru pc a1 a2 a3 a4 a5 a6 a7 a8 a9 a10 a11 a12 a13 := fun g =>
    tc_isv (fun h => br_f (by decide) (hy (fun _ => h))) (fun h => br_t rfl (hn (fun z => h (z g))))
  have h90 : ¬ (¬ x1 < 1 ∧ x1 ≤ 3) → wX_add_90 post x1 x2 x3 x4 0 cp sd ce pe oc ac pl ru pc a1 a2 a3 a4 a5 a6 a7 a8 a9 a10 a11 a12 a13 := fun g =>
    br_c (fun h => h96 (Or.inr h)) (fun h => hy (fun z => absurd z (fun y => Or.elim y g h)))
  exact br_c (fun h => h90 (fun z => z.1 h)) (fun h => br_c (fun g => h96 (Or.inl ⟨h, g⟩)) (fun g => h90 (fun z => g z.2)))
theorem tc_ad57 {post : Int32 → St2 → Prop} {cp sd ce pe oc ac pl ru pc : Int32} {a1 a2 a3 a4 a5 a6 a7 a8 a9 a10 a11 a12 a13 : Nat → Int32} {x1 x2 x3 x4 : Int32} (hn : ¬ (tc_C2 x1 x3 ∧ tc_C3 x1 x4) → post (-10000) (0, cp, sd, ce, pe, oc, ac, pl, ru, pc, a1, a2, a3, a4, a5, a6, a7, a8, a9, a10, a11, a12, a13)) (hy : tc_C2 x1 x3 ∧ tc_C3 x1 x4 → wX_add_109 post x1 x2 x3 x4 0 cp sd ce pe oc ac pl ru pc a1 a2 a3 a4 a5 a6 a7 a8 a9 a10 a11 a12 a13) : wX_add_57 post x1 x2 x3 x4 0 cp sd ce pe oc ac pl ru pc a1 a2 a3 a4 a5 a6 a7 a8 a9 a10 a11 a12 a13 := by
  have h80 : tc_C2 x1 x3 → wX_add_80 post x1 x2 x3 x4 0 cp sd ce pe oc ac pl ru pc a1 a2 a3 a4 a5 a6 a7 a8 a9 a10 a11 a12 a13 := fun g => tc_ad80 (fun h => hn (fun z => h z.2)) (fun h => hy ⟨g, h⟩)
  exact br_c (fun h => h80 (fun z => absurd h z)) (fun h => br_c (fun g => h80 (fun _ z => absurd g z)) (fun g => tc_isv (fun i => br_f (by decide) (h80 (fun _ _ => i))) (fun i => br_t rfl (hn (fun z => i (z.1 h g))))))
theorem tc_add {post : Int32 → St2 → Prop} {cp sd ce pe oc ac pl ru pc : Int32} {a1 a2 a3 a4 a5 a6 a7 a8 a9 a10 a11 a12 a13 : Nat → Int32} {x1 x2 x3 x4 : Int32} (hn : ¬ tc_F x1 x2 x3 x4 → post (-10000) (0, cp, sd, ce, pe, oc, ac, pl, ru, pc, a1, a2, a3, a4, a5, a6, a7, a8, a9, a10, a11, a12, a13)) (hy : tc_F x1 x2 x3 x4 → post 1 (1, 0, sd, ce, pe, oc, ac, pl, ru, pc, upd a1 0 x1.toInt8.toInt32, upd a2 0 (if x1 = 0 then x3 else x2), upd a3 0 (if x1 = 0 then x2 else x3).toInt8.toInt32, upd a4 0 x4.toInt8.toInt32, a5, a6, a7, a8, a9, a10, a11, a12, a13)) : wpX_add post (0, cp, sd, ce, pe, oc, ac, pl, ru, pc, a1, a2, a3, a4, a5, a6, a7, a8, a9, a10, a11, a12, a13) x1 x2 x3 x4 := by
  have h57 : tc_F1 x1 x2 → wX_add_57 post x1 x2 x3 x4 0 cp sd ce pe oc ac pl ru pc a1 a2 a3 a4 a5 a6 a7 a8 a9 a10 a11 a12 a13 := fun g => tc_ad57 (fun h => hn (fun z => h ⟨z.1.2, z.2⟩)) (fun h => tc_ad109 (hy ⟨⟨g, h.1⟩, h.2⟩))
  have e12 : ∀ x : Int32, x ≤ 12 ↔ ¬ 12 < x := fun x => by
    rw [Int32.le_iff_toInt_le, Int32.lt_iff_toInt_lt]
    omega
  refine br_t (by decide) (br_c (fun h => hn (fun z => z.1.1.1 h)) (fun h0 => br_c (fun h => ?_) (fun h => hn (fun z => h ((e12 x1).mpr z.1.1.2.1)))))
  have h12 := (e12 x1).mp h
  refine br_c (fun g => h57 ⟨h0, h12, Or.inl (Or.inl g)⟩) (fun n8 => br_c (fun g => h57 ⟨h0, h12, Or.inl (Or.inr (Or.inl g))⟩) (fun n9 => br_c (fun g => h57 ⟨h0, h12, Or.inl (Or.inr (Or.inr g))⟩) (fun n11 => ?_)))
  have nm : ¬ tc_mk x1 := fun z => Or.elim z n8 (fun y => Or.elim y n9 n11)
  exact tc_isv (fun i => br_f (by decide) (h57 ⟨h0, h12, Or.inr i⟩)) (fun i => br_t rfl (hn (fun z => Or.elim z.1.1.2.2 nm i)))
end
section
/-! part 08: the law's checks, from the new object on -/
def tc_fl (z : Int32) (F : Prop) : Prop := (z = 0 ∧ ¬ F) ∨ (z = 1 ∧ F)
theorem tc_i8 : ∀ k, k < 13 → (nI k).toInt8.toInt32 = nI k := by decide +kernel
theorem tc_k {k c : Nat} (hk : k < 13) (hc : c < 13) (h : nI k = nI c) : k = c := (nI_eq (by omega) (by omega)).mp h
theorem tc_352 {post : Int32 → St0 → Prop} {mc ms kc ks : Nat} (hp : post 1 ()) {x7 z : Int32} {l cp sd ce pe oc ac pl ru pc : Int32} {a1 a2 a3 a4 a5 a6 a7 a8 a9 a10 a11 a12 a13 : Nat → Int32} (h : (l = 0 ∧ x7 = 0) ∨ (l = 1 ∧ x7 = 1)) : wL_lawOf_352 post mc ms x7 z z kc ks l cp sd ce pe oc ac pl ru pc a1 a2 a3 a4 a5 a6 a7 a8 a9 a10 a11 a12 a13 := by
  refine br_t rfl ?_
  rcases h with ⟨rfl, rfl⟩ | ⟨rfl, rfl⟩
  · exact tc_ret0 (br_t rfl (br_t rfl hp))
  · exact tc_ret1 (br_f (by decide) (br_t rfl hp))
theorem tc_310n {post : Int32 → St0 → Prop} {mc ms kc ks : Nat} (hp : post 1 ()) {x1 x4 x7 x10 z : Int32} {l cp sd ce pe oc ac pl ru : Int32} {a1 a2 a3 a4 a5 a6 a7 a8 a9 a10 a11 a12 a13 : Nat → Int32} (h : (l = 0 ∧ x7 = 0) ∨ (l = 1 ∧ x7 = 1)) : wL_lawOf_310 post mc ms x1 x4 x7 x10 0 z z kc ks l cp sd ce pe oc ac pl ru 0 a1 a2 a3 a4 a5 a6 a7 a8 a9 a10 a11 a12 a13 :=
  br_t rfl (tc_out0 (br_t rfl (tc_352 hp h)))
theorem tc_310p {post : Int32 → St0 → Prop} {mc ms kc ks : Nat} (hp : post 1 ()) {x1 x4 x10 : Int32} {cp sd ce pe oc ac pl ru : Int32} {a1 a2 a3 a4 a5 a6 a7 a8 a9 a10 a11 a12 a13 : Nat → Int32} (h1 : tc_in x4 → x1 = x4 → tc_val (a13 0) = x10) (h2 : ¬ (tc_in x4 ∧ x1 = x4) → tc_val (a13 0) = 0) : wL_lawOf_310 post mc ms x1 x4 1 x10 1 1 1 kc ks 1 cp sd ce pe oc ac pl ru 1 a1 a2 a3 a4 a5 a6 a7 a8 a9 a10 a11 a12 a13 := by
  refine br_t rfl (tc_out1 (br_f (by decide) (tc_inL (fun g => br_f (by decide) (br_c (fun e => ?_) (fun e => ?_))) (fun g => br_t rfl ?_))))
  · rw [h1 g e]
    exact tc_352 hp (Or.inr ⟨rfl, rfl⟩)
  · rw [h2 (fun z => e z.2)]
    exact tc_352 hp (Or.inr ⟨rfl, rfl⟩)
  · rw [h2 (fun z => g z.1)]
    exact tc_352 hp (Or.inr ⟨rfl, rfl⟩)
/-- nothing was added -/
theorem tc_279n {post : Int32 → St0 → Prop} {mc ms kc ks : Nat} (hp : post 1 ()) {x1 x4 x10 z : Int32} {sd ce pe oc ac pl ru : Int32} {a1 a2 a3 a4 a5 a6 a7 a8 a9 a10 a11 a12 a13 : Nat → Int32} : wL_lawOf_279 post mc ms x1 x4 0 0 x10 0 z z kc ks 0 0 sd ce pe oc ac pl ru 0 a1 a2 a3 a4 a5 a6 a7 a8 a9 a10 a11 a12 a13 :=
  br_t rfl (tc_run0 (fun _ _ _ _ _ _ _ _ _ => br_t rfl (br_t rfl (tc_310n hp (Or.inl ⟨rfl, rfl⟩)))))
/-- one statement was added -/
theorem tc_279y {post : Int32 → St0 → Prop} {mc ms kc ks : Nat} (hp : post 1 ()) {x0 x1 x2 x3 x4 x8 x10 x11 z : Int32} {sd ce pe oc ac pl ru : Int32} {a1 a2 a3 a4 a5 a6 a7 a8 a9 a10 a11 a12 a13 : Nat → Int32} (hF : tc_F x0 x1 x2 x3) (h8 : tc_fl x8 (tc_F x0 x1 x2 x3 ∧ (tc_mk x0 ∨ x0 = 7 ∨ x0 = 10))) (h11 : tc_fl x11 (tc_F x0 x1 x2 x3 ∧ x0 = 12))
    (e1 : a1 0 = x0.toInt8.toInt32) (e2 : a2 0 = if x0 = 0 then x2 else x1) (e3 : a3 0 = (if x0 = 0 then x1 else x2).toInt8.toInt32) (e4 : a4 0 = x3.toInt8.toInt32)
    (hM : ∀ j, j < 6 → x4 = nI j → tc_val (a12 (500 + j)) = x10) (hM0 : ∀ j, j < 6 → ¬ x4 = nI j → a12 (500 + j) = 0) : wL_lawOf_279 post mc ms x1 x4 1 x8 x10 x11 z z kc ks 1 0 sd ce pe oc ac pl ru 0 a1 a2 a3 a4 a5 a6 a7 a8 a9 a10 a11 a12 a13 := by
  obtain ⟨k, hk, rfl⟩ := nI_of hF.1.1.1
  have hk' : k < 13 := Nat.lt_of_not_le (fun z => hF.1.1.2.1 (nI_lt (a := 12) (b := k) (by omega) hk))
  rw [tc_i8 k hk'] at e1
  refine br_t rfl ?_
  by_cases ho : 7 ≤ k ∧ k ≤ 11
  · have q : tc_mk (nI k) ∨ nI k = 7 ∨ nI k = 10 := by
      have : k = 7 ∨ k = 8 ∨ k = 9 ∨ k = 10 ∨ k = 11 := by omega
      rcases this with rfl | rfl | rfl | rfl | rfl
      · exact Or.inr (Or.inl rfl)
      · exact Or.inl (Or.inl rfl)
      · exact Or.inl (Or.inr (Or.inl rfl))
      · exact Or.inr (Or.inr rfl)
      · exact Or.inl (Or.inr (Or.inr rfl))
    rcases h8 with ⟨_, n⟩ | ⟨rfl, _⟩
    · exact absurd ⟨hF, q⟩ n
    rcases h11 with ⟨rfl, _⟩ | ⟨_, n⟩
    · exact tc_runOpen k e1 ho (fun b => br_f (by decide) (tc_310n hp (Or.inr ⟨rfl, rfl⟩)))
    · have := tc_k (c := 12) hk' (by omega) n.2
      omega
  · have m8 : ¬ nI k = 8 := fun z => absurd (tc_k (c := 8) hk' (by omega) z) (by omega)
    have m9 : ¬ nI k = 9 := fun z => absurd (tc_k (c := 9) hk' (by omega) z) (by omega)
    have m11 : ¬ nI k = 11 := fun z => absurd (tc_k (c := 11) hk' (by omega) z) (by omega)
    have m7 : ¬ nI k = 7 := fun z => absurd (tc_k (c := 7) hk' (by omega) z) (by omega)
    have m10 : ¬ nI k = 10 := fun z => absurd (tc_k (c := 10) hk' (by omega) z) (by omega)
    have mk : ¬ tc_mk (nI k) := fun z => Or.elim z m8 (fun y => Or.elim y m9 m11)
    rcases h8 with ⟨rfl, _⟩ | ⟨_, n⟩
    rotate_left
    · exact absurd n.2 (fun z => Or.elim z mk (fun y => Or.elim y m7 m10))
    have i1 : tc_in x1 := Or.elim hF.1.1.2.2 (fun z => absurd z mk) (fun z => z)
    obtain ⟨a, ha, rfl⟩ := tc_inI i1
    by_cases h12 : k = 12
    · subst h12
      rcases h11 with ⟨_, n⟩ | ⟨rfl, _⟩
      · exact absurd ⟨hF, rfl⟩ n
      rw [if_neg (by decide)] at e2
      refine tc_runPrint a ha e1 e2 (fun _ _ _ _ _ _ _ _ _ b13 hb => br_t rfl (br_f (by decide) (tc_310p hp (fun _ g => ?_) (fun g => ?_))))
      · rw [hb]
        exact hM a ha g.symm
      · rw [hb, hM0 a ha (fun y => g ⟨by rw [y]; exact tc_inN ha, y.symm⟩)]
        exact tc_val0
    · rcases h11 with ⟨rfl, _⟩ | ⟨_, n⟩
      rotate_left
      · exact absurd (tc_k (c := 12) hk' (by omega) n.2) h12
      by_cases h0 : k = 0
      · subst h0
        rw [if_pos (show nI 0 = 0 from rfl), tc_i8 a (by omega)] at e3
        exact tc_runSet a ha e1 e3 (fun _ _ _ _ _ _ _ _ _ => br_t rfl (br_t rfl (tc_310n hp (Or.inr ⟨rfl, rfl⟩))))
      · have n0 : ¬ nI k = 0 := fun z => absurd (tc_k (c := 0) hk' (by omega) z) h0
        have n1 : ¬ nI k < 1 := nI_nlt (a := k) (b := 1) (by omega) (by omega)
        have n6 : ¬ 6 < nI k := nI_nlt (a := 6) (b := k) (by omega) (by omega)
        obtain ⟨b, hb, rfl⟩ := tc_inI (hF.1.2 n1 n6)
        rw [if_neg n0] at e2
        rw [if_neg n0, tc_i8 b (by omega)] at e3
        refine tc_runArith k a b ha hb e1 (by omega) e2 e3 (fun hc => ?_) (fun _ _ _ _ _ _ _ _ _ => br_t rfl (br_t rfl (tc_310n hp (Or.inr ⟨rfl, rfl⟩))))
        have g : (¬ nI k < 1 ∧ nI k ≤ 3) ∨ nI k = 6 := by
          rcases hc with hc | hc
          · exact Or.inl ⟨n1, nI_le (a := k) (b := 3) hc (by omega)⟩
          · subst hc
            exact Or.inr rfl
        obtain ⟨c, hc, rfl⟩ := tc_inI (hF.2 g)
        exact ⟨c, hc, by rw [e4, tc_i8 c (by omega)]⟩
theorem tc_251 {post : Int32 → St0 → Prop} {mc ms kc ks : Nat} {x1 x4 x7 x8 x10 x11 z : Int32} {l cp sd ce pe oc ac pl ru pc : Int32} {a1 a2 a3 a4 a5 a6 a7 a8 a9 a10 a11 a12 a13 : Nat → Int32} (hM : ∀ j, j < 6 → x4 = nI j → tc_val (a12 (500 + j)) = x10) (h : ∀ z, wL_lawOf_279 post mc ms x1 x4 x7 x8 x10 x11 z z kc ks l cp sd ce pe oc ac pl ru pc a1 a2 a3 a4 a5 a6 a7 a8 a9 a10 a11 a12 a13) : wL_lawOf_251 post mc ms x1 x4 x7 x8 x10 x11 z z kc ks l cp sd ce pe oc ac pl ru pc a1 a2 a3 a4 a5 a6 a7 a8 a9 a10 a11 a12 a13 := by
  refine br_t rfl (tc_variable (fun j hj e => ?_) (fun hn => tc_inL (fun g => absurd g hn) (fun _ => br_t rfl (h _))))
  rw [hM j hj e]
  exact tc_inL (fun _ => br_f (by decide) (h _)) (fun n => absurd (by rw [e]; exact tc_inN hj) n)
theorem tc_200 {post : Int32 → St0 → Prop} (hp : post 1 ()) {x0 x1 x2 x3 x4 x5 x7 x8 x10 z0 : Int32} (h7 : tc_fl x7 (tc_F x0 x1 x2 x3)) (h8 : tc_fl x8 (tc_F x0 x1 x2 x3 ∧ (tc_mk x0 ∨ x0 = 7 ∨ x0 = 10))) (h10 : x10 = tc_held x5) (hz : tc_fl z0 (tc_F x0 x1 x2 x3 ∧ x0 = 12)) : wL_lawOf_200 post 470 7504 x0 x1 x2 x3 x4 x5 x7 x8 x10 z0 0 0 := by
  have N : ∀ {kc ks : Nat} {M : Nat → Int32}, (∀ j, j < 6 → x4 = nI j → tc_val (M (500 + j)) = x10) → ¬ tc_F x0 x1 x2 x3 → ∀ y : Int32, (x7 = 0 → wL_lawOf_251 post 470 7504 x1 x4 x7 x8 x10 z0 (-10000) (-10000) kc ks 0 0 0 0 0 0 0 0 0 0 (fun _ => 0) (fun _ => 0) (fun _ => 0) (fun _ => 0) (fun _ => 0) (fun _ => 0) (fun _ => 0) (fun _ => 0) (fun _ => 0) (fun _ => 0) (fun _ => 0) M (fun _ => 0)) ∧ (¬ x7 = 0 → wL_lawOf_251 post 470 7504 x1 x4 x7 x8 x10 z0 y (-10000) kc ks 0 0 0 0 0 0 0 0 0 0 (fun _ => 0) (fun _ => 0) (fun _ => 0) (fun _ => 0) (fun _ => 0) (fun _ => 0) (fun _ => 0) (fun _ => 0) (fun _ => 0) (fun _ => 0) (fun _ => 0) M (fun _ => 0)) := by
    intro kc ks M hM hn y
    rcases h7 with ⟨rfl, _⟩ | ⟨_, f⟩
    rotate_left
    · exact absurd f hn
    rcases h8 with ⟨rfl, _⟩ | ⟨_, f⟩
    rotate_left
    · exact absurd f.1 hn
    rcases hz with ⟨rfl, _⟩ | ⟨_, f⟩
    rotate_left
    · exact absurd f.1 hn
    exact br_t rfl (tc_251 hM (fun _ => tc_279n hp))
  have Y : ∀ {kc ks : Nat} {M b1 b2 b3 b4 : Nat → Int32}, b1 0 = x0.toInt8.toInt32 → (b2 0 = if x0 = 0 then x2 else x1) → b3 0 = (if x0 = 0 then x1 else x2).toInt8.toInt32 → b4 0 = x3.toInt8.toInt32 → (∀ j, j < 6 → x4 = nI j → tc_val (M (500 + j)) = x10) → (∀ j, j < 6 → ¬ x4 = nI j → M (500 + j) = 0) → tc_F x0 x1 x2 x3 → ∀ y : Int32, (x7 = 0 → wL_lawOf_251 post 470 7504 x1 x4 x7 x8 x10 z0 y 1 kc ks 1 0 0 0 0 0 0 0 0 0 b1 b2 b3 b4 (fun _ => 0) (fun _ => 0) (fun _ => 0) (fun _ => 0) (fun _ => 0) (fun _ => 0) (fun _ => 0) M (fun _ => 0)) ∧ (¬ x7 = 0 → wL_lawOf_251 post 470 7504 x1 x4 x7 x8 x10 z0 1 1 kc ks 1 0 0 0 0 0 0 0 0 0 b1 b2 b3 b4 (fun _ => 0) (fun _ => 0) (fun _ => 0) (fun _ => 0) (fun _ => 0) (fun _ => 0) (fun _ => 0) M (fun _ => 0)) := by
    intro kc ks M b1 b2 b3 b4 e1 e2 e3 e4 hM hM0 hF y
    rcases h7 with ⟨_, f⟩ | ⟨rfl, _⟩
    · exact absurd hF f
    exact br_f (by decide) (tc_251 hM (fun _ => tc_279y hp hF h8 hz e1 e2 e3 e4 hM hM0))
  refine ⟨by omega, by omega, 13, 965, by omega, by omega, ?_⟩
  refine ⟨by omega, by omega, by omega, by omega, by omega, by omega, by omega, by omega, by omega, by omega, by omega, by omega, by omega, by omega, by omega, by omega, by omega, by omega, by omega, by omega, by omega, by omega, by omega, by omega, by omega, by omega, ?_⟩
  refine tc_put (fun j hj hv => tc_inL (fun _ => br_t rfl ?_) (fun n => absurd (by rw [hv]; exact tc_inN hj) n)) (fun n => tc_inL (fun g => absurd g n) (fun _ => br_t rfl ?_))
  · have hM : ∀ i, i < 6 → x4 = nI i → tc_val (upd (fun _ => 0) (500 + j) (tc_word x5.toInt64) (500 + i)) = x10 := by
      intro i hi e
      have : i = j := (nI_eq (by omega) (by omega)).mp (e.symm.trans hv)
      rw [this, pk_us, h10]
      exact tc_heldv x5
    have hM0 : ∀ i, i < 6 → ¬ x4 = nI i → upd (fun _ => 0) (500 + j) (tc_word x5.toInt64) (500 + i) = 0 := by
      intro i hi e
      rw [pk_un (fun z => e (by rw [hv, show i = j by omega]))]
    exact tc_add (fun hn => N (M := upd (fun _ => 0) (500 + j) (tc_word x5.toInt64)) hM hn _) (fun hF => Y (M := upd (fun _ => 0) (500 + j) (tc_word x5.toInt64)) pk_us pk_us pk_us pk_us hM hM0 hF _)
  · have hM : ∀ i, i < 6 → x4 = nI i → tc_val ((fun _ => 0 : Nat → Int32) (500 + i)) = x10 := fun i hi e => absurd (by rw [e]; exact tc_inN hi) n
    exact tc_add (fun hn => N (M := fun _ => 0) hM hn _) (fun hF => Y (M := fun _ => 0) pk_us pk_us pk_us pk_us hM (fun _ _ _ => rfl) hF _)
end
section
/-! part 09: what the law computes ahead of the object, and the law -/
theorem tc_178 {post : Int32 → St0 → Prop} (hp : post 1 ()) {x0 x1 x2 x3 x4 x5 x7 x8 z : Int32} (h7 : tc_fl x7 (tc_F x0 x1 x2 x3)) (h8 : tc_fl x8 (tc_F x0 x1 x2 x3 ∧ (tc_mk x0 ∨ x0 = 7 ∨ x0 = 10))) (hz : z - 9841 = tc_held x5) : wL_lawOf_178 post 470 7504 x0 x1 x2 x3 x4 x5 x7 x8 z 0 0 := by
  refine nm_r hz ?_
  rcases id h7 with ⟨e, f⟩ | ⟨e, f⟩
  · exact br_t e (tc_200 hp h7 h8 rfl (Or.inl ⟨rfl, fun y => f y.1⟩))
  · exact br_f (by rw [e]; decide) (br_c (fun g => tc_200 hp h7 h8 rfl (Or.inr ⟨rfl, f, g⟩)) (fun g => tc_200 hp h7 h8 rfl (Or.inl ⟨rfl, fun y => g y.2⟩)))
theorem tc_146 {post : Int32 → St0 → Prop} (hp : post 1 ()) {x0 x1 x2 x3 x4 x5 x7 x8 : Int32} (h7 : tc_fl x7 (tc_F x0 x1 x2 x3)) (h8 : tc_fl x8 (tc_F x0 x1 x2 x3 ∧ (tc_mk x0 ∨ x0 = 7 ∨ x0 = 10))) : wL_lawOf_146 post 470 7504 x0 x1 x2 x3 x4 x5 x7 x8 0 0 := by
  refine ⟨by decide, nm_r (show _ = tc_x9 x5 from rfl) (br_c (fun c => tc_178 hp h7 h8 ?_) (fun c => tc_178 hp h7 h8 ?_))⟩
  · unfold tc_held
    rw [if_pos c]
  · unfold tc_held
    rw [if_neg c]
theorem tc_119 {post : Int32 → St0 → Prop} (hp : post 1 ()) {x0 x1 x2 x3 x4 x5 x6 x7 : Int32} (hm : tc_fl x6 (tc_mk x0)) (h7 : tc_fl x7 (tc_F x0 x1 x2 x3)) : wL_lawOf_119 post 470 7504 x0 x1 x2 x3 x4 x5 x6 x7 0 0 := by
  rcases id h7 with ⟨e, f⟩ | ⟨e, f⟩
  · exact br_t e (tc_146 hp h7 (Or.inl ⟨rfl, fun y => f y.1⟩))
  · refine br_f (by rw [e]; decide) ?_
    rcases hm with ⟨e6, g⟩ | ⟨e6, g⟩
    · exact br_t e6 (br_c (fun y => tc_146 hp h7 (Or.inr ⟨rfl, f, Or.inr (Or.inl y)⟩)) (fun n7 => br_c (fun y => tc_146 hp h7 (Or.inr ⟨rfl, f, Or.inr (Or.inr y)⟩)) (fun n10 => tc_146 hp h7 (Or.inl ⟨rfl, fun y => Or.elim y.2 g (fun v => Or.elim v n7 n10)⟩))))
    · exact br_f (by rw [e6]; decide) (tc_146 hp h7 (Or.inr ⟨rfl, f, Or.inl g⟩))
theorem tc_84 {post : Int32 → St0 → Prop} (hp : post 1 ()) {x0 x1 x2 x3 x4 x5 x6 x7 : Int32} (hm : tc_fl x6 (tc_mk x0)) (h7 : tc_fl x7 (tc_F1 x0 x1 ∧ tc_C2 x0 x2)) : wL_lawOf_84 post 470 7504 x0 x1 x2 x3 x4 x5 x6 x7 0 0 := by
  have h100 : ((¬ x0 < 1 ∧ x0 ≤ 3) ∨ x0 = 6) → wL_lawOf_100 post 470 7504 x0 x1 x2 x3 x4 x5 x6 x7 0 0 := by
    intro g
    rcases h7 with ⟨e, f⟩ | ⟨e, f⟩
    · exact br_t e (tc_119 hp hm (Or.inl ⟨rfl, fun y => f y.1⟩))
    · exact br_f (by rw [e]; decide) (tc_inL (fun i => br_f (by decide) (tc_119 hp hm (Or.inr ⟨rfl, f, fun _ => i⟩))) (fun i => br_t rfl (tc_119 hp hm (Or.inl ⟨rfl, fun y => i (y.2 g)⟩))))
  have h94 : ¬ (¬ x0 < 1 ∧ x0 ≤ 3) → wL_lawOf_94 post 470 7504 x0 x1 x2 x3 x4 x5 x6 x7 0 0 := by
    intro g
    refine br_c (fun h6 => h100 (Or.inr h6)) (fun n6 => tc_119 hp hm ?_)
    rcases h7 with ⟨e, f⟩ | ⟨e, f⟩
    · exact Or.inl ⟨e, fun y => f y.1⟩
    · exact Or.inr ⟨e, f, fun y => absurd y (fun v => Or.elim v g n6)⟩
  exact br_c (fun h => h94 (fun y => y.1 h)) (fun h => br_c (fun g => h100 (Or.inl ⟨h, g⟩)) (fun g => h94 (fun y => g y.2)))
theorem tc_52 {post : Int32 → St0 → Prop} (hp : post 1 ()) {x0 x1 x2 x3 x4 x5 x6 z : Int32} (hm : tc_fl x6 (tc_mk x0)) (hz : tc_fl z (tc_F1 x0 x1)) : wL_lawOf_52 post 470 7504 x0 x1 x2 x3 x4 x5 x6 z 0 0 := by
  have h84 : (tc_C2 x0 x2) → wL_lawOf_84 post 470 7504 x0 x1 x2 x3 x4 x5 x6 z 0 0 := by
    intro g
    refine tc_84 hp hm ?_
    rcases hz with ⟨e, f⟩ | ⟨e, f⟩
    · exact Or.inl ⟨e, fun y => f y.1⟩
    · exact Or.inr ⟨e, f, g⟩
  refine br_c (fun h => h84 (fun y => absurd h y)) (fun h => br_c (fun g => h84 (fun _ y => absurd g y)) (fun g => ?_))
  rcases hz with ⟨e, f⟩ | ⟨e, f⟩
  · exact br_t e (tc_84 hp hm (Or.inl ⟨rfl, fun y => f y.1⟩))
  · exact br_f (by rw [e]; decide) (tc_inL (fun i => br_f (by decide) (tc_84 hp hm (Or.inr ⟨rfl, f, fun _ _ => i⟩))) (fun i => br_t rfl (tc_84 hp hm (Or.inl ⟨rfl, fun y => i (y.2 h g)⟩))))
theorem tc_23 {post : Int32 → St0 → Prop} (hp : post 1 ()) {x0 x1 x2 x3 x4 x5 z : Int32} (hm : tc_fl z (tc_mk x0)) : wL_lawOf_23 post 470 7504 x0 x1 x2 x3 x4 x5 z 0 0 := by
  refine br_c (fun h => tc_52 hp hm (Or.inl ⟨rfl, fun y => y.1 h⟩)) (fun h0 => br_c (fun h => tc_52 hp hm (Or.inl ⟨rfl, fun y => y.2.1 h⟩)) (fun h12 => ?_))
  rcases id hm with ⟨e, g⟩ | ⟨e, g⟩
  · exact br_t e (tc_inL (fun i => br_f (by decide) (tc_52 hp hm (Or.inr ⟨rfl, h0, h12, Or.inr i⟩))) (fun i => br_t rfl (tc_52 hp hm (Or.inl ⟨rfl, fun y => Or.elim y.2.2 g i⟩))))
  · exact br_f (by rw [e]; decide) (tc_52 hp hm (Or.inr ⟨rfl, h0, h12, Or.inl g⟩))
theorem tc_lawOf {post : Int32 → St0 → Prop} (hp : post 1 ()) {x0 x1 x2 x3 x4 x5 : Int32} : wpL_lawOf post 470 7504 () x0 x1 x2 x3 x4 x5 :=
  br_c (fun h => tc_23 hp (Or.inr ⟨rfl, Or.inl h⟩)) (fun n8 => br_c (fun h => tc_23 hp (Or.inr ⟨rfl, Or.inr (Or.inl h)⟩)) (fun n9 => br_c (fun h => tc_23 hp (Or.inr ⟨rfl, Or.inr (Or.inr h)⟩)) (fun n11 => tc_23 hp (Or.inl ⟨rfl, fun y => Or.elim y n8 (fun v => Or.elim v n9 n11)⟩))))
theorem tc_cell {post : Int32 → Prop} {L : Nat} {xs : Nat → Int32} (hL : L ≤ 6) (k : Nat) (hk : k < 6) (h : ∀ r, post r) : wpL_cellAt post L xs () (nI k) :=
  pk_le L k (fun _ => h _) (fun z => ⟨pk_in k L (by omega), h _⟩)
theorem i_vc (xs : Nat → Int32) (L : Nat) (hL : L ≤ 6) : wpL_law (fun r => r = 1) L xs :=
  tc_cell hL 0 (by omega) (fun _ => tc_cell hL 1 (by omega) (fun _ => tc_cell hL 2 (by omega) (fun _ => tc_cell hL 3 (by omega) (fun _ => tc_cell hL 4 (by omega) (fun _ => tc_cell hL 5 (by omega) (fun _ => ⟨470, 7504, by omega, by omega, tc_lawOf rfl⟩))))))
end
