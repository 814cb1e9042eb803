section
/-- bit j of a word -/
def cr_b (w : Int64) (j : Nat) : Bool := w.toBitVec.getLsbD j
/-- day d is in the set that the words hold -/
def cr_s (a : Nat → Int64) (d : Nat) : Bool := cr_b (a (d / 64)) (d % 64)
/-- how many below n are in S -/
def cr_n (S : Nat → Bool) : Nat → Nat
  | 0 => 0
  | n + 1 => cr_n S n + (S n).toNat
theorem cr_n_t {S : Nat → Bool} {n : Nat} (h : S n = true) : cr_n S (n + 1) = cr_n S n + 1 := by
  show cr_n S n + (S n).toNat = _
  rw [h]; rfl
theorem cr_n_f {S : Nat → Bool} {n : Nat} (h : S n = false) : cr_n S (n + 1) = cr_n S n := by
  show cr_n S n + (S n).toNat = _
  rw [h]; rfl
theorem cr_n_s (S : Nat → Bool) (n : Nat) : cr_n S n ≤ cr_n S (n + 1) ∧ cr_n S (n + 1) ≤ cr_n S n + 1 := by
  cases h : S n
  · rw [cr_n_f h]; omega
  · rw [cr_n_t h]; omega
theorem cr_n_mono (S : Nat → Bool) {a b : Nat} (h : a ≤ b) : cr_n S a ≤ cr_n S b := by
  induction b with
  | zero => rw [show a = 0 by omega]; exact Nat.le_refl _
  | succ b ih =>
    rcases Nat.lt_or_ge b a with z | z
    · rw [show a = b + 1 by omega]; exact Nat.le_refl _
    · exact Nat.le_trans (ih z) (cr_n_s S b).1
theorem cr_n_le (S : Nat → Bool) (n : Nat) : cr_n S n ≤ n := by
  induction n with
  | zero => exact Nat.le_refl _
  | succ n ih => have := (cr_n_s S n).2; omega
theorem cr_n_flat {S : Nat → Bool} {a b : Nat} (h : a ≤ b) (hs : ∀ j, a ≤ j → j < b → S j = false) : cr_n S b = cr_n S a := by
  induction b with
  | zero => rw [show a = 0 by omega]
  | succ b ih =>
    rcases Nat.lt_or_ge b a with z | z
    · rw [show a = b + 1 by omega]
    · rw [cr_n_f (hs b z (by omega))]
      exact ih z (fun j h1 h2 => hs j h1 (by omega))
theorem cr_n_lt {S : Nat → Bool} {a b j : Nat} (h1 : a ≤ j) (h2 : j < b) (h : S j = true) : cr_n S a < cr_n S b := by
  have e1 := cr_n_mono S h1
  have e2 := cr_n_mono S (show j + 1 ≤ b from h2)
  rw [cr_n_t h] at e2
  omega
theorem cr_n_none {S : Nat → Bool} {a b : Nat} (h : cr_n S b ≤ cr_n S a) : ∀ j, a ≤ j → j < b → S j = false := by
  intro j h1 h2
  cases e : S j
  · rfl
  · have := cr_n_lt h1 h2 e; omega
theorem cr_n_add (S : Nat → Bool) (a b : Nat) : cr_n S (a + b) = cr_n S a + cr_n (fun j => S (a + j)) b := by
  induction b with
  | zero => rfl
  | succ b ih =>
    show cr_n S (a + b) + (S (a + b)).toNat = cr_n S a + (cr_n (fun j => S (a + j)) b + (S (a + b)).toNat)
    rw [ih]; omega
theorem cr_n_congr {S T : Nat → Bool} {n : Nat} (h : ∀ j, j < n → S j = T j) : cr_n S n = cr_n T n := by
  induction n with
  | zero => rfl
  | succ n ih =>
    show cr_n S n + (S n).toNat = cr_n T n + (T n).toNat
    rw [ih (fun j hj => h j (by omega)), h n (by omega)]
/-- the days of S from a to b -/
def cr_t (S : Nat → Bool) (a b : Nat) (j : Nat) : Bool := S j && (decide (a ≤ j) && decide (j ≤ b))
theorem cr_t_t {S : Nat → Bool} {a b j : Nat} (h : S j = true) (h1 : a ≤ j) (h2 : j ≤ b) : cr_t S a b j = true := by
  unfold cr_t; rw [h, decide_eq_true h1, decide_eq_true h2]; rfl
theorem cr_t_f {S : Nat → Bool} {a b j : Nat} (h : S j = false ∨ j < a ∨ b < j) : cr_t S a b j = false := by
  unfold cr_t
  rcases h with h | h | h
  · rw [h]; rfl
  · rw [decide_eq_false (show ¬ a ≤ j by omega), Bool.false_and, Bool.and_false]
  · rw [decide_eq_false (show ¬ j ≤ b by omega), Bool.and_false, Bool.and_false]
theorem cr_t_n {S : Nat → Bool} {a b M : Nat} (hb : b < M) (hab : a ≤ b) : cr_n (cr_t S a b) M = cr_n S (b + 1) - cr_n S a := by
  have h1 : cr_n (cr_t S a b) a = 0 := by
    have := cr_n_flat (S := cr_t S a b) (Nat.zero_le a) (fun j _ h => cr_t_f (Or.inr (Or.inl h)))
    rw [this]; rfl
  have h2 : cr_n (cr_t S a b) M = cr_n (cr_t S a b) (b + 1) := cr_n_flat hb (fun j h _ => cr_t_f (Or.inr (Or.inr h)))
  have h3 : cr_n (cr_t S a b) (a + (b + 1 - a)) = cr_n (cr_t S a b) a + cr_n (fun j => S (a + j)) (b + 1 - a) := by
    rw [cr_n_add]
    congr 1
    apply cr_n_congr
    intro j hj
    cases e : S (a + j)
    · exact cr_t_f (Or.inl e)
    · exact cr_t_t e (by omega) (by omega)
  have h4 := cr_n_add S a (b + 1 - a)
  rw [show a + (b + 1 - a) = b + 1 by omega] at h3 h4
  omega
theorem cr_t_0 {S : Nat → Bool} {a b M : Nat} (hab : b < a) : cr_n (cr_t S a b) M = 0 := by
  have := cr_n_flat (S := cr_t S a b) (Nat.zero_le M) (fun j _ _ => cr_t_f (by omega))
  rw [this]; rfl
/-- the counts of a word -/
theorem cr_n_w (a : Nat → Int64) (q r : Nat) (hr : r ≤ 64) : cr_n (cr_s a) (64 * q + r) = cr_n (cr_s a) (64 * q) + cr_n (cr_b (a q)) r := by
  rw [cr_n_add]
  congr 1
  apply cr_n_congr
  intro j hj
  show cr_b (a ((64 * q + j) / 64)) ((64 * q + j) % 64) = _
  rw [show (64 * q + j) / 64 = q by omega, show (64 * q + j) % 64 = j by omega]
end
section
theorem wb_tb (n : Nat) : (lN n).toBitVec = BitVec.ofNat 64 n := rfl
theorem wb_inj {a b : Int64} (h : a.toBitVec = b.toBitVec) : a = b := Int64.toBitVec_inj.mp h
theorem wb_tn {n : Nat} (h : n < 2 ^ 64) : (lN n).toBitVec.toNat = n := by rw [wb_tb, BitVec.toNat_ofNat, Nat.mod_eq_of_lt h]
theorem wb_of (x : Int64) : ∃ n, n < 2 ^ 64 ∧ x = lN n := ⟨x.toBitVec.toNat, x.toBitVec.isLt, wb_inj (by rw [wb_tb]; simp)⟩
theorem wb_of32 (x : Int32) : ∃ n, n < 2 ^ 32 ∧ x = nI n := ⟨x.toBitVec.toNat, x.toBitVec.isLt, Int32.toBitVec_inj.mp (by show _ = BitVec.ofNat 32 _; simp)⟩
theorem wb_c : ∀ k, k < 64 → ((nI k).toInt64 &&& 63) = lN k := by decide +kernel
theorem wb_cu : ∀ k, k < 64 → ((nI k).toInt64.toUInt64 &&& Int64.toUInt64 63) = UInt64.ofNat k := by decide +kernel
theorem wb_sm : ∀ k, k < 64 → (BitVec.ofNat 64 k).smod 64 = BitVec.ofNat 64 k := by decide +kernel
theorem wb_pw {a b : Nat} (h : a ≤ b) : 2 ^ b = 2 ^ a * 2 ^ (b - a) := by rw [← Nat.pow_add]; congr 1; omega
theorem wb_lt2 {a b : Nat} (h : a < b) : 2 ^ a < 2 ^ b := Nat.pow_lt_pow_right (by decide) h
theorem wb_mod (n : Nat) : lN n = lN (n % 2 ^ 64) := wb_inj (by rw [wb_tb, wb_tb]; apply BitVec.eq_of_toNat_eq; rw [BitVec.toNat_ofNat, BitVec.toNat_ofNat, Nat.mod_mod])
theorem wb_shr {n k : Nat} (hn : n < 2 ^ 64) (hk : k < 64) : ((lN n).toUInt64 >>> ((nI k).toInt64.toUInt64 &&& Int64.toUInt64 63)).toInt64 = lN (n / 2 ^ k) := by
  rw [wb_cu k hk]
  apply wb_inj
  apply BitVec.eq_of_toNat_eq
  show ((lN n).toUInt64 >>> UInt64.ofNat k).toNat = (BitVec.ofNat 64 _).toNat
  have h1 : (UInt64.ofNat k).toNat = k := by
    show (BitVec.ofNat 64 k).toNat = k
    rw [BitVec.toNat_ofNat, Nat.mod_eq_of_lt (by omega)]
  have h2 : (lN n).toUInt64.toNat = n := wb_tn hn
  rw [UInt64.toNat_shiftRight, h1, h2, Nat.mod_eq_of_lt hk, Nat.shiftRight_eq_div_pow, BitVec.toNat_ofNat, Nat.mod_eq_of_lt (Nat.lt_of_le_of_lt (Nat.div_le_self _ _) hn)]
theorem wb_shl (n : Nat) {k : Nat} (hk : k < 64) : lN n <<< ((nI k).toInt64 &&& 63) = lN (n * 2 ^ k) := by
  rw [wb_c k hk]
  apply wb_inj
  rw [Int64.toBitVec_shiftLeft, wb_tb, wb_tb, wb_tb, wb_sm k hk]
  apply BitVec.eq_of_toNat_eq
  rw [BitVec.shiftLeft_eq', BitVec.toNat_shiftLeft, BitVec.toNat_ofNat, BitVec.toNat_ofNat, BitVec.toNat_ofNat, Nat.mod_eq_of_lt (show k < 2 ^ 64 by omega), Nat.shiftLeft_eq, Nat.mul_mod, Nat.mod_mod, ← Nat.mul_mod]
theorem wb_and {a b : Nat} (ha : a < 2 ^ 64) (hb : b < 2 ^ 64) : lN a &&& lN b = lN (a &&& b) := by
  apply wb_inj
  rw [Int64.toBitVec_and, wb_tb, wb_tb, wb_tb]
  apply BitVec.eq_of_toNat_eq
  rw [BitVec.toNat_and, BitVec.toNat_ofNat, BitVec.toNat_ofNat, BitVec.toNat_ofNat, Nat.mod_eq_of_lt ha, Nat.mod_eq_of_lt hb, Nat.mod_eq_of_lt (Nat.and_lt_two_pow _ hb)]
theorem wb_or {a b : Nat} (ha : a < 2 ^ 64) (hb : b < 2 ^ 64) : lN a ||| lN b = lN (a ||| b) := by
  apply wb_inj
  rw [Int64.toBitVec_or, wb_tb, wb_tb, wb_tb]
  apply BitVec.eq_of_toNat_eq
  rw [BitVec.toNat_or, BitVec.toNat_ofNat, BitVec.toNat_ofNat, BitVec.toNat_ofNat, Nat.mod_eq_of_lt ha, Nat.mod_eq_of_lt hb, Nat.mod_eq_of_lt (Nat.or_lt_two_pow ha hb)]
theorem wb_mask {n k : Nat} (hn : n < 2 ^ 64) (hk : k < 64) : lN n &&& lN (2 ^ k - 1) = lN (n % 2 ^ k) := by
  rw [wb_and hn (by have := wb_lt2 hk; omega), Nat.and_two_pow_sub_one_eq_mod]
theorem wb_a1 {n : Nat} (hn : n < 2 ^ 64) : lN n &&& 1 = lN (n % 2) := wb_mask (k := 1) hn (by decide)
theorem wb_bit {n k : Nat} (hn : n < 2 ^ 64) (hk : k < 64) : ((lN n).toUInt64 >>> ((nI k).toInt64.toUInt64 &&& Int64.toUInt64 63)).toInt64 &&& 1 = lN (n / 2 ^ k % 2) := by
  rw [wb_shr hn hk, wb_a1 (Nat.lt_of_le_of_lt (Nat.div_le_self _ _) hn)]
theorem cr_w_shr (w : Int64) {k : Nat} (hk : k < 64) : ∃ n, n < 2 ^ 64 ∧ w = lN n ∧ cr_b w k = decide (n / 2 ^ k % 2 = 1) := by
  obtain ⟨n, hn, rfl⟩ := wb_of w
  refine ⟨n, hn, rfl, ?_⟩
  show (lN n).toBitVec.getLsbD k = _
  rw [BitVec.getLsbD, wb_tn hn, Nat.testBit_eq_decide_div_mod_eq]
theorem cr_tn (n : Nat) : (decide (n % 2 = 1)).toNat = n % 2 := by
  by_cases h : n % 2 = 1
  · rw [decide_eq_true h, h]; rfl
  · rw [decide_eq_false h, show n % 2 = 0 by omega]; rfl
/-- the bit as it is asked in isIn -/
theorem cr_w_bit (w : Int64) {k : Nat} (hk : k < 64) : ((w.toUInt64 >>> ((nI k).toInt64.toUInt64 &&& Int64.toUInt64 63)).toInt64 &&& 1) = lN (cr_b w k).toNat := by
  obtain ⟨n, hn, e, h⟩ := cr_w_shr w hk
  rw [h, e, wb_bit hn hk, cr_tn]
theorem cr_w_one (w : Int64) {k : Nat} (hk : k < 64) : ((w.toUInt64 >>> ((nI k).toInt64.toUInt64 &&& Int64.toUInt64 63)).toInt64 &&& 1) = 1 ↔ cr_b w k = true := by
  rw [cr_w_bit w hk]
  cases cr_b w k
  · exact ⟨fun h => absurd h (by decide), fun h => absurd h (by decide)⟩
  · exact ⟨fun _ => rfl, fun _ => rfl⟩
/-- the bit as it is counted in longBits -/
theorem cr_w_cnt (w : Int64) {k : Nat} (hk : k < 64) : (((w.toUInt64 >>> ((nI k).toInt64.toUInt64 &&& Int64.toUInt64 63)).toInt64).toInt32 &&& 1) = nI (cr_b w k).toNat := by
  obtain ⟨n, hn, e, h⟩ := cr_w_shr w hk
  rw [h, e, wb_shr hn hk, lN_i, cr_tn, pk_and (nI (n / 2 ^ k)) (m := 1) 1 (by decide)]
  congr 1
  show (BitVec.ofNat 32 (n / 2 ^ k)).toNat % 2 ^ 1 = _
  rw [BitVec.toNat_ofNat]
  omega
theorem cr_w_pow {k : Nat} (hk : k < 64) : ((1 : Int64) <<< ((nI k).toInt64 &&& 63)) = lN (2 ^ k) := by
  have := wb_shl 1 hk
  rw [Nat.one_mul] at this
  exact this
theorem cr_w_two {k : Nat} (hk : k < 64) : ((1 : Int64) <<< ((nI k).toInt64 &&& 63)).toBitVec = BitVec.twoPow 64 k := by
  rw [cr_w_pow hk, wb_tb]
  apply BitVec.eq_of_toNat_eq
  rw [BitVec.toNat_twoPow, BitVec.toNat_ofNat]
theorem cr_w_or (w : Int64) {k : Nat} (hk : k < 64) {j : Nat} (hj : j < 64) : cr_b (w ||| ((1 : Int64) <<< ((nI k).toInt64 &&& 63))) j = (cr_b w j || decide (j = k)) := by
  unfold cr_b
  rw [Int64.toBitVec_or, cr_w_two hk, BitVec.getLsbD_or, BitVec.getLsbD_twoPow, decide_eq_true hk, Bool.true_and]
  congr 1
  exact decide_eq_decide.mpr ⟨fun h => h.symm, fun h => h.symm⟩
theorem cr_w_an (w : Int64) {k : Nat} (hk : k < 64) {j : Nat} (hj : j < 64) : cr_b (w &&& (((1 : Int64) <<< ((nI k).toInt64 &&& 63)) ^^^ (-1))) j = (cr_b w j && !decide (j = k)) := by
  have ha : (-1 : Int64).toBitVec = BitVec.allOnes 64 := by decide
  unfold cr_b
  rw [Int64.toBitVec_and, Int64.toBitVec_xor, ha, cr_w_two hk, BitVec.getLsbD_and, BitVec.getLsbD_xor, BitVec.getLsbD_twoPow, BitVec.getLsbD_allOnes, decide_eq_true hk, decide_eq_true hj, Bool.true_and]
  by_cases e : k = j
  · subst e; simp
  · rw [decide_eq_false e, decide_eq_false (show ¬ j = k from fun z => e z.symm)]; rfl
theorem cr_w_lo (w : Int64) {k : Nat} (hk : k < 64) {j : Nat} (hj : j < 64) : cr_b (w &&& (((1 : Int64) <<< ((nI k).toInt64 &&& 63)) - 1)) j = (cr_b w j && decide (j < k)) := by
  have h1 : ((1 : Int64) <<< ((nI k).toInt64 &&& 63)) - 1 = lN (2 ^ k - 1) := by
    rw [cr_w_pow hk]
    exact lN_sub (b := 1) (Nat.one_le_two_pow)
  unfold cr_b
  rw [h1, Int64.toBitVec_and, BitVec.getLsbD_and, wb_tb, BitVec.getLsbD_ofNat, Nat.testBit_two_pow_sub_one, decide_eq_true hj, Bool.true_and]
theorem cr_w_0 (j : Nat) : cr_b 0 j = false := by
  show (0#64).getLsbD j = false
  exact BitVec.getLsbD_zero
/-- a mask keeps the count below k -/
theorem cr_n_lo (w : Int64) {k : Nat} (hk : k < 64) : cr_n (cr_b (w &&& (((1 : Int64) <<< ((nI k).toInt64 &&& 63)) - 1))) 64 = cr_n (cr_b w) k := by
  rw [cr_n_flat (a := k) (b := 64) (by omega) (fun j h1 h2 => by rw [cr_w_lo w hk h2, decide_eq_false (show ¬ j < k by omega), Bool.and_false])]
  apply cr_n_congr
  intro j hj
  rw [cr_w_lo w hk (by omega), decide_eq_true hj, Bool.and_true]
theorem cr_n_0 (n : Nat) : cr_n (cr_b 0) n = 0 := by
  rw [cr_n_flat (a := 0) (Nat.zero_le n) (fun j _ _ => cr_w_0 j)]; rfl
/-- a day is put in, taken out -/
theorem cr_s_put (a : Nat → Int64) (d j : Nat) : cr_s (vp_updL a (d / 64) (a (d / 64) ||| ((1 : Int64) <<< ((nI (d % 64)).toInt64 &&& 63)))) j = (cr_s a j || decide (j = d)) := by
  unfold cr_s
  by_cases e : j / 64 = d / 64
  · rw [e, pk_uLs, cr_w_or _ (by omega) (by omega)]
    congr 1
    exact decide_eq_decide.mpr (by omega)
  · rw [pk_uLn e, decide_eq_false (show ¬ j = d from fun z => e (by rw [z])), Bool.or_false]
theorem cr_s_cut (a : Nat → Int64) (d j : Nat) : cr_s (vp_updL a (d / 64) (a (d / 64) &&& (((1 : Int64) <<< ((nI (d % 64)).toInt64 &&& 63)) ^^^ (-1)))) j = (cr_s a j && !decide (j = d)) := by
  unfold cr_s
  by_cases e : j / 64 = d / 64
  · rw [e, pk_uLs, cr_w_an _ (by omega) (by omega)]
    congr 2
    exact decide_eq_decide.mpr (by omega)
  · rw [pk_uLn e, decide_eq_false (show ¬ j = d from fun z => e (by rw [z])), Bool.not_false, Bool.and_true]
/-- a day's word and place -/
theorem cr_q {d : Nat} (h : d < 2 ^ 31) : nI d >>> ((6 : Int32) &&& 31) = nI (d / 64) := pk_shrN h _ 6 (by decide)
theorem cr_r {d : Nat} (h : d < 2 ^ 31) : nI d &&& 63 = nI (d % 64) := pk_andN (by omega) (m := 63) 6 (by decide)
/-- no day above the last -/
def cr_ok (a : Nat → Int64) : Prop := ∀ j, 7305 ≤ j → j < 7360 → cr_s a j = false
theorem cr_ok_put {a : Nat → Int64} {d : Nat} (h : cr_ok a) (hd : d ≤ 7304) : cr_ok (vp_updL a (d / 64) (a (d / 64) ||| ((1 : Int64) <<< ((nI (d % 64)).toInt64 &&& 63)))) := fun j h1 h2 => by
  rw [cr_s_put, h j h1 h2, decide_eq_false (show ¬ j = d by omega)]; rfl
theorem cr_ok_cut {a : Nat → Int64} {d : Nat} (h : cr_ok a) : cr_ok (vp_updL a (d / 64) (a (d / 64) &&& (((1 : Int64) <<< ((nI (d % 64)).toInt64 &&& 63)) ^^^ (-1)))) := fun j h1 h2 => by
  rw [cr_s_cut, h j h1 h2]; rfl
theorem cr_ok_0 {a : Nat → Int64} (h : ∀ j, j < 115 → a j = 0) : cr_ok a := fun j h1 h2 => by
  unfold cr_s
  rw [h _ (by omega)]
  exact cr_w_0 _
theorem cr_ok_n {a : Nat → Int64} (h : cr_ok a) : cr_n (cr_s a) 7360 = cr_n (cr_s a) 7305 := cr_n_flat (by omega) (fun j h1 h2 => h j h1 h2)
end
section
theorem ir_lo (x : Int32) : -2147483648 ≤ x.toInt := Int32.le_toInt x
theorem ir_add {x : Int32} {k : Nat} (hx : x.toInt ≤ 1000000000) (hk : k ≤ 1000000000) : (x + nI k).toInt = x.toInt + k := by
  have h1 := ir_lo x
  rw [Int32.toInt_add, nI_toInt (by omega)]
  apply Int.bmod_eq_of_le
  · omega
  · omega
theorem ir_lt {x y : Int32} (h : x < y) : x.toInt < y.toInt := Int32.lt_iff_toInt_lt.mp h
theorem ir_nle {x y : Int32} (h : ¬ x ≤ y) : y.toInt < x.toInt := by
  have := mt Int32.le_iff_toInt_le.mpr h
  omega
theorem ir_nlt {x y : Int32} (h : ¬ x < y) : y.toInt ≤ x.toInt := by
  have := mt Int32.lt_iff_toInt_lt.mpr h
  omega
theorem ir_z : (0 : Int32).toInt = 0 := by decide
theorem ca_badDay {post : Int32 → Prop} {d : Nat} (hd : d ≤ 7304) (h : post 0) : wpX_badDay post () (nI d) :=
  br_f (nI_pos (by omega)) (pk_le d 7304 (fun _ => h) (fun z => absurd z (by omega)))
theorem ca_badDay_2 {post : Int32 → Prop} {x : Int32} (h0 : ∀ d, d ≤ 7304 → x = nI d → post 0) (h1 : post 1) : wpX_badDay post () x :=
  br_c (fun _ => h1) (fun a => br_c (fun b => by obtain ⟨d, hd, e⟩ := nI_of2 (M := 7304) (n := 7304) (by decide) a b; exact h0 d hd e) (fun _ => h1))
theorem ca_yearStart {post : Int32 → Prop} {p0 : Int32} (h : ∀ r, post r) : wpX_yearStart post () p0 := And.intro (by decide) (h _)
theorem ca_yearOf_2 {post : Int32 → Prop} {x0 : Int32} (h : ∀ r, post r) : ∀ n i, i ≤ 19 → 19 - i < n → wX_yearOf_2 post x0 n (nI i)
  | 0, i, _, h2 => absurd h2 (by omega)
  | n + 1, i, h1, h2 => pk_le 19 i (fun _ => h _) (fun z => ca_yearStart (fun r => br_c (fun _ => h _) (fun _ => nm_r (nI_1 i) (ca_yearOf_2 h n (i + 1) (by omega) (by omega)))))
theorem ca_yearOf {post : Int32 → Prop} {p0 : Int32} (h : ∀ r, post r) : wpX_yearOf post () p0 := Exists.intro 20 (ca_yearOf_2 h 20 0 (by omega) (by omega))
theorem ca_leap {post : Int32 → Prop} {p0 : Int32} (h : ∀ r, post r) : wpX_leap post () p0 := br_c (fun _ => h _) (fun _ => h _)
theorem ca_monthLength {post : Int32 → Prop} {p0 p1 : Int32} (h : ∀ k, 28 ≤ k → k ≤ 31 → post (nI k)) : wpX_monthLength post () p0 p1 := by
  have h28 : post 28 := h 28 (by omega) (by omega)
  have h29 : post 29 := h 29 (by omega) (by omega)
  have h30 : post 30 := h 30 (by omega) (by omega)
  have h31 : post 31 := h 31 (by omega) (by omega)
  exact br_c (fun _ => ca_leap (fun r => br_c (fun _ => h28) (fun _ => h29))) (fun _ => br_c (fun _ => h30) (fun _ => br_c (fun _ => h30) (fun _ => br_c (fun _ => h30) (fun _ => br_c (fun _ => h30) (fun _ => h31)))))
theorem ca_monthStart_7 {post : Int32 → Prop} {x0 : Int32} {c : Nat} (hc : c < 2 ^ 31) (h : ∀ r, post r) : ∀ n i x2, i ≤ c → c - i < n → wX_monthStart_7 post x0 (nI c) n x2 (nI i)
  | 0, i, _, _, h2 => absurd h2 (by omega)
  | n + 1, i, x2, h1, h2 => pk_le c i (fun _ => h _) (fun z => ca_monthLength (fun k _ _ => nm_e (nm_r (nI_1 i) (ca_monthStart_7 hc h n (i + 1) _ (by omega) (by omega)))))
theorem ca_monthStart {post : Int32 → Prop} {p0 p1 : Int32} (h : ∀ r, post r) : wpX_monthStart post () p0 p1 := by
  refine ca_yearStart (fun r => ?_)
  by_cases e : p1 < 0
  · exact Exists.intro 1 (br_t (Int32.le_of_lt e) (h _))
  · obtain ⟨c, hc, rfl⟩ := nI_of e
    exact Exists.intro (c + 1) (ca_monthStart_7 hc h (c + 1) 0 _ (by omega) (by omega))
theorem ca_monthOf_2 {post : Int32 → Prop} {x0 x1 : Int32} (h : ∀ r, post r) : ∀ n i, i ≤ 11 → 11 - i < n → wX_monthOf_2 post x0 x1 n (nI i)
  | 0, i, _, h2 => absurd h2 (by omega)
  | n + 1, i, h1, h2 => pk_le 11 i (fun _ => h _) (fun z => ca_monthStart (fun r => br_c (fun _ => h _) (fun _ => nm_r (nI_1 i) (ca_monthOf_2 h n (i + 1) (by omega) (by omega)))))
theorem ca_monthOf {post : Int32 → Prop} {p0 p1 : Int32} (h : ∀ r, post r) : wpX_monthOf post () p0 p1 := Exists.intro 12 (ca_monthOf_2 h 12 0 (by omega) (by omega))
theorem ca_weekdayOf {post : Int32 → Prop} {p0 : Int32} (h : ∀ r, post r) : wpX_weekdayOf post () p0 := And.intro (by decide) (h _)
theorem ca_bits_4 {post : Int32 → Prop} {x0 : Int32} (h : ∀ k, k ≤ 32 → post (nI k)) : ∀ n i c, i ≤ 32 → c ≤ i → 32 - i < n → wX_bits_4 post x0 n (nI c) (nI i)
  | 0, i, _, _, _, h2 => absurd h2 (by omega)
  | n + 1, i, c, h1, hc, h2 => pk_le 32 i (fun _ => h c (by omega)) (fun z => by
      obtain ⟨j, hj, e⟩ := pk_andE ((x0.toUInt32 >>> ((nI i).toUInt32 &&& Int32.toUInt32 31)).toInt32) (m := 1) 1 (by decide)
      exact nm_r (show _ = nI (c + j) by rw [e, nI_add]) (nm_r (nI_1 i) (ca_bits_4 h n (i + 1) (c + j) (by omega) (by omega) (by omega))))
theorem ca_bits {post : Int32 → Prop} {p0 : Int32} (h : ∀ k, k ≤ 32 → post (nI k)) : wpX_bits post () p0 := Exists.intro 33 (ca_bits_4 h 33 0 0 (by omega) (by omega) (by omega))
theorem ca_nthOf_37 {post : Int32 → Prop} {x1 z0 : Int32} (h : ∀ r, post r) : wX_nthOf_37 post x1 z0 := br_c (fun _ => h _) (fun _ => br_c (fun _ => h _) (fun _ => h _))
theorem ca_nthOf {post : Int32 → Prop} {p0 p1 p2 : Int32} (h : ∀ r, post r) : wpX_nthOf post () p0 p1 p2 := And.intro (by decide) (nm_e (br_c (fun _ => ca_nthOf_37 h) (fun _ => ca_nthOf_37 h)))
theorem ca_wm_88 {post : Int32 → Prop} {x1 x3 x4 x5 x6 z0 : Int32} {v0 v1 v2 v3 v4 v5 v6 v7 v8 v9 v10 v11 v12 v13 v14 v15 v16 v17 v18 v19 : Int32} {a1 a2 a3 : Nat → Int32} {a4 : Nat → Int64} (h : ∀ r, post r) : wX_weekdayMask_88 post x1 x3 x4 x5 x6 z0 v0 v1 v2 v3 v4 v5 v6 v7 v8 v9 v10 v11 v12 v13 v14 v15 v16 v17 v18 v19 a1 a2 a3 a4 :=
  br_c (fun _ => ca_nthOf (fun r => br_c (fun _ => h _) (fun _ => h _)))
    (fun _ => ca_yearStart (fun r => ca_weekdayOf (fun r => And.intro (by decide) (nm_e (ca_yearStart (fun r => nm_e (ca_nthOf (fun r => nm_e (br_c (fun _ => h _) (fun _ => br_c (fun _ => h _) (fun _ => br_c (fun _ => h _) (fun _ => h _))))))))))))
theorem ca_wm_43 {post : Int32 → Prop} {len : Nat} (hl : len ≤ 31) {v0 v1 v2 v3 v4 v5 v6 v7 v8 v9 v10 v11 v12 v13 v14 v15 v16 v17 v18 v19 : Int32} {a1 a2 a3 : Nat → Int32} {a4 : Nat → Int64} (h : ∀ r, post r) : ∀ (n : Nat) (x7 x8 : Int32), (len - x8.toInt).toNat < n → wX_weekdayMask_43 post (nI len) v0 v1 v2 v3 v4 v5 v6 v7 v8 v9 v10 v11 v12 v13 v14 v15 v16 v17 v18 v19 a1 a2 a3 a4 n x7 x8
  | 0, _, _, h2 => absurd h2 (by omega)
  | n + 1, x7, x8, h2 => br_c (fun _ => h _) (fun hc => nm_e (nm_e (ca_wm_43 hl h n _ _ (by
      have e := ir_nle hc
      rw [nI_toInt (by omega)] at e
      have e2 : (x8 + 7).toInt = x8.toInt + 7 := ir_add (k := 7) (by omega) (by omega)
      rw [e2]
      omega))))
theorem ca_weekdayMask {post : Int32 → Prop} {u : St1} {p0 p1 p2 : Int32} (h : ∀ r, post r) : wpX_weekdayMask post u p0 p1 p2 := by
  obtain ⟨v0, v1, v2, v3, v4, v5, v6, v7, v8, v9, v10, v11, v12, v13, v14, v15, v16, v17, v18, v19, a1, a2, a3, a4⟩ := u
  exact ca_monthStart (fun r => ca_monthLength (fun k _ hk => ca_weekdayOf (fun r => And.intro (by decide) (nm_e (br_c (fun _ => Exists.intro _ (ca_wm_43 hk h _ _ _ (Nat.lt_succ_self _)))
    (fun _ => br_c (fun _ => br_c (fun _ => ca_wm_88 h) (fun _ => ca_wm_88 h)) (fun _ => ca_wm_88 h)))))))
theorem ca_nd_7 {post : Int32 → Prop} {len : Nat} (hl : len ≤ 31) {v0 v1 v2 v3 v4 v5 v6 v7 v8 v9 v10 v11 v12 v13 v14 v15 v16 v17 v18 v19 : Int32} {a1 a2 a3 : Nat → Int32} {a4 : Nat → Int64} (h : ∀ r, post r) : ∀ (n i : Nat) (x2 : Int32), i ≤ len → len - i < n → wX_numberedDays_7 post (nI len) v0 v1 v2 v3 v4 v5 v6 v7 v8 v9 v10 v11 v12 v13 v14 v15 v16 v17 v18 v19 a1 a2 a3 a4 n x2 (nI i)
  | 0, _, _, _, h2 => absurd h2 (by omega)
  | n + 1, i, x2, h1, h2 => pk_le len i (fun _ => h _) (fun z => nm_e (nm_r (nI_1 i) (ca_nd_7 hl h n (i + 1) _ (by omega) (by omega))))
theorem ca_numberedDays {post : Int32 → Prop} {u : St1} {len : Nat} (hl : len ≤ 31) (h : ∀ r, post r) : wpX_numberedDays post u (nI len) := by
  obtain ⟨v0, v1, v2, v3, v4, v5, v6, v7, v8, v9, v10, v11, v12, v13, v14, v15, v16, v17, v18, v19, a1, a2, a3, a4⟩ := u
  exact Exists.intro (len + 1) (ca_nd_7 hl h (len + 1) 0 _ (by omega) (by omega))
theorem ca_mm_72 {post : Int32 → Prop} {x1 x2 x4 : Int32} {v0 v1 v2 v3 v4 v5 v6 v7 v8 v9 v10 v11 v12 v13 v14 v15 v16 v17 v18 v19 : Int32} {a1 a2 a3 : Nat → Int32} {a4 : Nat → Int64} (h : ∀ r, post r) : ∀ (n i : Nat) (x5 : Int32), i ≤ 7 → 7 - i < n → wX_monthMask_72 post x1 x2 x4 v0 v1 v2 v3 v4 v5 v6 v7 v8 v9 v10 v11 v12 v13 v14 v15 v16 v17 v18 v19 a1 a2 a3 a4 n x5 (nI i)
  | 0, _, _, _, h2 => absurd h2 (by omega)
  | n + 1, i, x5, h1, h2 => pk_le 7 i (fun _ => h _) (fun z => br_c (fun _ => ca_weekdayMask (fun r => nm_e (nm_r (nI_1 i) (ca_mm_72 h n (i + 1) _ (by omega) (by omega))))) (fun _ => nm_r (nI_1 i) (ca_mm_72 h n (i + 1) _ (by omega) (by omega))))
theorem ca_mm_56 {post : Int32 → Prop} {x1 x2 x4 : Int32} {v0 v1 v2 v3 v4 v5 v6 v7 v8 v9 v10 v11 v12 v13 v14 v15 v16 v17 v18 v19 : Int32} {a1 a2 a3 : Nat → Int32} {a4 : Nat → Int64} (h : ∀ r, post r) : wX_monthMask_56 post x1 x2 x4 v0 v1 v2 v3 v4 v5 v6 v7 v8 v9 v10 v11 v12 v13 v14 v15 v16 v17 v18 v19 a1 a2 a3 a4 :=
  br_c (fun _ => h _) (fun _ => Exists.intro 8 (ca_mm_72 h 8 0 _ (by omega) (by omega)))
theorem ca_mm_20 {post : Int32 → Prop} {x1 x2 : Int32} {v0 v1 v2 v3 v4 v5 v6 v7 v8 v9 v10 v11 v12 v13 v14 v15 v16 v17 v18 v19 : Int32} {a1 a2 a3 : Nat → Int32} {a4 : Nat → Int64} (h : ∀ r, post r) : wX_monthMask_20 post x1 x2 v0 v1 v2 v3 v4 v5 v6 v7 v8 v9 v10 v11 v12 v13 v14 v15 v16 v17 v18 v19 a1 a2 a3 a4 :=
  ca_monthLength (fun k _ hk => nm_e (br_c (fun _ => ca_mm_56 h) (fun _ => ca_numberedDays hk (fun r => nm_e (ca_mm_56 h)))))
theorem ca_monthMask {post : Int32 → Prop} {u : St1} {p0 p1 : Int32} (h : ∀ r, post r) : wpX_monthMask post u p0 p1 := by
  obtain ⟨v0, v1, v2, v3, v4, v5, v6, v7, v8, v9, v10, v11, v12, v13, v14, v15, v16, v17, v18, v19, a1, a2, a3, a4⟩ := u
  exact br_c (fun _ => ca_mm_20 h) (fun _ => br_c (fun _ => h _) (fun _ => ca_mm_20 h))
theorem ca_wanted {post : Int32 → Prop} {u : St1} (h : ∀ r, post r) : wpX_wanted post u := by
  obtain ⟨v0, v1, v2, v3, v4, v5, v6, v7, v8, v9, v10, v11, v12, v13, v14, v15, v16, v17, v18, v19, a1, a2, a3, a4⟩ := u
  exact br_c (fun _ => h _) (fun _ => br_c (fun _ => h _) (fun _ => h _))
theorem ca_stays {post : Int32 → Prop} {u : St1} {p0 p1 : Int32} (h : ∀ r, post r) : wpX_stays post u p0 p1 := by
  obtain ⟨v0, v1, v2, v3, v4, v5, v6, v7, v8, v9, v10, v11, v12, v13, v14, v15, v16, v17, v18, v19, a1, a2, a3, a4⟩ := u
  exact br_c (fun _ => h _) (fun _ => br_c (fun _ => br_c (fun _ => h _) (fun _ => h _)) (fun _ => br_c (fun _ => h _) (fun _ => h _)))
end
section
/-- start, interval, end, extras, extraDay, extraIn, ready are kept; no day above the last -/
def cr_R (s iv e ex : Nat) (d1 d2 : Nat → Int32) (rd : Int32) (u : St1) : Prop := match u with
  | (v0, v1, v2, v3, v4, v5, v6, v7, v8, v9, v10, v11, v12, v13, v14, v15, v16, v17, v18, v19, a1, a2, a3, a4) => v0 = nI s ∧ v2 = nI iv ∧ v10 = nI e ∧ v11 = nI ex ∧ a1 = d1 ∧ a2 = d2 ∧ v18 = rd ∧ cr_ok a4
section
variable {s iv e ex : Nat} {d1 d2 : Nat → Int32} {rd : Int32}
theorem cr_R_mk {v0 v1 v2 v3 v4 v5 v6 v7 v8 v9 v10 v11 v12 v13 v14 v15 v16 v17 v18 v19 : Int32} {a1 a2 a3 : Nat → Int32} {a4 : Nat → Int64} (h0 : v0 = nI s) (h2 : v2 = nI iv) (h10 : v10 = nI e) (h11 : v11 = nI ex) (h21 : a1 = d1) (h22 : a2 = d2) (h18 : v18 = rd) (hk : cr_ok a4) : cr_R s iv e ex d1 d2 rd (v0, v1, v2, v3, v4, v5, v6, v7, v8, v9, v10, v11, v12, v13, v14, v15, v16, v17, v18, v19, a1, a2, a3, a4) :=
  And.intro h0 (And.intro h2 (And.intro h10 (And.intro h11 (And.intro h21 (And.intro h22 (And.intro h18 hk))))))
theorem cr_R_of {v0 v1 v2 v3 v4 v5 v6 v7 v8 v9 v10 v11 v12 v13 v14 v15 v16 v17 v18 v19 : Int32} {a1 a2 a3 : Nat → Int32} {a4 : Nat → Int64} (h : cr_R s iv e ex d1 d2 rd (v0, v1, v2, v3, v4, v5, v6, v7, v8, v9, v10, v11, v12, v13, v14, v15, v16, v17, v18, v19, a1, a2, a3, a4)) : v0 = nI s ∧ v2 = nI iv ∧ v10 = nI e ∧ v11 = nI ex ∧ a1 = d1 ∧ a2 = d2 ∧ v18 = rd ∧ cr_ok a4 := h
theorem cr_R_iv {v0 v1 v2 v3 v4 v5 v6 v7 v8 v9 v10 v11 v12 v13 v14 v15 v16 v17 v18 v19 : Int32} {a1 a2 a3 : Nat → Int32} {a4 : Nat → Int64} (h : cr_R s iv e ex d1 d2 rd (v0, v1, v2, v3, v4, v5, v6, v7, v8, v9, v10, v11, v12, v13, v14, v15, v16, v17, v18, v19, a1, a2, a3, a4)) : v2 = nI iv := (cr_R_of h).2.1
theorem cr_R_e {v0 v1 v2 v3 v4 v5 v6 v7 v8 v9 v10 v11 v12 v13 v14 v15 v16 v17 v18 v19 : Int32} {a1 a2 a3 : Nat → Int32} {a4 : Nat → Int64} (h : cr_R s iv e ex d1 d2 rd (v0, v1, v2, v3, v4, v5, v6, v7, v8, v9, v10, v11, v12, v13, v14, v15, v16, v17, v18, v19, a1, a2, a3, a4)) : v10 = nI e := (cr_R_of h).2.2.1
theorem cr_R_ch {v0 v1 v2 v3 v4 v5 v6 v7 v8 v9 v10 v11 v12 v13 v14 v15 v16 v17 v18 v19 : Int32} {a1 a2 a3 : Nat → Int32} {a4 : Nat → Int64} {w1 w3 w4 w5 w6 w7 w8 w9 w12 w13 w14 w15 w16 w17 w19 : Int32} {b3 : Nat → Int32} (h : cr_R s iv e ex d1 d2 rd (v0, v1, v2, v3, v4, v5, v6, v7, v8, v9, v10, v11, v12, v13, v14, v15, v16, v17, v18, v19, a1, a2, a3, a4)) : cr_R s iv e ex d1 d2 rd (v0, w1, v2, w3, w4, w5, w6, w7, w8, w9, v10, v11, w12, w13, w14, w15, w16, w17, v18, w19, a1, a2, b3, a4) := by
  obtain ⟨h0, h2, h10, h11, h21, h22, h18, hk⟩ := cr_R_of h
  exact cr_R_mk h0 h2 h10 h11 h21 h22 h18 hk
theorem cs_add {post : St1 → Prop} {u : St1} {p0 : Int32} (hs : s ≤ 7304) (he : e ≤ 7304) (h : cr_R s iv e ex d1 d2 rd u) (H : ∀ u', cr_R s iv e ex d1 d2 rd u' → post u') : wpX_add post u p0 := by
  obtain ⟨v0, v1, v2, v3, v4, v5, v6, v7, v8, v9, v10, v11, v12, v13, v14, v15, v16, v17, v18, v19, a1, a2, a3, a4⟩ := u
  obtain ⟨h0, h2, h10, h11, h21, h22, h18, hk⟩ := cr_R_of h
  refine br_c (fun _ => H _ h) (fun c1 => br_c (fun _ => H _ h) (fun c2 => ca_wanted (fun r => br_c (fun _ => H _ h) (fun _ => ?_))))
  have c3 := ir_nlt c1
  have c4 := ir_nlt c2
  rw [h0, nI_toInt (by omega)] at c3
  rw [h10, nI_toInt (by omega)] at c4
  have c0 : ¬ p0 < 0 := fun z => by
    have := ir_lt z
    rw [ir_z] at this
    omega
  obtain ⟨d, hd, rfl⟩ := nI_of c0
  rw [nI_toInt hd] at c3 c4
  rw [cr_q hd, cr_r hd, nI_clamp (show d / 64 < 2 ^ 31 by omega)]
  exact ⟨pk_in (d / 64) 115 (by omega), pk_in (d / 64) 115 (by omega), nm_e (nm_e (H _ (cr_R_mk h0 h2 h10 h11 h21 h22 h18 (cr_ok_put hk (by omega)))))⟩
theorem cs_ap_6 {post : St1 → Prop} {x1 x2 x4 : Int32} (hs : s ≤ 7304) (he : e ≤ 7304) (H : ∀ u', cr_R s iv e ex d1 d2 rd u' → post u') : ∀ (n i : Nat) (x5 : Int32) {v0 v1 v2 v3 v4 v5 v6 v7 v8 v9 v10 v11 v12 v13 v14 v15 v16 v17 v18 v19 : Int32} {a1 a2 a3 : Nat → Int32} {a4 : Nat → Int64}, cr_R s iv e ex d1 d2 rd (v0, v1, v2, v3, v4, v5, v6, v7, v8, v9, v10, v11, v12, v13, v14, v15, v16, v17, v18, v19, a1, a2, a3, a4) → i ≤ 31 → 31 - i < n → wX_addPart_6 post x1 x2 x4 n x5 (nI i) v0 v1 v2 v3 v4 v5 v6 v7 v8 v9 v10 v11 v12 v13 v14 v15 v16 v17 v18 v19 a1 a2 a3 a4 := by
  intro n
  induction n with
  | zero => intro i x5 v0 v1 v2 v3 v4 v5 v6 v7 v8 v9 v10 v11 v12 v13 v14 v15 v16 v17 v18 v19 a1 a2 a3 a4 h h1 h2; exact absurd h2 (by omega)
  | succ n ih =>
    intro i x5 v0 v1 v2 v3 v4 v5 v6 v7 v8 v9 v10 v11 v12 v13 v14 v15 v16 v17 v18 v19 a1 a2 a3 a4 h h1 h2
    refine pk_le 31 i (fun _ => H _ h) (fun z => br_c (fun _ => ca_stays (fun r => br_c (fun _ => nm_e (nm_r (nI_1 i) (ih (i + 1) _ h (by omega) (by omega)))) (fun _ => cs_add hs he h (fun u' h' => ?_)))) (fun _ => nm_r (nI_1 i) (ih (i + 1) _ h (by omega) (by omega))))
    obtain ⟨w0, w1, w2, w3, w4, w5, w6, w7, w8, w9, w10, w11, w12, w13, w14, w15, w16, w17, w18, w19, b1, b2, b3, b4⟩ := u'
    exact nm_e (nm_r (nI_1 i) (ih (i + 1) _ h' (by omega) (by omega)))
theorem cs_addPart {post : St1 → Prop} {u : St1} {p0 p1 p2 p3 : Int32} (hs : s ≤ 7304) (he : e ≤ 7304) (h : cr_R s iv e ex d1 d2 rd u) (H : ∀ u', cr_R s iv e ex d1 d2 rd u' → post u') : wpX_addPart post u p0 p1 p2 p3 := by
  obtain ⟨v0, v1, v2, v3, v4, v5, v6, v7, v8, v9, v10, v11, v12, v13, v14, v15, v16, v17, v18, v19, a1, a2, a3, a4⟩ := u
  exact Exists.intro 32 (cs_ap_6 hs he H 32 0 _ h (by omega) (by omega))
theorem cs_am_11 {post : St1 → Prop} {x1 x2 x3 : Int32} (hs : s ≤ 7304) (he : e ≤ 7304) (H : ∀ u', cr_R s iv e ex d1 d2 rd u' → post u') : ∀ (n i : Nat) (x4 : Int32) {v0 v1 v2 v3 v4 v5 v6 v7 v8 v9 v10 v11 v12 v13 v14 v15 v16 v17 v18 v19 : Int32} {a1 a2 a3 : Nat → Int32} {a4 : Nat → Int64}, cr_R s iv e ex d1 d2 rd (v0, v1, v2, v3, v4, v5, v6, v7, v8, v9, v10, v11, v12, v13, v14, v15, v16, v17, v18, v19, a1, a2, a3, a4) → i ≤ 32 → 32 - i < n → wX_addMask_11 post x1 x2 x3 n x4 (nI i) v0 v1 v2 v3 v4 v5 v6 v7 v8 v9 v10 v11 v12 v13 v14 v15 v16 v17 v18 v19 a1 a2 a3 a4 := by
  intro n
  induction n with
  | zero => intro i x4 v0 v1 v2 v3 v4 v5 v6 v7 v8 v9 v10 v11 v12 v13 v14 v15 v16 v17 v18 v19 a1 a2 a3 a4 h h1 h2; exact absurd h2 (by omega)
  | succ n ih =>
    intro i x4 v0 v1 v2 v3 v4 v5 v6 v7 v8 v9 v10 v11 v12 v13 v14 v15 v16 v17 v18 v19 a1 a2 a3 a4 h h1 h2
    refine pk_le 32 i (fun _ => H _ h) (fun z => br_c (fun _ => ca_stays (fun r => br_c (fun _ => nm_e (nm_r (nI_1 i) (ih (i + 1) _ h (by omega) (by omega)))) (fun _ => cs_add hs he h (fun u' h' => ?_)))) (fun _ => nm_r (nI_1 i) (ih (i + 1) _ h (by omega) (by omega))))
    obtain ⟨w0, w1, w2, w3, w4, w5, w6, w7, w8, w9, w10, w11, w12, w13, w14, w15, w16, w17, w18, w19, b1, b2, b3, b4⟩ := u'
    exact nm_e (nm_r (nI_1 i) (ih (i + 1) _ h' (by omega) (by omega)))
theorem cs_addMask {post : St1 → Prop} {u : St1} {p0 p1 : Int32} (hs : s ≤ 7304) (he : e ≤ 7304) (h : cr_R s iv e ex d1 d2 rd u) (H : ∀ u', cr_R s iv e ex d1 d2 rd u' → post u') : wpX_addMask post u p0 p1 := by
  obtain ⟨v0, v1, v2, v3, v4, v5, v6, v7, v8, v9, v10, v11, v12, v13, v14, v15, v16, v17, v18, v19, a1, a2, a3, a4⟩ := u
  exact ca_bits (fun k _ => Exists.intro 33 (cs_am_11 hs he H 33 0 _ h (by omega) (by omega)))
theorem cs_passes_44 {post : Int32 → St1 → Prop} {x1 x2 x3 : Int32} {v0 v1 v2 v3 v4 v5 v6 v7 v8 v9 v10 v11 v12 v13 v14 v15 v16 v17 v18 v19 : Int32} {a1 a2 a3 : Nat → Int32} {a4 : Nat → Int64} (h : cr_R s iv e ex d1 d2 rd (v0, v1, v2, v3, v4, v5, v6, v7, v8, v9, v10, v11, v12, v13, v14, v15, v16, v17, v18, v19, a1, a2, a3, a4)) (H : ∀ r u', cr_R s iv e ex d1 d2 rd u' → post r u') : wX_passes_44 post x1 x2 x3 v0 v1 v2 v3 v4 v5 v6 v7 v8 v9 v10 v11 v12 v13 v14 v15 v16 v17 v18 v19 a1 a2 a3 a4 :=
  ca_monthStart (fun r => br_c (fun _ => H _ _ h) (fun _ => H _ _ h))
theorem cs_passes {post : Int32 → St1 → Prop} {u : St1} {p0 : Int32} (h : cr_R s iv e ex d1 d2 rd u) (H : ∀ r u', cr_R s iv e ex d1 d2 rd u' → post r u') : wpX_passes post u p0 := by
  obtain ⟨v0, v1, v2, v3, v4, v5, v6, v7, v8, v9, v10, v11, v12, v13, v14, v15, v16, v17, v18, v19, a1, a2, a3, a4⟩ := u
  exact ca_yearOf (fun y => ca_monthOf (fun m => br_c (fun _ => cs_passes_44 h H) (fun _ => nm_e (ca_monthMask (fun k => cs_passes_44 (cr_R_ch h) H)))))
theorem cs_ay_45 {post : St1 → Prop} {x1 x2 : Int32} (hs : s ≤ 7304) (he : e ≤ 7304) (H : ∀ u', cr_R s iv e ex d1 d2 rd u' → post u') : ∀ (n i : Nat) (x3 : Int32) {v0 v1 v2 v3 v4 v5 v6 v7 v8 v9 v10 v11 v12 v13 v14 v15 v16 v17 v18 v19 : Int32} {a1 a2 a3 : Nat → Int32} {a4 : Nat → Int64}, cr_R s iv e ex d1 d2 rd (v0, v1, v2, v3, v4, v5, v6, v7, v8, v9, v10, v11, v12, v13, v14, v15, v16, v17, v18, v19, a1, a2, a3, a4) → i ≤ 12 → 12 - i < n → wX_addYear_45 post x1 x2 n x3 (nI i) v0 v1 v2 v3 v4 v5 v6 v7 v8 v9 v10 v11 v12 v13 v14 v15 v16 v17 v18 v19 a1 a2 a3 a4 := by
  intro n
  induction n with
  | zero => intro i x3 v0 v1 v2 v3 v4 v5 v6 v7 v8 v9 v10 v11 v12 v13 v14 v15 v16 v17 v18 v19 a1 a2 a3 a4 h h1 h2; exact absurd h2 (by omega)
  | succ n ih =>
    intro i x3 v0 v1 v2 v3 v4 v5 v6 v7 v8 v9 v10 v11 v12 v13 v14 v15 v16 v17 v18 v19 a1 a2 a3 a4 h h1 h2
    refine pk_le 12 i (fun _ => H _ h) (fun z => ca_monthStart (fun r => And.intro (pk_in i 12 z) (cs_addPart hs he h (fun u' h' => ?_))))
    obtain ⟨w0, w1, w2, w3, w4, w5, w6, w7, w8, w9, w10, w11, w12, w13, w14, w15, w16, w17, w18, w19, b1, b2, b3, b4⟩ := u'
    exact And.intro (pk_in i 12 z) (ca_bits (fun k _ => nm_e (nm_r (nI_1 i) (ih (i + 1) _ h' (by omega) (by omega)))))
theorem cs_ay_4 {post : St1 → Prop} {x1 : Int32} (hs : s ≤ 7304) (he : e ≤ 7304) (H : ∀ u', cr_R s iv e ex d1 d2 rd u' → post u') : ∀ (n i : Nat) (x2 : Int32) {v0 v1 v2 v3 v4 v5 v6 v7 v8 v9 v10 v11 v12 v13 v14 v15 v16 v17 v18 v19 : Int32} {a1 a2 a3 : Nat → Int32} {a4 : Nat → Int64}, cr_R s iv e ex d1 d2 rd (v0, v1, v2, v3, v4, v5, v6, v7, v8, v9, v10, v11, v12, v13, v14, v15, v16, v17, v18, v19, a1, a2, a3, a4) → i ≤ 12 → 12 - i < n → wX_addYear_4 post x1 v0 v1 v2 v3 v4 v5 v6 v7 v8 v9 v10 v11 v12 v13 v14 v15 v16 v17 v18 v19 n x2 (nI i) a1 a2 a3 a4 := by
  intro n
  induction n with
  | zero => intro i x2 v0 v1 v2 v3 v4 v5 v6 v7 v8 v9 v10 v11 v12 v13 v14 v15 v16 v17 v18 v19 a1 a2 a3 a4 h h1 h2; exact absurd h2 (by omega)
  | succ n ih =>
    intro i x2 v0 v1 v2 v3 v4 v5 v6 v7 v8 v9 v10 v11 v12 v13 v14 v15 v16 v17 v18 v19 a1 a2 a3 a4 h h1 h2
    exact pk_le 12 i (fun _ => Exists.intro 13 (cs_ay_45 hs he H 13 0 _ h (by omega) (by omega))) (fun z => ca_monthMask (fun r => And.intro (pk_in i 12 z) (nm_e (And.intro (pk_in i 12 z) (ca_bits (fun k _ => nm_e (nm_r (nI_1 i) (ih (i + 1) _ (cr_R_ch h) (by omega) (by omega)))))))))
theorem cs_addYear {post : St1 → Prop} {u : St1} {p0 : Int32} (hs : s ≤ 7304) (he : e ≤ 7304) (h : cr_R s iv e ex d1 d2 rd u) (H : ∀ u', cr_R s iv e ex d1 d2 rd u' → post u') : wpX_addYear post u p0 := by
  obtain ⟨v0, v1, v2, v3, v4, v5, v6, v7, v8, v9, v10, v11, v12, v13, v14, v15, v16, v17, v18, v19, a1, a2, a3, a4⟩ := u
  exact Exists.intro 13 (cs_ay_4 hs he H 13 0 _ h (by omega) (by omega))
theorem cs_up {x y : Int32} {c : Nat} (hc : c ≤ 10000) (hv : 1 ≤ iv) (hv2 : iv ≤ 20) (hy : y = nI iv) {n : Nat} (h : x.toInt < c) (h2 : (c - x.toInt).toNat < n + 1) : (c - (x + y).toInt).toNat < n := by
  rw [hy, ir_add (by omega) (by omega)]
  omega
theorem cs_gy_8 {post : St1 → Prop} (hs : s ≤ 7304) (he : e ≤ 7304) (hv : 1 ≤ iv) (hv2 : iv ≤ 20) (H : ∀ u', cr_R s iv e ex d1 d2 rd u' → post u') : ∀ (n : Nat) (x1 : Int32) {v0 v1 v2 v3 v4 v5 v6 v7 v8 v9 v10 v11 v12 v13 v14 v15 v16 v17 v18 v19 : Int32} {a1 a2 a3 : Nat → Int32} {a4 : Nat → Int64}, cr_R s iv e ex d1 d2 rd (v0, v1, v2, v3, v4, v5, v6, v7, v8, v9, v10, v11, v12, v13, v14, v15, v16, v17, v18, v19, a1, a2, a3, a4) → ((20 : Nat) - x1.toInt).toNat < n → wX_goYearly_8 post n x1 v0 v1 v2 v3 v4 v5 v6 v7 v8 v9 v10 v11 v12 v13 v14 v15 v16 v17 v18 v19 a1 a2 a3 a4 := by
  intro n
  induction n with
  | zero => intro x1 v0 v1 v2 v3 v4 v5 v6 v7 v8 v9 v10 v11 v12 v13 v14 v15 v16 v17 v18 v19 a1 a2 a3 a4 h h2; exact absurd h2 (by omega)
  | succ n ih =>
    intro x1 v0 v1 v2 v3 v4 v5 v6 v7 v8 v9 v10 v11 v12 v13 v14 v15 v16 v17 v18 v19 a1 a2 a3 a4 h h2
    refine br_c (fun _ => H _ h) (fun c => ca_wanted (fun r => br_c (fun _ => H _ h) (fun _ => cs_addYear hs he h (fun u' h' => ?_))))
    have c2 : x1.toInt < (20 : Nat) := ir_nle c
    obtain ⟨w0, w1, w2, w3, w4, w5, w6, w7, w8, w9, w10, w11, w12, w13, w14, w15, w16, w17, w18, w19, b1, b2, b3, b4⟩ := u'
    exact nm_e (ih _ h' (cs_up (by omega) hv hv2 (cr_R_iv h') c2 h2))
theorem cs_goYearly {post : St1 → Prop} {u : St1} (hs : s ≤ 7304) (he : e ≤ 7304) (hv : 1 ≤ iv) (hv2 : iv ≤ 20) (h : cr_R s iv e ex d1 d2 rd u) (H : ∀ u', cr_R s iv e ex d1 d2 rd u' → post u') : wpX_goYearly post u := by
  obtain ⟨v0, v1, v2, v3, v4, v5, v6, v7, v8, v9, v10, v11, v12, v13, v14, v15, v16, v17, v18, v19, a1, a2, a3, a4⟩ := u
  exact ca_yearOf (fun r => Exists.intro _ (cs_gy_8 hs he hv hv2 H _ _ h (Nat.lt_succ_self _)))
theorem cs_gm_24 {post : St1 → Prop} (hs : s ≤ 7304) (he : e ≤ 7304) (hv : 1 ≤ iv) (hv2 : iv ≤ 20) (H : ∀ u', cr_R s iv e ex d1 d2 rd u' → post u') : ∀ (n : Nat) (x3 : Int32) {v0 v1 v2 v3 v4 v5 v6 v7 v8 v9 v10 v11 v12 v13 v14 v15 v16 v17 v18 v19 : Int32} {a1 a2 a3 : Nat → Int32} {a4 : Nat → Int64}, cr_R s iv e ex d1 d2 rd (v0, v1, v2, v3, v4, v5, v6, v7, v8, v9, v10, v11, v12, v13, v14, v15, v16, v17, v18, v19, a1, a2, a3, a4) → ((240 : Nat) - x3.toInt).toNat < n → wX_goMonthly_24 post n x3 v0 v1 v2 v3 v4 v5 v6 v7 v8 v9 v10 v11 v12 v13 v14 v15 v16 v17 v18 v19 a1 a2 a3 a4 := by
  intro n
  induction n with
  | zero => intro x3 v0 v1 v2 v3 v4 v5 v6 v7 v8 v9 v10 v11 v12 v13 v14 v15 v16 v17 v18 v19 a1 a2 a3 a4 h h2; exact absurd h2 (by omega)
  | succ n ih =>
    intro x3 v0 v1 v2 v3 v4 v5 v6 v7 v8 v9 v10 v11 v12 v13 v14 v15 v16 v17 v18 v19 a1 a2 a3 a4 h h2
    refine br_c (fun _ => H _ h) (fun c => ca_wanted (fun r => br_c (fun _ => H _ h) (fun _ => And.intro (by decide) (And.intro (by decide) (ca_monthMask (fun r => And.intro (by decide) (And.intro (by decide) (ca_monthStart (fun r => cs_addMask hs he h (fun u' h' => ?_))))))))))
    have c2 : x3.toInt < (240 : Nat) := ir_nle c
    obtain ⟨w0, w1, w2, w3, w4, w5, w6, w7, w8, w9, w10, w11, w12, w13, w14, w15, w16, w17, w18, w19, b1, b2, b3, b4⟩ := u'
    exact nm_e (ih _ h' (cs_up (by omega) hv hv2 (cr_R_iv h') c2 h2))
theorem cs_goMonthly {post : St1 → Prop} {u : St1} (hs : s ≤ 7304) (he : e ≤ 7304) (hv : 1 ≤ iv) (hv2 : iv ≤ 20) (h : cr_R s iv e ex d1 d2 rd u) (H : ∀ u', cr_R s iv e ex d1 d2 rd u' → post u') : wpX_goMonthly post u := by
  obtain ⟨v0, v1, v2, v3, v4, v5, v6, v7, v8, v9, v10, v11, v12, v13, v14, v15, v16, v17, v18, v19, a1, a2, a3, a4⟩ := u
  exact ca_yearOf (fun r => ca_monthOf (fun r => nm_e (Exists.intro _ (cs_gm_24 hs he hv hv2 H _ _ h (Nat.lt_succ_self _)))))
theorem cs_gd_5 {post : St1 → Prop} (hs : s ≤ 7304) (he : e ≤ 7304) (hv : 1 ≤ iv) (hv2 : iv ≤ 20) (H : ∀ u', cr_R s iv e ex d1 d2 rd u' → post u') : ∀ (n : Nat) (x1 : Int32) {v0 v1 v2 v3 v4 v5 v6 v7 v8 v9 v10 v11 v12 v13 v14 v15 v16 v17 v18 v19 : Int32} {a1 a2 a3 : Nat → Int32} {a4 : Nat → Int64}, cr_R s iv e ex d1 d2 rd (v0, v1, v2, v3, v4, v5, v6, v7, v8, v9, v10, v11, v12, v13, v14, v15, v16, v17, v18, v19, a1, a2, a3, a4) → (((e + 1 : Nat) : Int) - x1.toInt).toNat < n → wX_goDaily_5 post n x1 v0 v1 v2 v3 v4 v5 v6 v7 v8 v9 v10 v11 v12 v13 v14 v15 v16 v17 v18 v19 a1 a2 a3 a4 := by
  intro n
  induction n with
  | zero => intro x1 v0 v1 v2 v3 v4 v5 v6 v7 v8 v9 v10 v11 v12 v13 v14 v15 v16 v17 v18 v19 a1 a2 a3 a4 h h2; exact absurd h2 (by omega)
  | succ n ih =>
    intro x1 v0 v1 v2 v3 v4 v5 v6 v7 v8 v9 v10 v11 v12 v13 v14 v15 v16 v17 v18 v19 a1 a2 a3 a4 h h2
    refine br_c (fun _ => H _ h) (fun c => ca_wanted (fun r => br_c (fun _ => H _ h) (fun _ => cs_passes h (fun r u' h' => ?_))))
    have c2 := ir_nlt c
    rw [cr_R_e h, nI_toInt (by omega)] at c2
    have c3 : x1.toInt < ((e + 1 : Nat) : Int) := by omega
    obtain ⟨w0, w1, w2, w3, w4, w5, w6, w7, w8, w9, w10, w11, w12, w13, w14, w15, w16, w17, w18, w19, b1, b2, b3, b4⟩ := u'
    refine br_c (fun _ => nm_e (ih _ h' (cs_up (by omega) hv hv2 (cr_R_iv h') c3 h2))) (fun _ => cs_addMask hs he h' (fun u'' h'' => ?_))
    obtain ⟨t0, t1, t2, t3, t4, t5, t6, t7, t8, t9, t10, t11, t12, t13, t14, t15, t16, t17, t18, t19, m1, m2, m3, m4⟩ := u''
    exact nm_e (ih _ h'' (cs_up (by omega) hv hv2 (cr_R_iv h'') c3 h2))
theorem cs_goDaily {post : St1 → Prop} {u : St1} (hs : s ≤ 7304) (he : e ≤ 7304) (hv : 1 ≤ iv) (hv2 : iv ≤ 20) (h : cr_R s iv e ex d1 d2 rd u) (H : ∀ u', cr_R s iv e ex d1 d2 rd u' → post u') : wpX_goDaily post u := by
  obtain ⟨v0, v1, v2, v3, v4, v5, v6, v7, v8, v9, v10, v11, v12, v13, v14, v15, v16, v17, v18, v19, a1, a2, a3, a4⟩ := u
  exact Exists.intro _ (cs_gd_5 hs he hv hv2 H _ _ h (Nat.lt_succ_self _))
theorem cs_gw_62 {post : St1 → Prop} {J13 : Int32 → Int32 → Int32 → Int32 → Int32 → Int32 → Int32 → Int32 → Int32 → Int32 → Int32 → Int32 → Int32 → Int32 → Int32 → Int32 → Int32 → Int32 → Int32 → Int32 → Int32 → (Nat → Int32) → (Nat → Int32) → (Nat → Int32) → (Nat → Int64) → Prop} {J32 : Int32 → Int32 → Int32 → Int32 → Int32 → Int32 → Int32 → Int32 → Int32 → Int32 → Int32 → Int32 → Int32 → Int32 → Int32 → Int32 → Int32 → Int32 → Int32 → Int32 → Int32 → Int32 → (Nat → Int32) → (Nat → Int32) → (Nat → Int32) → (Nat → Int64) → Prop}
    {x1 x2 z0 : Int32} {i : Nat} {v0 v1 v2 v3 v4 v5 v6 v7 v8 v9 v10 v11 v12 v13 v14 v15 v16 v17 v18 v19 : Int32} {a1 a2 a3 : Nat → Int32} {a4 : Nat → Int64} (h : cr_R s iv e ex d1 d2 rd (v0, v1, v2, v3, v4, v5, v6, v7, v8, v9, v10, v11, v12, v13, v14, v15, v16, v17, v18, v19, a1, a2, a3, a4)) (HJ : ∀ (x : Int32) {v0 v1 v2 v3 v4 v5 v6 v7 v8 v9 v10 v11 v12 v13 v14 v15 v16 v17 v18 v19 : Int32} {a1 a2 a3 : Nat → Int32} {a4 : Nat → Int64}, cr_R s iv e ex d1 d2 rd (v0, v1, v2, v3, v4, v5, v6, v7, v8, v9, v10, v11, v12, v13, v14, v15, v16, v17, v18, v19, a1, a2, a3, a4) → J32 x (nI (i + 1)) v0 v1 v2 v3 v4 v5 v6 v7 v8 v9 v10 v11 v12 v13 v14 v15 v16 v17 v18 v19 a1 a2 a3 a4) : wX_goWeekly_62 post J13 J32 x1 x2 (nI i) z0 v0 v1 v2 v3 v4 v5 v6 v7 v8 v9 v10 v11 v12 v13 v14 v15 v16 v17 v18 v19 a1 a2 a3 a4 :=
  br_c (fun _ => nm_r (nI_1 i) (HJ _ h)) (fun _ => nm_e (nm_r (nI_1 i) (HJ _ h)))
theorem cs_gw_32 {post : St1 → Prop} {J13 : Int32 → Int32 → Int32 → Int32 → Int32 → Int32 → Int32 → Int32 → Int32 → Int32 → Int32 → Int32 → Int32 → Int32 → Int32 → Int32 → Int32 → Int32 → Int32 → Int32 → Int32 → (Nat → Int32) → (Nat → Int32) → (Nat → Int32) → (Nat → Int64) → Prop} {x1 : Int32} (hs : s ≤ 7304) (he : e ≤ 7304) (HJ : ∀ {v0 v1 v2 v3 v4 v5 v6 v7 v8 v9 v10 v11 v12 v13 v14 v15 v16 v17 v18 v19 : Int32} {a1 a2 a3 : Nat → Int32} {a4 : Nat → Int64}, cr_R s iv e ex d1 d2 rd (v0, v1, v2, v3, v4, v5, v6, v7, v8, v9, v10, v11, v12, v13, v14, v15, v16, v17, v18, v19, a1, a2, a3, a4) → J13 (x1 + nI (7 * iv)) v0 v1 v2 v3 v4 v5 v6 v7 v8 v9 v10 v11 v12 v13 v14 v15 v16 v17 v18 v19 a1 a2 a3 a4) : ∀ (n i : Nat) (x2 : Int32) {v0 v1 v2 v3 v4 v5 v6 v7 v8 v9 v10 v11 v12 v13 v14 v15 v16 v17 v18 v19 : Int32} {a1 a2 a3 : Nat → Int32} {a4 : Nat → Int64}, cr_R s iv e ex d1 d2 rd (v0, v1, v2, v3, v4, v5, v6, v7, v8, v9, v10, v11, v12, v13, v14, v15, v16, v17, v18, v19, a1, a2, a3, a4) → i ≤ 7 → 7 - i < n → wX_goWeekly_32 post J13 x1 n x2 (nI i) v0 v1 v2 v3 v4 v5 v6 v7 v8 v9 v10 v11 v12 v13 v14 v15 v16 v17 v18 v19 a1 a2 a3 a4 := by
  intro n
  induction n with
  | zero => intro i x2 v0 v1 v2 v3 v4 v5 v6 v7 v8 v9 v10 v11 v12 v13 v14 v15 v16 v17 v18 v19 a1 a2 a3 a4 h h1 h2; exact absurd h2 (by omega)
  | succ n ih =>
    intro i x2 v0 v1 v2 v3 v4 v5 v6 v7 v8 v9 v10 v11 v12 v13 v14 v15 v16 v17 v18 v19 a1 a2 a3 a4 h h1 h2
    refine pk_le 7 i (fun _ => cs_addMask hs he h (fun u' h' => ?_)) (fun z => ca_badDay_2 (fun d hd _ => br_t rfl (cs_passes h (fun r u' h' => ?_))) (br_f (by decide) (cs_gw_62 h (fun x v0 v1 v2 v3 v4 v5 v6 v7 v8 v9 v10 v11 v12 v13 v14 v15 v16 v17 v18 v19 a1 a2 a3 a4 h => ih (i + 1) x h (by omega) (by omega)))))
    · obtain ⟨w0, w1, w2, w3, w4, w5, w6, w7, w8, w9, w10, w11, w12, w13, w14, w15, w16, w17, w18, w19, b1, b2, b3, b4⟩ := u'
      exact nm_r (show _ = x1 + nI (7 * iv) by rw [cr_R_iv h', ← pk_mul]; rfl) (HJ h')
    · obtain ⟨w0, w1, w2, w3, w4, w5, w6, w7, w8, w9, w10, w11, w12, w13, w14, w15, w16, w17, w18, w19, b1, b2, b3, b4⟩ := u'
      exact br_c (fun _ => cs_gw_62 h' (fun x v0 v1 v2 v3 v4 v5 v6 v7 v8 v9 v10 v11 v12 v13 v14 v15 v16 v17 v18 v19 a1 a2 a3 a4 h => ih (i + 1) x h (by omega) (by omega))) (fun _ => cs_gw_62 h' (fun x v0 v1 v2 v3 v4 v5 v6 v7 v8 v9 v10 v11 v12 v13 v14 v15 v16 v17 v18 v19 a1 a2 a3 a4 h => ih (i + 1) x h (by omega) (by omega)))
theorem cs_gw_13 {post : St1 → Prop} (hs : s ≤ 7304) (he : e ≤ 7304) (hv : 1 ≤ iv) (hv2 : iv ≤ 20) (H : ∀ u', cr_R s iv e ex d1 d2 rd u' → post u') : ∀ (n : Nat) (x1 : Int32) {v0 v1 v2 v3 v4 v5 v6 v7 v8 v9 v10 v11 v12 v13 v14 v15 v16 v17 v18 v19 : Int32} {a1 a2 a3 : Nat → Int32} {a4 : Nat → Int64}, cr_R s iv e ex d1 d2 rd (v0, v1, v2, v3, v4, v5, v6, v7, v8, v9, v10, v11, v12, v13, v14, v15, v16, v17, v18, v19, a1, a2, a3, a4) → (((e + 1 : Nat) : Int) - x1.toInt).toNat < n → wX_goWeekly_13 post n x1 v0 v1 v2 v3 v4 v5 v6 v7 v8 v9 v10 v11 v12 v13 v14 v15 v16 v17 v18 v19 a1 a2 a3 a4 := by
  intro n
  induction n with
  | zero => intro x1 v0 v1 v2 v3 v4 v5 v6 v7 v8 v9 v10 v11 v12 v13 v14 v15 v16 v17 v18 v19 a1 a2 a3 a4 h h2; exact absurd h2 (by omega)
  | succ n ih =>
    intro x1 v0 v1 v2 v3 v4 v5 v6 v7 v8 v9 v10 v11 v12 v13 v14 v15 v16 v17 v18 v19 a1 a2 a3 a4 h h2
    refine br_c (fun _ => H _ h) (fun c => ca_wanted (fun r => br_c (fun _ => H _ h) (fun _ => Exists.intro 8 (cs_gw_32 hs he (fun h' => ih _ h' ?_) 8 0 _ h (by omega) (by omega)))))
    have c2 := ir_nlt c
    rw [cr_R_e h, nI_toInt (by omega)] at c2
    rw [ir_add (by omega) (by omega)]
    omega
theorem cs_goWeekly {post : St1 → Prop} {u : St1} (hs : s ≤ 7304) (he : e ≤ 7304) (hv : 1 ≤ iv) (hv2 : iv ≤ 20) (h : cr_R s iv e ex d1 d2 rd u) (H : ∀ u', cr_R s iv e ex d1 d2 rd u' → post u') : wpX_goWeekly post u := by
  obtain ⟨v0, v1, v2, v3, v4, v5, v6, v7, v8, v9, v10, v11, v12, v13, v14, v15, v16, v17, v18, v19, a1, a2, a3, a4⟩ := u
  unfold wpX_goWeekly
  exact ca_weekdayOf (fun r => nm_e (Exists.intro _ (cs_gw_13 hs he hv hv2 H _ _ h (Nat.lt_succ_self _))))
theorem cs_fi_41 {post : St1 → Prop} {z0 : Int32} {v0 v1 v2 v3 v4 v5 v6 v7 v8 v9 v10 v11 v12 v13 v14 v15 v16 v17 v18 v19 : Int32} {a1 a2 a3 : Nat → Int32} {a4 : Nat → Int64} (h : cr_R s iv e ex d1 d2 rd (v0, v1, v2, v3, v4, v5, v6, v7, v8, v9, v10, v11, v12, v13, v14, v15, v16, v17, v18, v19, a1, a2, a3, a4)) (H : ∀ u', cr_R s iv e ex d1 d2 rd u' → post u') : wX_fillIn_41 post z0 v0 v1 v2 v3 v4 v5 v6 v7 v8 v9 v10 v11 v12 v13 v14 v15 v16 v17 v18 v19 a1 a2 a3 a4 :=
  br_c (fun _ => br_c (fun _ => H _ (cr_R_ch h)) (fun _ => br_c (fun _ => ca_weekdayOf (fun r => nm_e (H _ (cr_R_ch h)))) (fun _ => ca_yearOf (fun y => ca_monthOf (fun m => ca_monthStart (fun r => nm_e (br_c (fun _ => br_c (fun _ => nm_e (H _ (cr_R_ch h))) (fun _ => H _ (cr_R_ch h))) (fun _ => H _ (cr_R_ch h)))))))))
    (fun _ => H _ (cr_R_ch h))
theorem cs_fillIn {post : St1 → Prop} {u : St1} (h : cr_R s iv e ex d1 d2 rd u) (H : ∀ u', cr_R s iv e ex d1 d2 rd u' → post u') : wpX_fillIn post u := by
  obtain ⟨v0, v1, v2, v3, v4, v5, v6, v7, v8, v9, v10, v11, v12, v13, v14, v15, v16, v17, v18, v19, a1, a2, a3, a4⟩ := u
  exact br_c (fun _ => cs_fi_41 (cr_R_ch h) H) (fun _ => cs_fi_41 (cr_R_ch h) H)
end
end
section
/-- the extras: distinct days, each in or out -/
def cr_X (ex : Nat) (d1 d2 : Nat → Int32) (D : Nat → Nat) : Prop := ex ≤ 12 ∧ (∀ i, i < ex → d1 i = nI (D i) ∧ D i ≤ 7304) ∧ (∀ i j, i < ex → j < ex → D i = D j → i = j) ∧ (∀ i, i < ex → d2 i = 0 ∨ d2 i = 1)
/-- the first c extras stand in the words -/
def cr_W (c : Nat) (d2 : Nat → Int32) (D : Nat → Nat) (a : Nat → Int64) : Prop := ∀ k, k < c → (cr_s a (D k) = true ↔ ¬ d2 k = 0)
theorem cr_W_put {i : Nat} {ex : Nat} {d1 d2 : Nat → Int32} {D : Nat → Nat} {a : Nat → Int64} (hX : cr_X ex d1 d2 D) (hi : i < ex) (h : cr_W i d2 D a) (hz : ¬ d2 i = 0) : cr_W (i + 1) d2 D (vp_updL a (D i / 64) (a (D i / 64) ||| ((1 : Int64) <<< ((nI (D i % 64)).toInt64 &&& 63)))) := fun k hk => by
  rw [cr_s_put]
  by_cases ek : k = i
  · rw [ek, decide_eq_true rfl, Bool.or_true]
    exact ⟨fun _ => hz, fun _ => rfl⟩
  · rw [decide_eq_false (fun z => ek (hX.2.2.1 k i (by omega) hi z)), Bool.or_false]
    exact h k (by omega)
theorem cr_W_cut {i : Nat} {ex : Nat} {d1 d2 : Nat → Int32} {D : Nat → Nat} {a : Nat → Int64} (hX : cr_X ex d1 d2 D) (hi : i < ex) (h : cr_W i d2 D a) (hz : d2 i = 0) : cr_W (i + 1) d2 D (vp_updL a (D i / 64) (a (D i / 64) &&& (((1 : Int64) <<< ((nI (D i % 64)).toInt64 &&& 63)) ^^^ (-1)))) := fun k hk => by
  rw [cr_s_cut]
  by_cases ek : k = i
  · rw [ek, decide_eq_true rfl, Bool.not_true, Bool.and_false]
    exact ⟨fun z => absurd z (by decide), fun z => absurd hz z⟩
  · rw [decide_eq_false (fun z => ek (hX.2.2.1 k i (by omega) hi z)), Bool.not_false, Bool.and_true]
    exact h k (by omega)
section
variable {s iv e ex : Nat} {d1 d2 : Nat → Int32} {rd : Int32} {D : Nat → Nat}
theorem cs_pr_93 {post : St1 → Prop} (hX : cr_X ex d1 d2 D) {v0 v1 v2 v3 v4 v5 v6 v7 v8 v9 v10 v11 v12 v13 v14 v15 v16 v17 v18 v19 : Int32} (h11 : v11 = nI ex) (H : ∀ (a3 : Nat → Int32) (a4 : Nat → Int64), cr_ok a4 → cr_W ex d2 D a4 → post (v0, v1, v2, v3, v4, v5, v6, v7, v8, v9, v10, v11, v12, v13, v14, v15, v16, v17, v18, v19, d1, d2, a3, a4)) : ∀ (n i : Nat) (a3 : Nat → Int32) (a4 : Nat → Int64), cr_ok a4 → cr_W i d2 D a4 → i ≤ ex → ex - i < n → wX_prepare_93 post v0 v1 v2 v3 v4 v5 v6 v7 v8 v9 v10 v11 v12 v13 v14 v15 v16 v17 v18 v19 n (nI i) d1 d2 a3 a4 := by
  subst h11
  have hx := hX.1
  intro n
  induction n with
  | zero => intro i a3 a4 hk hw h1 h2; exact absurd h2 (by omega)
  | succ n ih =>
    intro i a3 a4 hk hw h1 h2
    refine pk_le ex i (fun z => H a3 a4 hk (by rw [show ex = i by omega]; exact hw)) (fun z => ⟨pk_in i 12 (by omega), nm_r (show _ = nI (D i) by rw [nI_clamp (by omega)]; exact (hX.2.1 i z).1) ?_⟩)
    have hD := (hX.2.1 i z).2
    rw [cr_q (show D i < 2 ^ 31 by omega), cr_r (show D i < 2 ^ 31 by omega), nI_clamp (show D i / 64 < 2 ^ 31 by omega), nI_clamp (show i < 2 ^ 31 by omega)]
    refine nm_e ⟨pk_in i 12 (by omega), br_c (fun c => ⟨pk_in (D i / 64) 115 (by omega), pk_in (D i / 64) 115 (by omega), nm_e (nm_r (nI_1 i) (ih (i + 1) _ _ (cr_ok_cut hk) (cr_W_cut hX z hw c) (by omega) (by omega)))⟩) (fun c => ⟨pk_in (D i / 64) 115 (by omega), pk_in (D i / 64) 115 (by omega), nm_e (nm_r (nI_1 i) (ih (i + 1) _ _ (cr_ok_put hk hD) (cr_W_put hX z hw c) (by omega) (by omega)))⟩)⟩
theorem cs_pr_u {post : St1 → Prop} (hX : cr_X ex d1 d2 D) (H : ∀ {v0 v1 v2 v3 v4 v5 v6 v7 v8 v9 v10 v11 v12 v13 v14 v15 v16 v17 v18 v19 : Int32} {a1 a2 a3 : Nat → Int32} {a4 : Nat → Int64}, cr_R s iv e ex d1 d2 rd (v0, v1, v2, v3, v4, v5, v6, v7, v8, v9, v10, v11, v12, v13, v14, v15, v16, v17, v18, v19, a1, a2, a3, a4) → cr_W ex d2 D a4 → post (v0, v1, v2, v3, v4, v5, v6, v7, v8, v9, v10, v11, v12, v13, v14, v15, v16, v17, v18, v19, a1, a2, a3, a4)) {v0 v1 v2 v3 v4 v5 v6 v7 v8 v9 v10 v11 v12 v13 v14 v15 v16 v17 v18 v19 : Int32} {a1 a2 a3 : Nat → Int32} {a4 : Nat → Int64} (h : cr_R s iv e ex d1 d2 rd (v0, v1, v2, v3, v4, v5, v6, v7, v8, v9, v10, v11, v12, v13, v14, v15, v16, v17, v18, v19, a1, a2, a3, a4)) : ∃ fu : Nat, wX_prepare_93 post v0 v1 v2 v3 v4 v5 v6 v7 v8 v9 v10 v11 v12 v13 v14 v15 v16 v17 v18 v19 fu 0 a1 a2 a3 a4 := by
  obtain ⟨h0, h2, h10, h11, h21, h22, h18, hk⟩ := cr_R_of h
  subst h21
  subst h22
  exact Exists.intro (ex + 1) (cs_pr_93 hX h11 (fun a3 a4 hk hw => H (cr_R_mk h0 h2 h10 h11 rfl rfl h18 hk) hw) (ex + 1) 0 a3 a4 hk (fun k hk => absurd hk (by omega)) (by omega) (by omega))
theorem cs_pr_20 {post : St1 → Prop} (hX : cr_X ex d1 d2 D) (hs : s ≤ 7304) (he : e ≤ 7304) (hv : 1 ≤ iv) (hv2 : iv ≤ 20) {v0 v1 v2 v3 v4 v5 v6 v7 v8 v9 v10 v11 v12 v13 v14 v15 v16 v17 v18 v19 : Int32} {a1 a2 a3 : Nat → Int32} (h0 : v0 = nI s) (h2 : v2 = nI iv) (h10 : v10 = nI e) (h11 : v11 = nI ex) (h21 : a1 = d1) (h22 : a2 = d2) (h18 : v18 = rd) (H : ∀ {v0 v1 v2 v3 v4 v5 v6 v7 v8 v9 v10 v11 v12 v13 v14 v15 v16 v17 v18 v19 : Int32} {a1 a2 a3 : Nat → Int32} {a4 : Nat → Int64}, cr_R s iv e ex d1 d2 rd (v0, v1, v2, v3, v4, v5, v6, v7, v8, v9, v10, v11, v12, v13, v14, v15, v16, v17, v18, v19, a1, a2, a3, a4) → cr_W ex d2 D a4 → post (v0, v1, v2, v3, v4, v5, v6, v7, v8, v9, v10, v11, v12, v13, v14, v15, v16, v17, v18, v19, a1, a2, a3, a4)) : ∀ (n i : Nat) (a4 : Nat → Int64), (∀ j, j < i → a4 j = 0) → i ≤ 115 → 115 - i < n → wX_prepare_20 post v0 v1 v2 v3 v4 v5 v6 v7 v8 v9 v10 v11 v12 v13 v14 v15 v16 v17 v18 v19 n (nI i) a1 a2 a3 a4 := by
  intro n
  induction n with
  | zero => intro i a4 _ _ h2; exact absurd h2 (by omega)
  | succ n ih =>
    intro i a4 hz hi hn
    refine pk_le 115 i (fun z => cs_fillIn (cr_R_mk h0 h2 h10 h11 h21 h22 h18 (cr_ok_0 (fun j hj => hz j (by omega)))) (fun u' h' => ?_)) (fun z => ⟨pk_in i 115 z, nm_e (nm_r (nI_1 i) (ih (i + 1) _ (fun j hj => ?_) (by omega) (by omega)))⟩)
    · obtain ⟨w0, w1, w2, w3, w4, w5, w6, w7, w8, w9, w10, w11, w12, w13, w14, w15, w16, w17, w18, w19, b1, b2, b3, b4⟩ := u'
      exact br_c (fun _ => cs_goDaily hs he hv hv2 h' (fun u h => by obtain ⟨v0, v1, v2, v3, v4, v5, v6, v7, v8, v9, v10, v11, v12, v13, v14, v15, v16, v17, v18, v19, a1, a2, a3, a4⟩ := u; exact cs_pr_u hX H h)) (fun _ => br_c (fun _ => cs_goWeekly hs he hv hv2 h' (fun u h => by obtain ⟨v0, v1, v2, v3, v4, v5, v6, v7, v8, v9, v10, v11, v12, v13, v14, v15, v16, v17, v18, v19, a1, a2, a3, a4⟩ := u; exact cs_pr_u hX H h)) (fun _ => br_c (fun _ => cs_goMonthly hs he hv hv2 h' (fun u h => by obtain ⟨v0, v1, v2, v3, v4, v5, v6, v7, v8, v9, v10, v11, v12, v13, v14, v15, v16, v17, v18, v19, a1, a2, a3, a4⟩ := u; exact cs_pr_u hX H h)) (fun _ => cs_goYearly hs he hv hv2 h' (fun u h => by obtain ⟨v0, v1, v2, v3, v4, v5, v6, v7, v8, v9, v10, v11, v12, v13, v14, v15, v16, v17, v18, v19, a1, a2, a3, a4⟩ := u; exact cs_pr_u hX H h))))
    · rw [nI_clamp (by omega)]
      by_cases ej : j = i
      · rw [ej, pk_uLs]
      · rw [pk_uLn ej]
        exact hz j (by omega)
end
/-- between the law's calls -/
def cr_I (ex : Nat) (d1 d2 : Nat → Int32) (D : Nat → Nat) (u : St1) : Prop := match u with
  | (v0, v1, v2, v3, v4, v5, v6, v7, v8, v9, v10, v11, v12, v13, v14, v15, v16, v17, v18, v19, a1, a2, a3, a4) => (∃ s iv e : Nat, s ≤ 7304 ∧ 1 ≤ iv ∧ iv ≤ 20 ∧ e ≤ 7304 ∧ v0 = nI s ∧ v2 = nI iv ∧ v10 = nI e) ∧ v11 = nI ex ∧ a1 = d1 ∧ a2 = d2 ∧ (¬ v18 = 0 → cr_ok a4 ∧ cr_W ex d2 D a4)
/-- .. and the days are worked out -/
def cr_P (ex : Nat) (d1 d2 : Nat → Int32) (D : Nat → Nat) (u : St1) : Prop := match u with
  | (v0, v1, v2, v3, v4, v5, v6, v7, v8, v9, v10, v11, v12, v13, v14, v15, v16, v17, v18, v19, a1, a2, a3, a4) => cr_I ex d1 d2 D (v0, v1, v2, v3, v4, v5, v6, v7, v8, v9, v10, v11, v12, v13, v14, v15, v16, v17, v18, v19, a1, a2, a3, a4) ∧ ¬ v18 = 0
section
variable {ex : Nat} {d1 d2 : Nat → Int32} {D : Nat → Nat}
theorem cr_I_mk {v0 v1 v2 v3 v4 v5 v6 v7 v8 v9 v10 v11 v12 v13 v14 v15 v16 v17 v18 v19 : Int32} {a1 a2 a3 : Nat → Int32} {a4 : Nat → Int64} (h : ∃ s iv e : Nat, s ≤ 7304 ∧ 1 ≤ iv ∧ iv ≤ 20 ∧ e ≤ 7304 ∧ v0 = nI s ∧ v2 = nI iv ∧ v10 = nI e) (h11 : v11 = nI ex) (h21 : a1 = d1) (h22 : a2 = d2) (h18 : ¬ v18 = 0 → cr_ok a4 ∧ cr_W ex d2 D a4) : cr_I ex d1 d2 D (v0, v1, v2, v3, v4, v5, v6, v7, v8, v9, v10, v11, v12, v13, v14, v15, v16, v17, v18, v19, a1, a2, a3, a4) :=
  And.intro h (And.intro h11 (And.intro h21 (And.intro h22 h18)))
theorem cr_I_of {v0 v1 v2 v3 v4 v5 v6 v7 v8 v9 v10 v11 v12 v13 v14 v15 v16 v17 v18 v19 : Int32} {a1 a2 a3 : Nat → Int32} {a4 : Nat → Int64} (h : cr_I ex d1 d2 D (v0, v1, v2, v3, v4, v5, v6, v7, v8, v9, v10, v11, v12, v13, v14, v15, v16, v17, v18, v19, a1, a2, a3, a4)) : (∃ s iv e : Nat, s ≤ 7304 ∧ 1 ≤ iv ∧ iv ≤ 20 ∧ e ≤ 7304 ∧ v0 = nI s ∧ v2 = nI iv ∧ v10 = nI e) ∧ v11 = nI ex ∧ a1 = d1 ∧ a2 = d2 ∧ (¬ v18 = 0 → cr_ok a4 ∧ cr_W ex d2 D a4) := h
theorem cr_P_mk {v0 v1 v2 v3 v4 v5 v6 v7 v8 v9 v10 v11 v12 v13 v14 v15 v16 v17 v18 v19 : Int32} {a1 a2 a3 : Nat → Int32} {a4 : Nat → Int64} (h : cr_I ex d1 d2 D (v0, v1, v2, v3, v4, v5, v6, v7, v8, v9, v10, v11, v12, v13, v14, v15, v16, v17, v18, v19, a1, a2, a3, a4)) (h18 : ¬ v18 = 0) : cr_P ex d1 d2 D (v0, v1, v2, v3, v4, v5, v6, v7, v8, v9, v10, v11, v12, v13, v14, v15, v16, v17, v18, v19, a1, a2, a3, a4) := And.intro h h18
theorem cr_P_of {v0 v1 v2 v3 v4 v5 v6 v7 v8 v9 v10 v11 v12 v13 v14 v15 v16 v17 v18 v19 : Int32} {a1 a2 a3 : Nat → Int32} {a4 : Nat → Int64} (h : cr_P ex d1 d2 D (v0, v1, v2, v3, v4, v5, v6, v7, v8, v9, v10, v11, v12, v13, v14, v15, v16, v17, v18, v19, a1, a2, a3, a4)) : cr_I ex d1 d2 D (v0, v1, v2, v3, v4, v5, v6, v7, v8, v9, v10, v11, v12, v13, v14, v15, v16, v17, v18, v19, a1, a2, a3, a4) ∧ ¬ v18 = 0 := h
theorem cr_P_ok {v0 v1 v2 v3 v4 v5 v6 v7 v8 v9 v10 v11 v12 v13 v14 v15 v16 v17 v18 v19 : Int32} {a1 a2 a3 : Nat → Int32} {a4 : Nat → Int64} (h : cr_P ex d1 d2 D (v0, v1, v2, v3, v4, v5, v6, v7, v8, v9, v10, v11, v12, v13, v14, v15, v16, v17, v18, v19, a1, a2, a3, a4)) : cr_ok a4 := ((cr_I_of (cr_P_of h).1).2.2.2.2 (cr_P_of h).2).1
theorem cr_P_W {v0 v1 v2 v3 v4 v5 v6 v7 v8 v9 v10 v11 v12 v13 v14 v15 v16 v17 v18 v19 : Int32} {a1 a2 a3 : Nat → Int32} {a4 : Nat → Int64} (h : cr_P ex d1 d2 D (v0, v1, v2, v3, v4, v5, v6, v7, v8, v9, v10, v11, v12, v13, v14, v15, v16, v17, v18, v19, a1, a2, a3, a4)) : cr_W ex d2 D a4 := ((cr_I_of (cr_P_of h).1).2.2.2.2 (cr_P_of h).2).2
/-- a state whose days are worked out stays as it is -/
theorem cs_prepared {post : St1 → Prop} {v0 v1 v2 v3 v4 v5 v6 v7 v8 v9 v10 v11 v12 v13 v14 v15 v16 v17 v18 v19 : Int32} {a1 a2 a3 : Nat → Int32} {a4 : Nat → Int64} (h : cr_P ex d1 d2 D (v0, v1, v2, v3, v4, v5, v6, v7, v8, v9, v10, v11, v12, v13, v14, v15, v16, v17, v18, v19, a1, a2, a3, a4)) (H : post (v0, v1, v2, v3, v4, v5, v6, v7, v8, v9, v10, v11, v12, v13, v14, v15, v16, v17, v18, v19, a1, a2, a3, a4)) : wpX_prepare post (v0, v1, v2, v3, v4, v5, v6, v7, v8, v9, v10, v11, v12, v13, v14, v15, v16, v17, v18, v19, a1, a2, a3, a4) := br_f (cr_P_of h).2 H
theorem cs_prepare {post : St1 → Prop} {u : St1} (hX : cr_X ex d1 d2 D) (h : cr_I ex d1 d2 D u) (H : ∀ {v0 v1 v2 v3 v4 v5 v6 v7 v8 v9 v10 v11 v12 v13 v14 v15 v16 v17 v18 v19 : Int32} {a1 a2 a3 : Nat → Int32} {a4 : Nat → Int64}, cr_P ex d1 d2 D (v0, v1, v2, v3, v4, v5, v6, v7, v8, v9, v10, v11, v12, v13, v14, v15, v16, v17, v18, v19, a1, a2, a3, a4) → post (v0, v1, v2, v3, v4, v5, v6, v7, v8, v9, v10, v11, v12, v13, v14, v15, v16, v17, v18, v19, a1, a2, a3, a4)) : wpX_prepare post u := by
  obtain ⟨v0, v1, v2, v3, v4, v5, v6, v7, v8, v9, v10, v11, v12, v13, v14, v15, v16, v17, v18, v19, a1, a2, a3, a4⟩ := u
  obtain ⟨⟨s, iv, e, hs, hv, hv2, he, h0, h2, h10⟩, h11, h21, h22, h18⟩ := cr_I_of h
  refine br_c (fun _ => Exists.intro 116 (cs_pr_20 (rd := 1) hX hs he hv hv2 h0 h2 h10 h11 h21 h22 rfl ?_ 116 0 a4 (fun j hj => absurd hj (by omega)) (by omega) (by omega))) (fun c => H (cr_P_mk h c))
  intro w0 w1 w2 w3 w4 w5 w6 w7 w8 w9 w10 w11 w12 w13 w14 w15 w16 w17 w18 w19 b1 b2 b3 b4 h' hw
  obtain ⟨g0, g2, g10, g11, g21, g22, g18, gk⟩ := cr_R_of h'
  exact H (cr_P_mk (cr_I_mk ⟨s, iv, e, hs, hv, hv2, he, g0, g2, g10⟩ g11 g21 g22 (fun _ => ⟨gk, hw⟩)) (by rw [g18]; decide))
end
end
section
theorem cq_nf {b : Bool} (h : ¬ b = true) : b = false := by
  cases b
  · rfl
  · exact absurd rfl h
theorem cq_isIn {post : Int32 → Prop} {v0 v1 v2 v3 v4 v5 v6 v7 v8 v9 v10 v11 v12 v13 v14 v15 v16 v17 v18 v19 : Int32} {a1 a2 a3 : Nat → Int32} {a4 : Nat → Int64} {d : Nat} (hd : d ≤ 7359) (H1 : cr_s a4 d = true → post 1) (H0 : cr_s a4 d = false → post 0) : wpX_isIn post (v0, v1, v2, v3, v4, v5, v6, v7, v8, v9, v10, v11, v12, v13, v14, v15, v16, v17, v18, v19, a1, a2, a3, a4) (nI d) := by
  unfold wpX_isIn
  rw [cr_q (show d < 2 ^ 31 by omega), cr_r (show d < 2 ^ 31 by omega), nI_clamp (show d / 64 < 2 ^ 31 by omega)]
  exact And.intro (pk_in (d / 64) 115 (by omega)) (ek_if (cr_w_one (a4 (d / 64)) (show d % 64 < 64 by omega)) (fun z => H1 z) (fun z => H0 (cq_nf z)))
theorem cq_z {a : Nat → Int64} {j q : Nat} (h : a q = 0) (hj : j / 64 = q) : cr_s a j = false := by
  unfold cr_s
  rw [hj, h]
  exact cr_w_0 _
theorem cq_nx_15 {post : Int32 → St1 → Prop} {v0 v1 v2 v3 v4 v5 v6 v7 v8 v9 v10 v11 v12 v13 v14 v15 v16 v17 v18 v19 : Int32} {a1 a2 a3 : Nat → Int32} {a4 : Nat → Int64} {d0 : Nat} (H1 : (∀ j, d0 ≤ j → j ≤ 7304 → cr_s a4 j = false) → post (-4) (v0, v1, v2, v3, v4, v5, v6, v7, v8, v9, v10, v11, v12, v13, v14, v15, v16, v17, v18, v19, a1, a2, a3, a4)) (H2 : ∀ m, d0 ≤ m → m ≤ 7304 → cr_s a4 m = true → (∀ j, d0 ≤ j → j < m → cr_s a4 j = false) → post (nI m) (v0, v1, v2, v3, v4, v5, v6, v7, v8, v9, v10, v11, v12, v13, v14, v15, v16, v17, v18, v19, a1, a2, a3, a4)) : ∀ n d, d0 ≤ d → d ≤ 7368 → (∀ j, d0 ≤ j → j < d → cr_s a4 j = false) → 7368 - d < n → wX_next_15 post v0 v1 v2 v3 v4 v5 v6 v7 v8 v9 v10 v11 v12 v13 v14 v15 v16 v17 v18 v19 a1 a2 a3 a4 n (nI d) := by
  intro n
  induction n with
  | zero => intro d _ _ _ h2; exact absurd h2 (by omega)
  | succ n ih =>
    intro d h0 h1 hz hn
    have one : d ≤ 7304 → cr_s a4 d = false → wX_next_15 post v0 v1 v2 v3 v4 v5 v6 v7 v8 v9 v10 v11 v12 v13 v14 v15 v16 v17 v18 v19 a1 a2 a3 a4 n (nI (d + 1)) := fun z hb => ih (d + 1) (by omega) (by omega) (fun j g1 g2 => by
      by_cases ej : j = d
      · rw [ej]; exact hb
      · exact hz j g1 (by omega)) (by omega)
    refine pk_lt 7304 d (fun z => pk_le d 7304 (fun y => absurd y (by omega)) (fun _ => H1 (fun j g1 g2 => hz j g1 (by omega)))) (fun z => cq_isIn (by omega) (fun hb => br_f (by decide) (pk_le d 7304 (fun _ => H2 d h0 z hb hz) (fun y => absurd y (by omega)))) (fun hb => br_t rfl ?_))
    rw [cr_q (show d < 2 ^ 31 by omega), cr_r (show d < 2 ^ 31 by omega), nI_clamp (show d / 64 < 2 ^ 31 by omega)]
    refine pk_eq (d % 64) 0 (fun y => ⟨pk_in (d / 64) 115 (by omega), br_c (fun c => nm_r (show nI d + 64 = nI (d + 64) from nI_add d 64) (ih (d + 64) (by omega) (by omega) (fun j g1 g2 => ?_) (by omega))) (fun _ => nm_r (nI_1 d) (one z hb))⟩) (fun _ => nm_r (nI_1 d) (one z hb))
    by_cases ej : j < d
    · exact hz j g1 ej
    · exact cq_z c (by omega)
theorem cq_pv_15 {post : Int32 → St1 → Prop} {v0 v1 v2 v3 v4 v5 v6 v7 v8 v9 v10 v11 v12 v13 v14 v15 v16 v17 v18 v19 : Int32} {a1 a2 a3 : Nat → Int32} {a4 : Nat → Int64} {d0 : Nat} (hd0 : d0 ≤ 7304) (H1 : (∀ j, j ≤ d0 → cr_s a4 j = false) → post (-4) (v0, v1, v2, v3, v4, v5, v6, v7, v8, v9, v10, v11, v12, v13, v14, v15, v16, v17, v18, v19, a1, a2, a3, a4)) (H2 : ∀ m, m ≤ d0 → cr_s a4 m = true → (∀ j, m < j → j ≤ d0 → cr_s a4 j = false) → post (nI m) (v0, v1, v2, v3, v4, v5, v6, v7, v8, v9, v10, v11, v12, v13, v14, v15, v16, v17, v18, v19, a1, a2, a3, a4)) : ∀ n c, c ≤ d0 + 1 → (∀ j, c ≤ j → j ≤ d0 → cr_s a4 j = false) → c < n → wX_previous_15 post v0 v1 v2 v3 v4 v5 v6 v7 v8 v9 v10 v11 v12 v13 v14 v15 v16 v17 v18 v19 a1 a2 a3 a4 n (nI c - 1) := by
  intro n
  induction n with
  | zero => intro c _ _ h2; exact absurd h2 (by omega)
  | succ n ih =>
    intro c h1 hz hn
    cases c with
    | zero =>
      rw [show nI 0 - 1 = (-1 : Int32) from by decide]
      exact br_t (by decide) (br_f (by decide) (H1 (fun j g => hz j (by omega) g)))
    | succ d =>
      rw [nI_pred d]
      have one : cr_s a4 d = false → wX_previous_15 post v0 v1 v2 v3 v4 v5 v6 v7 v8 v9 v10 v11 v12 v13 v14 v15 v16 v17 v18 v19 a1 a2 a3 a4 n (nI d - 1) := fun hb => ih d (by omega) (fun j g1 g2 => by
        by_cases ej : j = d
        · rw [ej]; exact hb
        · exact hz j (by omega) g2) (by omega)
      refine br_f (nI_pos (by omega)) (cq_isIn (by omega) (fun hb => br_f (by decide) (br_t (nI_pos' (by omega)) (H2 d (by omega) hb (fun j g1 g2 => hz j (by omega) g2)))) (fun hb => br_t rfl ?_))
      rw [cr_q (show d < 2 ^ 31 by omega), cr_r (show d < 2 ^ 31 by omega), nI_clamp (show d / 64 < 2 ^ 31 by omega)]
      refine pk_eq (d % 64) 63 (fun y => ⟨pk_in (d / 64) 115 (by omega), br_c (fun c => nm_r (show nI d - 64 = nI (d - 63) - 1 from ?_) (ih (d - 63) (by omega) (fun j g1 g2 => ?_) (by omega))) (fun _ => nm_e (one hb))⟩) (fun _ => nm_e (one hb))
      · obtain ⟨k, rfl⟩ : ∃ k, d = k + 63 := ⟨d - 63, by omega⟩
        have e1 : nI (k + 63) = nI k + 63 := (nI_add k 63).symm
        rw [e1, show k + 63 - 63 = k by omega]
        grind
      · by_cases ej : d < j
        · exact hz j (by omega) g2
        · exact cq_z c (by omega)
theorem cq_lb_4 {post : Int32 → Prop} {w : Int64} (H : post (nI (cr_n (cr_b w) 64))) : ∀ n i, i ≤ 64 → 64 - i < n → wX_longBits_4 post w n (nI (cr_n (cr_b w) i)) (nI i)
  | 0, i, _, h2 => absurd h2 (by omega)
  | n + 1, i, h1, h2 => pk_le 64 i (fun z => by rw [show i = 64 by omega]; exact H) (fun z => nm_r (show _ = nI (cr_n (cr_b w) (i + 1)) by rw [cr_w_cnt w z, nI_add]; rfl) (nm_r (nI_1 i) (cq_lb_4 H n (i + 1) (by omega) (by omega))))
theorem cq_longBits {post : Int32 → Prop} {w : Int64} (H : post (nI (cr_n (cr_b w) 64))) : wpX_longBits post () w := Exists.intro 65 (cq_lb_4 H 65 0 (by omega) (by omega))
theorem cq_db_4 {post : Int32 → Prop} {v0 v1 v2 v3 v4 v5 v6 v7 v8 v9 v10 v11 v12 v13 v14 v15 v16 v17 v18 v19 : Int32} {a1 a2 a3 : Nat → Int32} {a4 : Nat → Int64} {d : Nat} (hd : d ≤ 7305) (H : post (nI (cr_n (cr_s a4) d))) : ∀ n i, i ≤ d / 64 → d / 64 - i < n → wX_daysBefore_4 post (nI d) v0 v1 v2 v3 v4 v5 v6 v7 v8 v9 v10 v11 v12 v13 v14 v15 v16 v17 v18 v19 a1 a2 a3 a4 n (nI (cr_n (cr_s a4) (64 * i))) (nI i) := by
  intro n
  induction n with
  | zero => intro i _ h2; exact absurd h2 (by omega)
  | succ n ih =>
    intro i h1 h2
    have hw := cr_n_w a4 i
    refine pk_le (d / 64) i (fun z => ?_) (fun z => ?_) (cr_q (by omega))
    · have ei : d / 64 = i := by omega
      have ed : 64 * i + d % 64 = d := by omega
      rw [cr_q (show d < 2 ^ 31 by omega), cr_r (show d < 2 ^ 31 by omega), nI_clamp (show d / 64 < 2 ^ 31 by omega), ei]
      refine pk_eq (d % 64) 0 (fun y => cq_longBits ?_) (fun y => ⟨pk_in i 115 (by omega), cq_longBits ?_⟩)
      · show post (nI (cr_n (cr_s a4) (64 * i)) + nI (cr_n (cr_b 0) 64))
        rw [cr_n_0, nI_add, Nat.add_zero, show 64 * i = d by omega]
        exact H
      · show post (nI (cr_n (cr_s a4) (64 * i)) + nI (cr_n (cr_b (a4 i &&& (((1 : Int64) <<< ((nI (d % 64)).toInt64 &&& 63)) - 1))) 64))
        rw [cr_n_lo (a4 i) (show d % 64 < 64 by omega), nI_add, ← hw (d % 64) (by omega), ed]
        exact H
    · rw [nI_clamp (show i < 2 ^ 31 by omega)]
      exact ⟨pk_in i 115 (by omega), cq_longBits (nm_r (show _ = nI (cr_n (cr_s a4) (64 * (i + 1))) by rw [nI_add, ← hw 64 (by omega)]; rfl) (nm_r (nI_1 i) (ih (i + 1) (by omega) (by omega))))⟩
theorem cq_daysBefore {post : Int32 → Prop} {v0 v1 v2 v3 v4 v5 v6 v7 v8 v9 v10 v11 v12 v13 v14 v15 v16 v17 v18 v19 : Int32} {a1 a2 a3 : Nat → Int32} {a4 : Nat → Int64} {x : Int32} {d : Nat} (hx : x = nI d) (hd : d ≤ 7305) (H : post (nI (cr_n (cr_s a4) d))) : wpX_daysBefore post (v0, v1, v2, v3, v4, v5, v6, v7, v8, v9, v10, v11, v12, v13, v14, v15, v16, v17, v18, v19, a1, a2, a3, a4) x := by
  rw [hx]
  exact Exists.intro (d / 64 + 1) (cq_db_4 hd H (d / 64 + 1) 0 (by omega) (by omega))
theorem cq_dw_5 {post : Int32 → Prop} {v0 v1 v2 v3 v4 v5 v6 v7 v8 v9 v10 v11 v12 v13 v14 v15 v16 v17 v18 v19 : Int32} {a1 a2 a3 : Nat → Int32} {a4 : Nat → Int64} {q k : Nat} (hq : q < 115) (hk : k < cr_n (cr_b (a4 q)) 64) (H : ∀ b, b < 64 → cr_b (a4 q) b = true → cr_n (cr_b (a4 q)) b = k → post (nI (64 * q + b))) : ∀ n b l, b ≤ 64 → l + cr_n (cr_b (a4 q)) b = k → 64 - b < n → wX_dayInWord_5 post (nI q) v0 v1 v2 v3 v4 v5 v6 v7 v8 v9 v10 v11 v12 v13 v14 v15 v16 v17 v18 v19 a1 a2 a3 a4 n (nI l) (nI b) := by
  have h64 := cr_n_le (cr_b (a4 q)) 64
  intro n
  induction n with
  | zero => intro b l _ _ h2; exact absurd h2 (by omega)
  | succ n ih =>
    intro b l h1 hl h2
    refine pk_le 64 b (fun z => ?_) (fun z => ?_)
    · rw [show b = 64 by omega] at hl
      exact absurd hk (by omega)
    · rw [nI_clamp (show q < 2 ^ 31 by omega)]
      refine ⟨pk_in q 115 hq, ek_if (cr_w_one (a4 q) z) (fun hb => pk_eq l 0 (fun y => ?_) (fun y => nm_r (sb_m1 (by omega)) (nm_r (nI_1 b) (ih (b + 1) (l - 1) (by omega) (by rw [cr_n_t hb]; omega) (by omega))))) (fun hb => nm_r (nI_1 b) (ih (b + 1) l (by omega) (by rw [cr_n_f (cq_nf hb)]; exact hl) (by omega)))⟩
      have e1 : nI q * 64 + nI b = nI (64 * q + b) := by
        rw [show nI q * 64 = nI (q * 64) from pk_mul q 64, nI_add, Nat.mul_comm]
      rw [e1]
      exact H b z hb (by omega)
theorem cq_dayInWord {post : Int32 → Prop} {v0 v1 v2 v3 v4 v5 v6 v7 v8 v9 v10 v11 v12 v13 v14 v15 v16 v17 v18 v19 : Int32} {a1 a2 a3 : Nat → Int32} {a4 : Nat → Int64} {q k : Nat} (hq : q < 115) (hk : k < cr_n (cr_b (a4 q)) 64) (H : ∀ b, b < 64 → cr_b (a4 q) b = true → cr_n (cr_b (a4 q)) b = k → post (nI (64 * q + b))) : wpX_dayInWord post (v0, v1, v2, v3, v4, v5, v6, v7, v8, v9, v10, v11, v12, v13, v14, v15, v16, v17, v18, v19, a1, a2, a3, a4) (nI q) (nI k) :=
  Exists.intro 65 (cq_dw_5 hq hk H 65 0 k (by omega) rfl (by omega))
theorem cq_nt_15 {post : Int32 → St1 → Prop} {v0 v1 v2 v3 v4 v5 v6 v7 v8 v9 v10 v11 v12 v13 v14 v15 v16 v17 v18 v19 : Int32} {a1 a2 a3 : Nat → Int32} {a4 : Nat → Int64} (hok : cr_ok a4) {k : Nat} (hk : k < 2 ^ 31) (H1 : cr_n (cr_s a4) 7305 ≤ k → post (-4) (v0, v1, v2, v3, v4, v5, v6, v7, v8, v9, v10, v11, v12, v13, v14, v15, v16, v17, v18, v19, a1, a2, a3, a4)) (H2 : ∀ m, m ≤ 7304 → cr_s a4 m = true → cr_n (cr_s a4) m = k → post (nI m) (v0, v1, v2, v3, v4, v5, v6, v7, v8, v9, v10, v11, v12, v13, v14, v15, v16, v17, v18, v19, a1, a2, a3, a4)) : ∀ n i l, i ≤ 115 → l + cr_n (cr_s a4) (64 * i) = k → 115 - i < n → wX_nth_15 post v0 v1 v2 v3 v4 v5 v6 v7 v8 v9 v10 v11 v12 v13 v14 v15 v16 v17 v18 v19 a1 a2 a3 a4 n (nI l) (nI i) := by
  intro n
  induction n with
  | zero => intro i l _ _ h2; exact absurd h2 (by omega)
  | succ n ih =>
    intro i l h1 hl h2
    have hw := cr_n_w a4 i
    have h64 := cr_n_le (cr_b (a4 i)) 64
    refine pk_le 115 i (fun z => H1 ?_) (fun z => ?_)
    · rw [show i = 115 by omega] at hl
      have := cr_ok_n hok
      have e2 : cr_n (cr_s a4) (64 * 115) = cr_n (cr_s a4) 7360 := rfl
      omega
    · rw [nI_clamp (show i < 2 ^ 31 by omega)]
      refine ⟨pk_in i 115 z, cq_longBits (pk_le (cr_n (cr_b (a4 i)) 64) l (fun y => nm_r (pk_sub y) (nm_r (nI_1 i) (ih (i + 1) _ (by omega) ?_ (by omega)))) (fun y => cq_dayInWord z y (fun b hb e1 e2 => ?_)))⟩
      · have e1 := hw 64 (by omega)
        rw [show 64 * (i + 1) = 64 * i + 64 by omega, e1]
        omega
      · have e3 : cr_s a4 (64 * i + b) = true := by
          unfold cr_s
          rw [show (64 * i + b) / 64 = i by omega, show (64 * i + b) % 64 = b by omega]
          exact e1
        refine H2 (64 * i + b) ?_ e3 (by rw [hw b (by omega)]; omega)
        rcases Nat.lt_or_ge (64 * i + b) 7305 with y2 | y2
        · omega
        · rw [hok _ y2 (by omega)] at e3
          exact absurd e3 (by decide)
section
variable {ex : Nat} {d1 d2 : Nat → Int32} {D : Nat → Nat}
theorem cq_next {post : Int32 → St1 → Prop} {v0 v1 v2 v3 v4 v5 v6 v7 v8 v9 v10 v11 v12 v13 v14 v15 v16 v17 v18 v19 : Int32} {a1 a2 a3 : Nat → Int32} {a4 : Nat → Int64} (hp : cr_P ex d1 d2 D (v0, v1, v2, v3, v4, v5, v6, v7, v8, v9, v10, v11, v12, v13, v14, v15, v16, v17, v18, v19, a1, a2, a3, a4)) {d : Nat} (hd : d ≤ 7304) (H1 : (∀ j, d ≤ j → j ≤ 7304 → cr_s a4 j = false) → post (-4) (v0, v1, v2, v3, v4, v5, v6, v7, v8, v9, v10, v11, v12, v13, v14, v15, v16, v17, v18, v19, a1, a2, a3, a4)) (H2 : ∀ m, d ≤ m → m ≤ 7304 → cr_s a4 m = true → (∀ j, d ≤ j → j < m → cr_s a4 j = false) → post (nI m) (v0, v1, v2, v3, v4, v5, v6, v7, v8, v9, v10, v11, v12, v13, v14, v15, v16, v17, v18, v19, a1, a2, a3, a4)) : wpX_next post (v0, v1, v2, v3, v4, v5, v6, v7, v8, v9, v10, v11, v12, v13, v14, v15, v16, v17, v18, v19, a1, a2, a3, a4) (nI d) := by
  unfold wpX_next
  exact ca_badDay hd (br_t rfl (cs_prepared hp (Exists.intro 7369 (cq_nx_15 H1 H2 7369 d (by omega) (by omega) (fun j g1 g2 => absurd g1 (by omega)) (by omega)))))
theorem cq_next_I {post : Int32 → St1 → Prop} {u : St1} (hX : cr_X ex d1 d2 D) (hi : cr_I ex d1 d2 D u) {d : Nat} (hd : d ≤ 7304) (H1 : ∀ {v0 v1 v2 v3 v4 v5 v6 v7 v8 v9 v10 v11 v12 v13 v14 v15 v16 v17 v18 v19 : Int32} {a1 a2 a3 : Nat → Int32} {a4 : Nat → Int64}, cr_P ex d1 d2 D (v0, v1, v2, v3, v4, v5, v6, v7, v8, v9, v10, v11, v12, v13, v14, v15, v16, v17, v18, v19, a1, a2, a3, a4) → (∀ j, d ≤ j → j ≤ 7304 → cr_s a4 j = false) → post (-4) (v0, v1, v2, v3, v4, v5, v6, v7, v8, v9, v10, v11, v12, v13, v14, v15, v16, v17, v18, v19, a1, a2, a3, a4)) (H2 : ∀ {v0 v1 v2 v3 v4 v5 v6 v7 v8 v9 v10 v11 v12 v13 v14 v15 v16 v17 v18 v19 : Int32} {a1 a2 a3 : Nat → Int32} {a4 : Nat → Int64}, cr_P ex d1 d2 D (v0, v1, v2, v3, v4, v5, v6, v7, v8, v9, v10, v11, v12, v13, v14, v15, v16, v17, v18, v19, a1, a2, a3, a4) → ∀ m, d ≤ m → m ≤ 7304 → cr_s a4 m = true → (∀ j, d ≤ j → j < m → cr_s a4 j = false) → post (nI m) (v0, v1, v2, v3, v4, v5, v6, v7, v8, v9, v10, v11, v12, v13, v14, v15, v16, v17, v18, v19, a1, a2, a3, a4)) : wpX_next post u (nI d) := by
  obtain ⟨v0, v1, v2, v3, v4, v5, v6, v7, v8, v9, v10, v11, v12, v13, v14, v15, v16, v17, v18, v19, a1, a2, a3, a4⟩ := u
  unfold wpX_next
  exact ca_badDay hd (br_t rfl (cs_prepare hX hi (fun hp => Exists.intro 7369 (cq_nx_15 (H1 hp) (H2 hp) 7369 d (by omega) (by omega) (fun j g1 g2 => absurd g1 (by omega)) (by omega)))))
theorem cq_previous {post : Int32 → St1 → Prop} {v0 v1 v2 v3 v4 v5 v6 v7 v8 v9 v10 v11 v12 v13 v14 v15 v16 v17 v18 v19 : Int32} {a1 a2 a3 : Nat → Int32} {a4 : Nat → Int64} (hp : cr_P ex d1 d2 D (v0, v1, v2, v3, v4, v5, v6, v7, v8, v9, v10, v11, v12, v13, v14, v15, v16, v17, v18, v19, a1, a2, a3, a4)) {d : Nat} (hd : d ≤ 7304) (H1 : (∀ j, j ≤ d → cr_s a4 j = false) → post (-4) (v0, v1, v2, v3, v4, v5, v6, v7, v8, v9, v10, v11, v12, v13, v14, v15, v16, v17, v18, v19, a1, a2, a3, a4)) (H2 : ∀ m, m ≤ d → cr_s a4 m = true → (∀ j, m < j → j ≤ d → cr_s a4 j = false) → post (nI m) (v0, v1, v2, v3, v4, v5, v6, v7, v8, v9, v10, v11, v12, v13, v14, v15, v16, v17, v18, v19, a1, a2, a3, a4)) : wpX_previous post (v0, v1, v2, v3, v4, v5, v6, v7, v8, v9, v10, v11, v12, v13, v14, v15, v16, v17, v18, v19, a1, a2, a3, a4) (nI d) := by
  unfold wpX_previous
  refine ca_badDay hd (br_t rfl (cs_prepared hp (Exists.intro (d + 2) ?_)))
  have := cq_pv_15 (post := post) hd H1 H2 (d + 2) (d + 1) (by omega) (fun j g1 g2 => absurd g1 (by omega)) (by omega)
  rw [nI_pred d] at this
  exact this
theorem cq_occurs {post : Int32 → St1 → Prop} {v0 v1 v2 v3 v4 v5 v6 v7 v8 v9 v10 v11 v12 v13 v14 v15 v16 v17 v18 v19 : Int32} {a1 a2 a3 : Nat → Int32} {a4 : Nat → Int64} (hp : cr_P ex d1 d2 D (v0, v1, v2, v3, v4, v5, v6, v7, v8, v9, v10, v11, v12, v13, v14, v15, v16, v17, v18, v19, a1, a2, a3, a4)) {d : Nat} (hd : d ≤ 7304) (H1 : cr_s a4 d = true → post 1 (v0, v1, v2, v3, v4, v5, v6, v7, v8, v9, v10, v11, v12, v13, v14, v15, v16, v17, v18, v19, a1, a2, a3, a4)) (H0 : cr_s a4 d = false → post 0 (v0, v1, v2, v3, v4, v5, v6, v7, v8, v9, v10, v11, v12, v13, v14, v15, v16, v17, v18, v19, a1, a2, a3, a4)) : wpX_occurs post (v0, v1, v2, v3, v4, v5, v6, v7, v8, v9, v10, v11, v12, v13, v14, v15, v16, v17, v18, v19, a1, a2, a3, a4) (nI d) := by
  unfold wpX_occurs
  exact ca_badDay hd (br_t rfl (cs_prepared hp (cq_isIn (by omega) (fun h => And.intro (by rfl) (H1 h)) (fun h => And.intro (by rfl) (H0 h)))))
theorem cq_between {post : Int32 → St1 → Prop} {v0 v1 v2 v3 v4 v5 v6 v7 v8 v9 v10 v11 v12 v13 v14 v15 v16 v17 v18 v19 : Int32} {a1 a2 a3 : Nat → Int32} {a4 : Nat → Int64} (hp : cr_P ex d1 d2 D (v0, v1, v2, v3, v4, v5, v6, v7, v8, v9, v10, v11, v12, v13, v14, v15, v16, v17, v18, v19, a1, a2, a3, a4)) {a b : Nat} (hab : a ≤ b) (hb : b ≤ 7304) (H : post (nI (cr_n (cr_s a4) (b + 1) - cr_n (cr_s a4) a)) (v0, v1, v2, v3, v4, v5, v6, v7, v8, v9, v10, v11, v12, v13, v14, v15, v16, v17, v18, v19, a1, a2, a3, a4)) : wpX_between post (v0, v1, v2, v3, v4, v5, v6, v7, v8, v9, v10, v11, v12, v13, v14, v15, v16, v17, v18, v19, a1, a2, a3, a4) (nI a) (nI b) := by
  unfold wpX_between
  refine ca_badDay (by omega) (br_t rfl (ca_badDay hb (br_t rfl (pk_le a b (fun _ => cs_prepared hp (cq_daysBefore rfl (by omega) (cq_daysBefore (nI_1 b) (by omega) ?_))) (fun z => absurd z (by omega))))))
  have e1 := pk_sub (cr_n_mono (cr_s a4) (show a ≤ b + 1 by omega))
  rw [← e1] at H
  exact H
theorem cq_nth {post : Int32 → St1 → Prop} {v0 v1 v2 v3 v4 v5 v6 v7 v8 v9 v10 v11 v12 v13 v14 v15 v16 v17 v18 v19 : Int32} {a1 a2 a3 : Nat → Int32} {a4 : Nat → Int64} (hp : cr_P ex d1 d2 D (v0, v1, v2, v3, v4, v5, v6, v7, v8, v9, v10, v11, v12, v13, v14, v15, v16, v17, v18, v19, a1, a2, a3, a4)) {k : Nat} (hk : k < 2 ^ 31) (H1 : cr_n (cr_s a4) 7305 ≤ k → post (-4) (v0, v1, v2, v3, v4, v5, v6, v7, v8, v9, v10, v11, v12, v13, v14, v15, v16, v17, v18, v19, a1, a2, a3, a4)) (H2 : ∀ m, m ≤ 7304 → cr_s a4 m = true → cr_n (cr_s a4) m = k → post (nI m) (v0, v1, v2, v3, v4, v5, v6, v7, v8, v9, v10, v11, v12, v13, v14, v15, v16, v17, v18, v19, a1, a2, a3, a4)) : wpX_nth post (v0, v1, v2, v3, v4, v5, v6, v7, v8, v9, v10, v11, v12, v13, v14, v15, v16, v17, v18, v19, a1, a2, a3, a4) (nI k) :=
  br_t (nI_pos' hk) (cs_prepared hp (Exists.intro 116 (cq_nt_15 (cr_P_ok hp) hk H1 H2 116 0 k (by omega) rfl (by omega))))
end
end
section
theorem cw_ne {m : Nat} (h : m ≤ 7304) : ¬ nI m = -4 := fun z => by
  have e := congrArg Int32.toInt z
  rw [nI_toInt (by omega), show (-4 : Int32).toInt = -4 from by decide] at e
  omega
theorem cw_tf {b : Bool} {P : Prop} (h1 : b = true) (h0 : b = false) : P := by
  rw [h1] at h0
  exact absurd h0 (by decide)
section
variable {ex : Nat} {d1 d2 : Nat → Int32} {D : Nat → Nat}
theorem cw_step {post : Int32 → St1 → Prop} (hX : cr_X ex d1 d2 D) (H : ∀ {v0 v1 v2 v3 v4 v5 v6 v7 v8 v9 v10 v11 v12 v13 v14 v15 v16 v17 v18 v19 : Int32} {a1 a2 a3 : Nat → Int32} {a4 : Nat → Int64}, cr_P ex d1 d2 D (v0, v1, v2, v3, v4, v5, v6, v7, v8, v9, v10, v11, v12, v13, v14, v15, v16, v17, v18, v19, a1, a2, a3, a4) → post 1 (v0, v1, v2, v3, v4, v5, v6, v7, v8, v9, v10, v11, v12, v13, v14, v15, v16, v17, v18, v19, a1, a2, a3, a4)) {v0 v1 v2 v3 v4 v5 v6 v7 v8 v9 v10 v11 v12 v13 v14 v15 v16 v17 v18 v19 : Int32} {a1 a2 a3 : Nat → Int32} {a4 : Nat → Int64} (hi : cr_I ex d1 d2 D (v0, v1, v2, v3, v4, v5, v6, v7, v8, v9, v10, v11, v12, v13, v14, v15, v16, v17, v18, v19, a1, a2, a3, a4)) {n k d : Nat} (hk : k < 3) (hd : d ≤ 7304) (C : ∀ {v0 v1 v2 v3 v4 v5 v6 v7 v8 v9 v10 v11 v12 v13 v14 v15 v16 v17 v18 v19 : Int32} {a1 a2 a3 : Nat → Int32} {a4 : Nat → Int64} (d' : Nat), d' ≤ 7305 → cr_P ex d1 d2 D (v0, v1, v2, v3, v4, v5, v6, v7, v8, v9, v10, v11, v12, v13, v14, v15, v16, v17, v18, v19, a1, a2, a3, a4) → wL_walks_5 post 3 n (nI d') (nI (k + 1)) v0 v1 v2 v3 v4 v5 v6 v7 v8 v9 v10 v11 v12 v13 v14 v15 v16 v17 v18 v19 a1 a2 a3 a4) : wL_walks_5 post 3 (n + 1) (nI d) (nI k) v0 v1 v2 v3 v4 v5 v6 v7 v8 v9 v10 v11 v12 v13 v14 v15 v16 v17 v18 v19 a1 a2 a3 a4 := by
  refine pk_le 3 k (fun z => absurd z (by omega)) (fun _ => br_f (nI_pos (by omega)) (pk_lt 7304 d (fun z => absurd z (by omega)) (fun _ => cq_next_I hX hi hd ?_ ?_)))
  · intro w0 w1 w2 w3 w4 w5 w6 w7 w8 w9 w10 w11 w12 w13 w14 w15 w16 w17 w18 w19 b1 b2 b3 b4 hp hz
    refine br_t rfl (cq_between (b := 7304) hp hd (by omega) (br_t ?_ (cq_occurs hp hd (fun y => cw_tf y (hz d (by omega) hd)) (fun _ => br_t rfl (cq_occurs (d := 7304) hp (by omega) (fun y => cw_tf y (hz 7304 hd (by omega))) (fun _ => br_t rfl (H hp)))))))
    have e1 : cr_n (cr_s b4) (7304 + 1) = cr_n (cr_s b4) d := cr_n_flat (by omega) (fun j g1 g2 => hz j g1 (by omega))
    rw [e1, Nat.sub_self]
    rfl
  · intro w0 w1 w2 w3 w4 w5 w6 w7 w8 w9 w10 w11 w12 w13 w14 w15 w16 w17 w18 w19 b1 b2 b3 b4 hp m h1 h2 hm hz
    have e1 : cr_n (cr_s b4) m = cr_n (cr_s b4) d := cr_n_flat h1 hz
    have e2 := cr_n_t hm
    refine br_f (cw_ne h2) (pk_lt m d (fun z => absurd z (by omega)) (fun _ => pk_lt 7304 m (fun z => absurd z (by omega)) (fun _ => cq_occurs hp h2 (fun _ => br_f (by decide) (cq_previous hp h2 (fun y => cw_tf hm (y m (by omega))) (fun m' g1 g2 g3 => ?_))) (fun y => cw_tf hm y))))
    have em : m' = m := by
      rcases Nat.lt_or_ge m' m with y | y
      · exact cw_tf hm (g3 m y (by omega))
      · omega
    subst em
    refine br_t rfl (cq_between hp h1 h2 (br_t ?_ (pk_le m' d (fun z => nm_r (nI_1 m') (nm_r (nI_1 k) (C (m' + 1) (by omega) hp))) (fun z => cq_occurs hp hd (fun y => cw_tf y (hz d (by omega) z)) (fun _ => br_t rfl ?_)))))
    · rw [show cr_n (cr_s b4) (m' + 1) - cr_n (cr_s b4) d = 1 by omega]
      rfl
    · obtain ⟨q, rfl⟩ : ∃ q, m' = q + 1 := ⟨m' - 1, by omega⟩
      rw [nI_pred q]
      refine cq_occurs hp (by omega) (fun y => cw_tf y (hz q (by omega) (by omega))) (fun _ => br_t rfl (cq_between hp (by omega) (by omega) (br_t ?_ (nm_r (nI_1 (q + 1)) (nm_r (nI_1 k) (C (q + 1 + 1) (by omega) hp))))))
      rw [e1, Nat.sub_self]
      rfl
theorem cw_loop {post : Int32 → St1 → Prop} (hX : cr_X ex d1 d2 D) (H : ∀ {v0 v1 v2 v3 v4 v5 v6 v7 v8 v9 v10 v11 v12 v13 v14 v15 v16 v17 v18 v19 : Int32} {a1 a2 a3 : Nat → Int32} {a4 : Nat → Int64}, cr_P ex d1 d2 D (v0, v1, v2, v3, v4, v5, v6, v7, v8, v9, v10, v11, v12, v13, v14, v15, v16, v17, v18, v19, a1, a2, a3, a4) → post 1 (v0, v1, v2, v3, v4, v5, v6, v7, v8, v9, v10, v11, v12, v13, v14, v15, v16, v17, v18, v19, a1, a2, a3, a4)) : ∀ (n k d : Nat) {v0 v1 v2 v3 v4 v5 v6 v7 v8 v9 v10 v11 v12 v13 v14 v15 v16 v17 v18 v19 : Int32} {a1 a2 a3 : Nat → Int32} {a4 : Nat → Int64}, cr_P ex d1 d2 D (v0, v1, v2, v3, v4, v5, v6, v7, v8, v9, v10, v11, v12, v13, v14, v15, v16, v17, v18, v19, a1, a2, a3, a4) → d ≤ 7305 → k ≤ 3 → 3 - k < n → wL_walks_5 post 3 n (nI d) (nI k) v0 v1 v2 v3 v4 v5 v6 v7 v8 v9 v10 v11 v12 v13 v14 v15 v16 v17 v18 v19 a1 a2 a3 a4 := by
  intro n
  induction n with
  | zero => intro k d v0 v1 v2 v3 v4 v5 v6 v7 v8 v9 v10 v11 v12 v13 v14 v15 v16 v17 v18 v19 a1 a2 a3 a4 hp hd hk hn; exact absurd hn (by omega)
  | succ n ih =>
    intro k d v0 v1 v2 v3 v4 v5 v6 v7 v8 v9 v10 v11 v12 v13 v14 v15 v16 v17 v18 v19 a1 a2 a3 a4 hp hd hk hn
    by_cases ek : k = 3
    · exact br_t (by rw [ek]; decide) (H hp)
    · by_cases ed : d = 7305
      · exact br_f (nI_ge (b := 3) (by omega) (by decide)) (br_f (nI_pos (by omega)) (br_t (by rw [ed]; decide) (H hp)))
      · exact cw_step hX H (cr_P_of hp).1 (by omega) (by omega) (fun d' hd' hp' => ih (k + 1) d' hp' hd' (by omega) (by omega))
theorem cw_walks {post : Int32 → St1 → Prop} {u : St1} {d : Nat} (hX : cr_X ex d1 d2 D) (hi : cr_I ex d1 d2 D u) (hd : d ≤ 7304) (H : ∀ {v0 v1 v2 v3 v4 v5 v6 v7 v8 v9 v10 v11 v12 v13 v14 v15 v16 v17 v18 v19 : Int32} {a1 a2 a3 : Nat → Int32} {a4 : Nat → Int64}, cr_P ex d1 d2 D (v0, v1, v2, v3, v4, v5, v6, v7, v8, v9, v10, v11, v12, v13, v14, v15, v16, v17, v18, v19, a1, a2, a3, a4) → post 1 (v0, v1, v2, v3, v4, v5, v6, v7, v8, v9, v10, v11, v12, v13, v14, v15, v16, v17, v18, v19, a1, a2, a3, a4)) : wpL_walks post u (nI d) 3 := by
  obtain ⟨v0, v1, v2, v3, v4, v5, v6, v7, v8, v9, v10, v11, v12, v13, v14, v15, v16, v17, v18, v19, a1, a2, a3, a4⟩ := u
  exact Exists.intro 5 (cw_step (k := 0) hX H hi (by omega) hd (fun d' hd' hp => cw_loop hX H 4 1 d' hp hd' (by omega) (by omega)))
end
end
section
section
variable {ex : Nat} {d1 d2 : Nat → Int32} {D : Nat → Nat}
theorem cl_155 {post : Int32 → St1 → Prop} {x4 : Int32} {b N low M : Nat} {v0 v1 v2 v3 v4 v5 v6 v7 v8 v9 v10 v11 v12 v13 v14 v15 v16 v17 v18 v19 : Int32} {a1 a2 a3 : Nat → Int32} {a4 : Nat → Int64} (hN : N ≤ 7305) (hM : M ≤ 7305) (h1 : N ≤ 40 → M = low) (h2 : low ≤ M) (h3 : 40 < N → ¬ x4 < nI b → M = low) (H : post 1 (v0, v1, v2, v3, v4, v5, v6, v7, v8, v9, v10, v11, v12, v13, v14, v15, v16, v17, v18, v19, a1, a2, a3, a4)) : wL_lists_155 post (nI b) (nI N) x4 (nI low) (nI M) v0 v1 v2 v3 v4 v5 v6 v7 v8 v9 v10 v11 v12 v13 v14 v15 v16 v17 v18 v19 a1 a2 a3 a4 :=
  pk_le N 40 (fun z => br_t (by rw [h1 z]) H) (fun z => pk_lt M low (fun y => absurd y (by omega)) (fun _ => br_c (fun _ => H) (fun y => br_t (by rw [h3 z y]) H)))
theorem cl_110 {post : Int32 → St1 → Prop} {x4 : Int32} {b N low M : Nat} {v0 v1 v2 v3 v4 v5 v6 v7 v8 v9 v10 v11 v12 v13 v14 v15 v16 v17 v18 v19 : Int32} {a1 a2 a3 : Nat → Int32} {a4 : Nat → Int64} (hp : cr_P ex d1 d2 D (v0, v1, v2, v3, v4, v5, v6, v7, v8, v9, v10, v11, v12, v13, v14, v15, v16, v17, v18, v19, a1, a2, a3, a4)) (eN : cr_n (cr_s a4) 7305 = N) (hM : M ≤ 7305) (h1 : N ≤ 40 → M = low) (h2 : low ≤ M) (h3 : 40 < N → ¬ x4 < nI b → M = low) (H : post 1 (v0, v1, v2, v3, v4, v5, v6, v7, v8, v9, v10, v11, v12, v13, v14, v15, v16, v17, v18, v19, a1, a2, a3, a4)) : wL_lists_110 post (nI b) (nI N) x4 (nI low) (nI M) v0 v1 v2 v3 v4 v5 v6 v7 v8 v9 v10 v11 v12 v13 v14 v15 v16 v17 v18 v19 a1 a2 a3 a4 := by
  have hN : N ≤ 7305 := by rw [← eN]; exact cr_n_le _ _
  refine cq_nth hp (by omega) (fun _ => br_t rfl ?_) (fun m g1 g2 g3 => ?_)
  · refine br_f (by decide) (br_t rfl (pk_le N 0 (fun _ => cl_155 hN hM h1 h2 h3 H) (fun z => ?_)))
    obtain ⟨q, rfl⟩ : ∃ q, N = q + 1 := ⟨N - 1, by omega⟩
    rw [nI_pred q]
    refine cq_previous (d := 7304) hp (by omega) (fun y => ?_) (fun m g1 g2 g3 => cq_nth hp (by omega) (fun y => absurd y (by omega)) (fun m' f1 f2 f3 => br_t ?_ (cl_155 hN hM h1 h2 h3 H)))
    · have e1 := cr_n_flat (S := cr_s a4) (Nat.zero_le 7305) (fun j _ g => y j (by omega))
      have e2 : cr_n (cr_s a4) 0 = 0 := rfl
      exact absurd eN (by omega)
    · have em : m = m' := by
        rcases Nat.lt_trichotomy m m' with y | y | y
        · exact cw_tf f2 (g3 m' y f1)
        · exact y
        · have e1 := cr_n_lt (show m' + 1 ≤ m from y) (show m < 7305 by omega) g2
          rw [cr_n_t f2] at e1
          omega
      rw [em]
  · have e1 := cr_n_lt (Nat.le_refl m) (show m < 7305 by omega) g2
    exact absurd e1 (by omega)
theorem cl_95 {post : Int32 → St1 → Prop} {x4 : Int32} {a b N low : Nat} {v0 v1 v2 v3 v4 v5 v6 v7 v8 v9 v10 v11 v12 v13 v14 v15 v16 v17 v18 v19 : Int32} {a1 a2 a3 : Nat → Int32} {a4 : Nat → Int64} (hp : cr_P ex d1 d2 D (v0, v1, v2, v3, v4, v5, v6, v7, v8, v9, v10, v11, v12, v13, v14, v15, v16, v17, v18, v19, a1, a2, a3, a4)) (ha : a ≤ 7304) (hb : b ≤ 7304) (eN : cr_n (cr_s a4) 7305 = N) (h1 : N ≤ 40 → cr_n (cr_t (cr_s a4) a b) 7305 = low) (h2 : low ≤ cr_n (cr_t (cr_s a4) a b) 7305) (h3 : 40 < N → ¬ x4 < nI b → cr_n (cr_t (cr_s a4) a b) 7305 = low) (H : post 1 (v0, v1, v2, v3, v4, v5, v6, v7, v8, v9, v10, v11, v12, v13, v14, v15, v16, v17, v18, v19, a1, a2, a3, a4)) : wL_lists_95 post (nI a) (nI b) (nI N) x4 (nI low) v0 v1 v2 v3 v4 v5 v6 v7 v8 v9 v10 v11 v12 v13 v14 v15 v16 v17 v18 v19 a1 a2 a3 a4 := by
  have hM := cr_n_le (cr_t (cr_s a4) a b) 7305
  refine pk_le a b (fun z => cq_between hp z hb ?_) (fun z => ?_)
  · have e1 : cr_n (cr_t (cr_s a4) a b) 7305 = _ := cr_t_n (show b < 7305 by omega) z
    rw [← e1]
    exact cl_110 hp eN hM h1 h2 h3 H
  · have e1 : cr_n (cr_t (cr_s a4) a b) 7305 = 0 := cr_t_0 z
    have e2 := cl_110 (post := post) hp eN hM h1 h2 h3 H
    rw [e1] at e2
    exact e2
theorem cl_18 {post : Int32 → St1 → Prop} {a b N : Nat} {v0 v1 v2 v3 v4 v5 v6 v7 v8 v9 v10 v11 v12 v13 v14 v15 v16 v17 v18 v19 : Int32} {a1 a2 a3 : Nat → Int32} {a4 : Nat → Int64} (hp : cr_P ex d1 d2 D (v0, v1, v2, v3, v4, v5, v6, v7, v8, v9, v10, v11, v12, v13, v14, v15, v16, v17, v18, v19, a1, a2, a3, a4)) (ha : a ≤ 7304) (hb : b ≤ 7304) (eN : cr_n (cr_s a4) 7305 = N) (H : post 1 (v0, v1, v2, v3, v4, v5, v6, v7, v8, v9, v10, v11, v12, v13, v14, v15, v16, v17, v18, v19, a1, a2, a3, a4)) : ∀ n k c, k ≤ 40 → k ≤ N → c ≤ 7305 → cr_n (cr_s a4) c = k → 40 - k < n → wL_lists_18 post (nI a) (nI b) (nI N) n (nI c - 1) (nI (cr_n (cr_t (cr_s a4) a b) c)) (nI k) v0 v1 v2 v3 v4 v5 v6 v7 v8 v9 v10 v11 v12 v13 v14 v15 v16 v17 v18 v19 a1 a2 a3 a4 := by
  have hN : N ≤ 7305 := by rw [← eN]; exact cr_n_le _ _
  intro n
  induction n with
  | zero => intro k c _ _ _ _ hn; exact absurd hn (by omega)
  | succ n ih =>
    intro k c hk hkN hc ec hn
    have hlow := cr_n_le (cr_t (cr_s a4) a b) c
    have fin : (40 ≤ k ∨ N ≤ k) → wL_lists_95 post (nI a) (nI b) (nI N) (nI c - 1) (nI (cr_n (cr_t (cr_s a4) a b) c)) v0 v1 v2 v3 v4 v5 v6 v7 v8 v9 v10 v11 v12 v13 v14 v15 v16 v17 v18 v19 a1 a2 a3 a4 := fun hf => by
      refine cl_95 hp ha hb eN (fun z => ?_) (cr_n_mono _ hc) (fun z y => ?_) H
      · have e1 := cr_n_none (S := cr_s a4) (a := c) (b := 7305) (by omega)
        exact cr_n_flat hc (fun j g1 g2 => cr_t_f (Or.inl (e1 j g1 g2)))
      · have y1 := ir_nlt y
        rw [nI_toInt (by omega), show (1 : Int32) = nI 1 from rfl, pk_sub_toInt (by omega) (by omega)] at y1
        exact cr_n_flat hc (fun j g1 g2 => cr_t_f (Or.inr (Or.inr (by omega))))
    refine pk_le 40 k (fun z => fin (Or.inl z)) (fun z => pk_le N k (fun y => fin (Or.inr y)) (fun y => cq_nth hp (by omega) (fun x => absurd x (by omega)) (fun m h1 hm em => ?_)))
    have hcm : c ≤ m := by
      rcases Nat.lt_or_ge m c with x | x
      · have e1 := cr_n_lt (Nat.le_refl m) x hm
        omega
      · exact x
    have hfl := cr_n_none (S := cr_s a4) (a := c) (b := m) (by omega)
    have eT : cr_n (cr_t (cr_s a4) a b) m = cr_n (cr_t (cr_s a4) a b) c := cr_n_flat hcm (fun j g1 g2 => cr_t_f (Or.inl (hfl j g1 g2)))
    have go := ih (k + 1) (m + 1) (by omega) (by omega) (by omega) (by rw [cr_n_t hm, em]) (by omega)
    rw [nI_pred m] at go
    refine br_f (fun x => ?_) (cq_occurs hp h1 (fun _ => br_f (by decide) ?_) (fun x => cw_tf hm x))
    · have x1 := Int32.le_iff_toInt_le.mp x
      rw [nI_toInt (by omega), show (1 : Int32) = nI 1 from rfl, pk_sub_toInt (by omega) (by omega)] at x1
      omega
    · rw [show nI c - 1 + 1 = nI c from by grind]
      refine cq_next hp (by omega) (fun x => cw_tf hm (x m hcm h1)) (fun m' g1 g2 g3 g4 => br_t ?_ (pk_lt m a (fun x => nm_r (nI_1 k) ?_) (fun x => pk_lt b m (fun x2 => nm_r (nI_1 k) ?_) (fun x2 => nm_r (nI_1 _) (nm_r (nI_1 k) ?_)))))
      · have e1 : m' = m := by
          rcases Nat.lt_trichotomy m' m with x | x | x
          · exact cw_tf g3 (hfl m' g1 x)
          · exact x
          · exact cw_tf hm (g4 m hcm x)
        rw [e1]
      · rw [cr_n_f (cr_t_f (Or.inr (Or.inl x))), eT] at go
        exact go
      · rw [cr_n_f (cr_t_f (Or.inr (Or.inr x2))), eT] at go
        exact go
      · rw [cr_n_t (cr_t_t hm x x2), eT] at go
        exact go
theorem cl_lists {post : Int32 → St1 → Prop} {a b : Nat} {v0 v1 v2 v3 v4 v5 v6 v7 v8 v9 v10 v11 v12 v13 v14 v15 v16 v17 v18 v19 : Int32} {a1 a2 a3 : Nat → Int32} {a4 : Nat → Int64} (hp : cr_P ex d1 d2 D (v0, v1, v2, v3, v4, v5, v6, v7, v8, v9, v10, v11, v12, v13, v14, v15, v16, v17, v18, v19, a1, a2, a3, a4)) (ha : a ≤ 7304) (hb : b ≤ 7304) (H : post 1 (v0, v1, v2, v3, v4, v5, v6, v7, v8, v9, v10, v11, v12, v13, v14, v15, v16, v17, v18, v19, a1, a2, a3, a4)) : wpL_lists post (v0, v1, v2, v3, v4, v5, v6, v7, v8, v9, v10, v11, v12, v13, v14, v15, v16, v17, v18, v19, a1, a2, a3, a4) (nI a) (nI b) := by
  unfold wpL_lists
  refine cq_between (a := 0) (b := 7304) hp (by omega) (by omega) (Exists.intro 41 ?_)
  have e1 : cr_n (cr_s a4) 0 = 0 := rfl
  rw [e1, Nat.sub_zero]
  exact cl_18 hp ha hb rfl H 41 0 0 (by omega) (by omega) (by omega) rfl (by omega)
end
end
section
theorem cz_16 {v : Nat} (h : v < 1048576) : (nI v >>> ((4 : Int32) &&& 31)) - (nI v >>> ((4 : Int32) &&& 31)) / 7305 * 7305 = nI (v / 16 % 7305) := by
  rw [pk_shrN (by omega) _ 4 (by decide)]
  exact pk_rem (d := 7305) (by omega) (by decide) (by decide)
theorem cz_8 {v : Nat} (h : v < 1048576) : (nI v >>> ((3 : Int32) &&& 31)) - (nI v >>> ((3 : Int32) &&& 31)) / 7305 * 7305 = nI (v / 8 % 7305) := by
  rw [pk_shrN (by omega) _ 3 (by decide)]
  exact pk_rem (d := 7305) (by omega) (by decide) (by decide)
theorem cz_64 {v : Nat} (h : v < 1048576) : (nI v >>> ((6 : Int32) &&& 31)) - (nI v >>> ((6 : Int32) &&& 31)) / 7305 * 7305 = nI (v / 64 % 7305) := by
  rw [pk_shrN (by omega) _ 6 (by decide)]
  exact pk_rem (d := 7305) (by omega) (by decide) (by decide)
theorem cz_2 {v : Nat} (h : v < 1048576) : (nI v >>> ((1 : Int32) &&& 31)) - (nI v >>> ((1 : Int32) &&& 31)) / 7305 * 7305 = nI (v / 2 % 7305) := by
  rw [pk_shrN (by omega) _ 1 (by decide)]
  exact pk_rem (d := 7305) (by omega) (by decide) (by decide)
theorem cz_3000 {v : Nat} (h : v < 1048576) : nI v - nI v / 3000 * 3000 = nI (v % 3000) := pk_rem (d := 3000) (by omega) (by decide) (by decide)
theorem cz_4 {v : Nat} (h : v < 1048576) : 1 + ((nI v >>> ((2 : Int32) &&& 31)) - (nI v >>> ((2 : Int32) &&& 31)) / 4 * 4) = nI (1 + v / 4 % 4) := by
  rw [pk_shrN (by omega) _ 2 (by decide), show nI (v / 2 ^ 2) - nI (v / 2 ^ 2) / 4 * 4 = nI (v / 2 ^ 2 % 4) from pk_rem (d := 4) (by omega) (by decide) (by decide)]
  exact nI_add 1 (v / 4 % 4)
theorem cz_5000 {v : Nat} (h : v < 1048576) : 7304 - ((nI v >>> ((8 : Int32) &&& 31)) - (nI v >>> ((8 : Int32) &&& 31)) / 5000 * 5000) = nI (7304 - v / 256 % 5000) := by
  rw [pk_shrN (by omega) _ 8 (by decide), show nI (v / 2 ^ 8) - nI (v / 2 ^ 8) / 5000 * 5000 = nI (v / 2 ^ 8 % 5000) from pk_rem (d := 5000) (by omega) (by decide) (by decide)]
  exact pk_sub (a := 7304) (b := v / 256 % 5000) (by omega)
theorem cz_11 {v : Nat} (h : v < 1048576) : ¬ ((nI v >>> ((14 : Int32) &&& 31)) - (nI v >>> ((14 : Int32) &&& 31)) / 11 * 11) - 5 < -5 ∧ ((nI v >>> ((14 : Int32) &&& 31)) - (nI v >>> ((14 : Int32) &&& 31)) / 11 * 11) - 5 ≤ 5 := by
  rw [pk_shrN (by omega) _ 14 (by decide), show nI (v / 2 ^ 14) - nI (v / 2 ^ 14) / 11 * 11 = nI (v / 2 ^ 14 % 11) from pk_rem (d := 11) (by omega) (by decide) (by decide)]
  rw [Int32.lt_iff_toInt_lt, Int32.le_iff_toInt_le, show (5 : Int32) = nI 5 from rfl, pk_sub_toInt (by omega) (by omega), nI_toInt (by omega), show (-nI 5).toInt = -5 from by decide]
  omega
theorem cz_7 {v : Nat} (h : v < 1048576) : ¬ ((nI v >>> ((3 : Int32) &&& 31)) - (nI v >>> ((3 : Int32) &&& 31)) / 7 * 7) - 3 < -10 ∧ ((nI v >>> ((3 : Int32) &&& 31)) - (nI v >>> ((3 : Int32) &&& 31)) / 7 * 7) - 3 ≤ 10 := by
  rw [pk_shrN (by omega) _ 3 (by decide), show nI (v / 2 ^ 3) - nI (v / 2 ^ 3) / 7 * 7 = nI (v / 2 ^ 3 % 7) from pk_rem (d := 7) (by omega) (by decide) (by decide)]
  rw [Int32.lt_iff_toInt_lt, Int32.le_iff_toInt_le, show (3 : Int32) = nI 3 from rfl, pk_sub_toInt (by omega) (by omega), show (10 : Int32).toInt = 10 from by decide, show (-10 : Int32).toInt = -10 from by decide]
  omega
/-- the extras after one is put at place p -/
def cz_D (D : Nat → Nat) (p d : Nat) (j : Nat) : Nat := if j = p then d else D j
theorem cz_X {ex ex' p d : Nat} {d1 d2 : Nat → Int32} {D : Nat → Nat} {z : Int32} (hX : cr_X ex d1 d2 D) (hp : p < 12) (he : (ex' = ex ∧ p < ex) ∨ (ex' = ex + 1 ∧ p = ex)) (hn : ∀ j, j < ex → j ≠ p → D j ≠ d) (hd : d ≤ 7304) (hz : z = 0 ∨ z = 1) : cr_X ex' (upd d1 p (nI d)) (upd d2 p z) (cz_D D p d) := by
  obtain ⟨h1, h2, h3, h4⟩ := hX
  refine ⟨by omega, fun i hi => ?_, fun i j hi hj hij => ?_, fun i hi => ?_⟩
  · unfold cz_D
    by_cases ei : i = p
    · rw [ei, pk_us, if_pos rfl]; exact ⟨rfl, hd⟩
    · rw [pk_un ei, if_neg ei]; exact h2 i (by omega)
  · unfold cz_D at hij
    by_cases ei : i = p
    · by_cases ej : j = p
      · omega
      · rw [if_pos ei, if_neg ej] at hij
        exact absurd hij.symm (hn j (by omega) ej)
    · by_cases ej : j = p
      · rw [if_neg ei, if_pos ej] at hij
        exact absurd hij (hn i (by omega) ei)
      · rw [if_neg ei, if_neg ej] at hij
        exact h3 i j (by omega) (by omega) hij
  · by_cases ei : i = p
    · rw [ei, pk_us]; exact hz
    · rw [pk_un ei]; exact h4 i (by omega)
section
variable {ex : Nat} {d1 d2 : Nat → Int32} {D : Nat → Nat}
theorem cz_start {post : Int32 → St1 → Prop} {v0 v1 v2 v3 v4 v5 v6 v7 v8 v9 v10 v11 v12 v13 v14 v15 v16 v17 v18 v19 : Int32} {a1 a2 a3 : Nat → Int32} {a4 : Nat → Int64} {d : Nat} (hd : d ≤ 7304) (h : cr_I ex d1 d2 D (v0, v1, v2, v3, v4, v5, v6, v7, v8, v9, v10, v11, v12, v13, v14, v15, v16, v17, v18, v19, a1, a2, a3, a4)) (H : ∀ {v0 v1 v2 v3 v4 v5 v6 v7 v8 v9 v10 v11 v12 v13 v14 v15 v16 v17 v18 v19 : Int32} {a1 a2 a3 : Nat → Int32} {a4 : Nat → Int64}, cr_I ex d1 d2 D (v0, v1, v2, v3, v4, v5, v6, v7, v8, v9, v10, v11, v12, v13, v14, v15, v16, v17, v18, v19, a1, a2, a3, a4) → post ((nI d + 5) - (nI d + 5) / 7 * 7) (v0, v1, v2, v3, v4, v5, v6, v7, v8, v9, v10, v11, v12, v13, v14, v15, v16, v17, v18, v19, a1, a2, a3, a4)) : wpX_start post (v0, v1, v2, v3, v4, v5, v6, v7, v8, v9, v10, v11, v12, v13, v14, v15, v16, v17, v18, v19, a1, a2, a3, a4) (nI d) := by
  obtain ⟨⟨s, iv, e, hs, hv, hv2, he, h0, h2, h10⟩, h11, h21, h22, h18⟩ := cr_I_of h
  unfold wpX_start
  exact ca_badDay hd (br_t rfl (And.intro (by decide) (H (cr_I_mk ⟨d, iv, e, hd, hv, hv2, he, rfl, h2, h10⟩ h11 h21 h22 (fun z => absurd rfl z)))))
theorem cz_frequency {post : Int32 → St1 → Prop} {v0 v1 v2 v3 v4 v5 v6 v7 v8 v9 v10 v11 v12 v13 v14 v15 v16 v17 v18 v19 : Int32} {a1 a2 a3 : Nat → Int32} {a4 : Nat → Int64} {f d : Nat} (hf : f ≤ 3) (h1 : 1 ≤ d) (hd : d ≤ 20) (h : cr_I ex d1 d2 D (v0, v1, v2, v3, v4, v5, v6, v7, v8, v9, v10, v11, v12, v13, v14, v15, v16, v17, v18, v19, a1, a2, a3, a4)) (H : ∀ {v0 v1 v2 v3 v4 v5 v6 v7 v8 v9 v10 v11 v12 v13 v14 v15 v16 v17 v18 v19 : Int32} {a1 a2 a3 : Nat → Int32} {a4 : Nat → Int64}, cr_I ex d1 d2 D (v0, v1, v2, v3, v4, v5, v6, v7, v8, v9, v10, v11, v12, v13, v14, v15, v16, v17, v18, v19, a1, a2, a3, a4) → post 0 (v0, v1, v2, v3, v4, v5, v6, v7, v8, v9, v10, v11, v12, v13, v14, v15, v16, v17, v18, v19, a1, a2, a3, a4)) : wpX_frequency post (v0, v1, v2, v3, v4, v5, v6, v7, v8, v9, v10, v11, v12, v13, v14, v15, v16, v17, v18, v19, a1, a2, a3, a4) (nI f) (nI d) := by
  obtain ⟨⟨s, iv, e, hs, hv, hv2, he, h0, h2, h10⟩, h11, h21, h22, h18⟩ := cr_I_of h
  exact br_f (nI_pos (by omega)) (pk_lt 3 f (fun z => absurd z (by omega)) (fun _ => pk_lt d 1 (fun z => absurd z (by omega)) (fun _ => pk_le d 20 (fun _ => H (cr_I_mk ⟨s, d, e, hs, h1, hd, he, h0, rfl, h10⟩ h11 h21 h22 (fun z => absurd rfl z))) (fun z => absurd z (by omega)))))
theorem cz_months {post : Int32 → St1 → Prop} {v0 v1 v2 v3 v4 v5 v6 v7 v8 v9 v10 v11 v12 v13 v14 v15 v16 v17 v18 v19 : Int32} {a1 a2 a3 : Nat → Int32} {a4 : Nat → Int64} {p0 : Int32} (h : cr_I ex d1 d2 D (v0, v1, v2, v3, v4, v5, v6, v7, v8, v9, v10, v11, v12, v13, v14, v15, v16, v17, v18, v19, a1, a2, a3, a4)) (H : ∀ {v0 v1 v2 v3 v4 v5 v6 v7 v8 v9 v10 v11 v12 v13 v14 v15 v16 v17 v18 v19 : Int32} {a1 a2 a3 : Nat → Int32} {a4 : Nat → Int64} (k : Nat), k ≤ 32 → cr_I ex d1 d2 D (v0, v1, v2, v3, v4, v5, v6, v7, v8, v9, v10, v11, v12, v13, v14, v15, v16, v17, v18, v19, a1, a2, a3, a4) → post (nI k) (v0, v1, v2, v3, v4, v5, v6, v7, v8, v9, v10, v11, v12, v13, v14, v15, v16, v17, v18, v19, a1, a2, a3, a4)) : wpX_months post (v0, v1, v2, v3, v4, v5, v6, v7, v8, v9, v10, v11, v12, v13, v14, v15, v16, v17, v18, v19, a1, a2, a3, a4) p0 := by
  obtain ⟨⟨s, iv, e, hs, hv, hv2, he, h0, h2, h10⟩, h11, h21, h22, h18⟩ := cr_I_of h
  exact nm_e (ca_bits (fun k hk => H k hk (cr_I_mk ⟨s, iv, e, hs, hv, hv2, he, h0, h2, h10⟩ h11 h21 h22 (fun z => absurd rfl z))))
theorem cz_monthDays {post : Int32 → St1 → Prop} {v0 v1 v2 v3 v4 v5 v6 v7 v8 v9 v10 v11 v12 v13 v14 v15 v16 v17 v18 v19 : Int32} {a1 a2 a3 : Nat → Int32} {a4 : Nat → Int64} {p0 p1 : Int32} (h : cr_I ex d1 d2 D (v0, v1, v2, v3, v4, v5, v6, v7, v8, v9, v10, v11, v12, v13, v14, v15, v16, v17, v18, v19, a1, a2, a3, a4)) (H : ∀ {v0 v1 v2 v3 v4 v5 v6 v7 v8 v9 v10 v11 v12 v13 v14 v15 v16 v17 v18 v19 : Int32} {a1 a2 a3 : Nat → Int32} {a4 : Nat → Int64} (k : Nat), k ≤ 64 → cr_I ex d1 d2 D (v0, v1, v2, v3, v4, v5, v6, v7, v8, v9, v10, v11, v12, v13, v14, v15, v16, v17, v18, v19, a1, a2, a3, a4) → post (nI k) (v0, v1, v2, v3, v4, v5, v6, v7, v8, v9, v10, v11, v12, v13, v14, v15, v16, v17, v18, v19, a1, a2, a3, a4)) : wpX_monthDays post (v0, v1, v2, v3, v4, v5, v6, v7, v8, v9, v10, v11, v12, v13, v14, v15, v16, v17, v18, v19, a1, a2, a3, a4) p0 p1 := by
  obtain ⟨⟨s, iv, e, hs, hv, hv2, he, h0, h2, h10⟩, h11, h21, h22, h18⟩ := cr_I_of h
  exact nm_e (nm_e (ca_bits (fun k hk => ca_bits (fun k2 hk2 => by
    rw [nI_add]
    exact H (k + k2) (by omega) (cr_I_mk ⟨s, iv, e, hs, hv, hv2, he, h0, h2, h10⟩ h11 h21 h22 (fun z => absurd rfl z))))))
theorem cz_weekDays {post : Int32 → St1 → Prop} {v0 v1 v2 v3 v4 v5 v6 v7 v8 v9 v10 v11 v12 v13 v14 v15 v16 v17 v18 v19 : Int32} {a1 a2 a3 : Nat → Int32} {a4 : Nat → Int64} {p0 p1 : Int32} (hp : ¬ p1 < -5 ∧ p1 ≤ 5) (h : cr_I ex d1 d2 D (v0, v1, v2, v3, v4, v5, v6, v7, v8, v9, v10, v11, v12, v13, v14, v15, v16, v17, v18, v19, a1, a2, a3, a4)) (H : ∀ {v0 v1 v2 v3 v4 v5 v6 v7 v8 v9 v10 v11 v12 v13 v14 v15 v16 v17 v18 v19 : Int32} {a1 a2 a3 : Nat → Int32} {a4 : Nat → Int64} (k : Nat), k ≤ 32 → cr_I ex d1 d2 D (v0, v1, v2, v3, v4, v5, v6, v7, v8, v9, v10, v11, v12, v13, v14, v15, v16, v17, v18, v19, a1, a2, a3, a4) → post (nI k) (v0, v1, v2, v3, v4, v5, v6, v7, v8, v9, v10, v11, v12, v13, v14, v15, v16, v17, v18, v19, a1, a2, a3, a4)) : wpX_weekDays post (v0, v1, v2, v3, v4, v5, v6, v7, v8, v9, v10, v11, v12, v13, v14, v15, v16, v17, v18, v19, a1, a2, a3, a4) p0 p1 := by
  obtain ⟨⟨s, iv, e, hs, hv, hv2, he, h0, h2, h10⟩, h11, h21, h22, h18⟩ := cr_I_of h
  exact br_f hp.1 (br_t hp.2 (nm_e (ca_bits (fun k hk => H k hk (cr_I_mk ⟨s, iv, e, hs, hv, hv2, he, h0, h2, h10⟩ h11 h21 h22 (fun z => absurd rfl z))))))
theorem cz_position {post : Int32 → St1 → Prop} {v0 v1 v2 v3 v4 v5 v6 v7 v8 v9 v10 v11 v12 v13 v14 v15 v16 v17 v18 v19 : Int32} {a1 a2 a3 : Nat → Int32} {a4 : Nat → Int64} {p0 : Int32} (hp : ¬ p0 < -10 ∧ p0 ≤ 10) (h : cr_I ex d1 d2 D (v0, v1, v2, v3, v4, v5, v6, v7, v8, v9, v10, v11, v12, v13, v14, v15, v16, v17, v18, v19, a1, a2, a3, a4)) (H : ∀ {v0 v1 v2 v3 v4 v5 v6 v7 v8 v9 v10 v11 v12 v13 v14 v15 v16 v17 v18 v19 : Int32} {a1 a2 a3 : Nat → Int32} {a4 : Nat → Int64}, cr_I ex d1 d2 D (v0, v1, v2, v3, v4, v5, v6, v7, v8, v9, v10, v11, v12, v13, v14, v15, v16, v17, v18, v19, a1, a2, a3, a4) → post 0 (v0, v1, v2, v3, v4, v5, v6, v7, v8, v9, v10, v11, v12, v13, v14, v15, v16, v17, v18, v19, a1, a2, a3, a4)) : wpX_position post (v0, v1, v2, v3, v4, v5, v6, v7, v8, v9, v10, v11, v12, v13, v14, v15, v16, v17, v18, v19, a1, a2, a3, a4) p0 := by
  obtain ⟨⟨s, iv, e, hs, hv, hv2, he, h0, h2, h10⟩, h11, h21, h22, h18⟩ := cr_I_of h
  exact br_f hp.1 (br_t hp.2 (H (cr_I_mk ⟨s, iv, e, hs, hv, hv2, he, h0, h2, h10⟩ h11 h21 h22 (fun z => absurd rfl z))))
theorem cz_limit {post : Int32 → St1 → Prop} {v0 v1 v2 v3 v4 v5 v6 v7 v8 v9 v10 v11 v12 v13 v14 v15 v16 v17 v18 v19 : Int32} {a1 a2 a3 : Nat → Int32} {a4 : Nat → Int64} {c d : Nat} (hc : c ≤ 500) (hd : d ≤ 7304) (h : cr_I ex d1 d2 D (v0, v1, v2, v3, v4, v5, v6, v7, v8, v9, v10, v11, v12, v13, v14, v15, v16, v17, v18, v19, a1, a2, a3, a4)) (H : ∀ {v0 v1 v2 v3 v4 v5 v6 v7 v8 v9 v10 v11 v12 v13 v14 v15 v16 v17 v18 v19 : Int32} {a1 a2 a3 : Nat → Int32} {a4 : Nat → Int64}, cr_I ex d1 d2 D (v0, v1, v2, v3, v4, v5, v6, v7, v8, v9, v10, v11, v12, v13, v14, v15, v16, v17, v18, v19, a1, a2, a3, a4) → post 0 (v0, v1, v2, v3, v4, v5, v6, v7, v8, v9, v10, v11, v12, v13, v14, v15, v16, v17, v18, v19, a1, a2, a3, a4)) : wpX_limit post (v0, v1, v2, v3, v4, v5, v6, v7, v8, v9, v10, v11, v12, v13, v14, v15, v16, v17, v18, v19, a1, a2, a3, a4) (nI c) (nI d) := by
  obtain ⟨⟨s, iv, e, hs, hv, hv2, he, h0, h2, h10⟩, h11, h21, h22, h18⟩ := cr_I_of h
  exact br_f (nI_pos (by omega)) (pk_le c 500 (fun _ => ca_badDay hd (br_t rfl (H (cr_I_mk ⟨s, iv, d, hs, hv, hv2, hd, h0, h2, rfl⟩ h11 h21 h22 (fun z => absurd rfl z))))) (fun z => absurd z (by omega)))
/-- extra: what it does at the place p where the day is, or isn't yet -/
theorem cz_ex_35 {post : Int32 → St1 → Prop} {v0 v1 v2 v3 v4 v5 v6 v7 v8 v9 v10 v11 v12 v13 v14 v15 v16 v17 v18 v19 : Int32} {a1 a2 a3 : Nat → Int32} {a4 : Nat → Int64} {p d w : Nat} (hX : cr_X ex d1 d2 D) (h : cr_I ex d1 d2 D (v0, v1, v2, v3, v4, v5, v6, v7, v8, v9, v10, v11, v12, v13, v14, v15, v16, v17, v18, v19, a1, a2, a3, a4)) (hd : d ≤ 7304) (hw : w = 1 ∨ w = 2) (hp : p ≤ ex) (hn : ∀ j, j < ex → j ≠ p → D j ≠ d)
    (H3 : post (-3) (v0, v1, v2, v3, v4, v5, v6, v7, v8, v9, v10, v11, v12, v13, v14, v15, v16, v17, v18, v19, a1, a2, a3, a4)) (H : ∀ (ex' : Nat) (z : Int32) {v0 v1 v2 v3 v4 v5 v6 v7 v8 v9 v10 v11 v12 v13 v14 v15 v16 v17 v18 v19 : Int32} {a1 a2 a3 : Nat → Int32} {a4 : Nat → Int64}, 1 ≤ ex' → ex' ≤ 12 → p < ex' → (w = 1 → z = 1) → (w = 2 → z = 0) → cr_X ex' (upd d1 p (nI d)) (upd d2 p z) (cz_D D p d) → cr_I ex' (upd d1 p (nI d)) (upd d2 p z) (cz_D D p d) (v0, v1, v2, v3, v4, v5, v6, v7, v8, v9, v10, v11, v12, v13, v14, v15, v16, v17, v18, v19, a1, a2, a3, a4) → post (nI ex') (v0, v1, v2, v3, v4, v5, v6, v7, v8, v9, v10, v11, v12, v13, v14, v15, v16, v17, v18, v19, a1, a2, a3, a4)) : wX_extra_35 post (nI d) (nI w) (nI p) v0 v1 v2 v3 v4 v5 v6 v7 v8 v9 v10 v11 v12 v13 v14 v15 v16 v17 v18 v19 a1 a2 a3 a4 := by
  obtain ⟨⟨s, iv, e, hs, hv, hv2, he, h0, h2, h10⟩, h11, h21, h22, h18⟩ := cr_I_of h
  have hx := hX.1
  have last : ∀ (ex' : Nat), ((ex' = ex ∧ p < ex) ∨ (ex' = ex + 1 ∧ p = ex)) → p < 12 → wX_extra_90 post (nI d) (nI w) (nI p) v0 v1 v2 v3 v4 v5 v6 v7 v8 v9 v10 (nI ex') v12 v13 v14 v15 v16 v17 v18 v19 a1 a2 a3 a4 := fun ex' he' hp' => by
    refine And.intro (pk_in p 12 hp') (nm_r (show _ = upd d1 p (nI d) by rw [nI_clamp (by omega), h21]) (pk_eq w 1 (fun y => ⟨pk_in p 12 hp', nm_r (show _ = upd d2 p 1 by rw [nI_clamp (by omega), h22]) ?_⟩) (fun y => ⟨pk_in p 12 hp', nm_r (show _ = upd d2 p 0 by rw [nI_clamp (by omega), h22]) ?_⟩)))
    · have hX' := cz_X hX hp' he' hn hd (z := 1) (Or.inr rfl)
      exact H ex' 1 (by omega) hX'.1 (by omega) (fun _ => rfl) (fun z => absurd z (by omega)) hX' (cr_I_mk ⟨s, iv, e, hs, hv, hv2, he, h0, h2, h10⟩ rfl rfl rfl (fun z => absurd rfl z))
    · have hX' := cz_X hX hp' he' hn hd (z := 0) (Or.inl rfl)
      exact H ex' 0 (by omega) hX'.1 (by omega) (fun z => absurd z y) (fun _ => rfl) hX' (cr_I_mk ⟨s, iv, e, hs, hv, hv2, he, h0, h2, h10⟩ rfl rfl rfl (fun z => absurd rfl z))
  have mid : wX_extra_63 post (nI d) (nI w) (nI p) v0 v1 v2 v3 v4 v5 v6 v7 v8 v9 v10 v11 v12 v13 v14 v15 v16 v17 v18 v19 a1 a2 a3 a4 := by
    subst h11
    refine pk_eq p 12 (fun _ => H3) (fun y => pk_eq p ex (fun y2 => nm_r (nI_1 ex) (last (ex + 1) (Or.inr ⟨rfl, y2⟩) (by omega))) (fun y2 => last ex (Or.inl ⟨rfl, by omega⟩) (by omega)))
  exact pk_eq w 1 (fun _ => mid) (fun y => pk_eq w 2 (fun _ => mid) (fun y2 => absurd hw (by omega)))
theorem cz_ex_11 {post : Int32 → St1 → Prop} {v0 v1 v2 v3 v4 v5 v6 v7 v8 v9 v10 v11 v12 v13 v14 v15 v16 v17 v18 v19 : Int32} {a1 a2 a3 : Nat → Int32} {a4 : Nat → Int64} {d w : Nat} (hX : cr_X ex d1 d2 D) (h : cr_I ex d1 d2 D (v0, v1, v2, v3, v4, v5, v6, v7, v8, v9, v10, v11, v12, v13, v14, v15, v16, v17, v18, v19, a1, a2, a3, a4)) (hd : d ≤ 7304) (hw : w = 1 ∨ w = 2)
    (H3 : post (-3) (v0, v1, v2, v3, v4, v5, v6, v7, v8, v9, v10, v11, v12, v13, v14, v15, v16, v17, v18, v19, a1, a2, a3, a4)) (H : ∀ (p ex' : Nat) (z : Int32) {v0 v1 v2 v3 v4 v5 v6 v7 v8 v9 v10 v11 v12 v13 v14 v15 v16 v17 v18 v19 : Int32} {a1 a2 a3 : Nat → Int32} {a4 : Nat → Int64}, 1 ≤ ex' → ex' ≤ 12 → p < ex' → (w = 1 → z = 1) → (w = 2 → z = 0) → cr_X ex' (upd d1 p (nI d)) (upd d2 p z) (cz_D D p d) → cr_I ex' (upd d1 p (nI d)) (upd d2 p z) (cz_D D p d) (v0, v1, v2, v3, v4, v5, v6, v7, v8, v9, v10, v11, v12, v13, v14, v15, v16, v17, v18, v19, a1, a2, a3, a4) → post (nI ex') (v0, v1, v2, v3, v4, v5, v6, v7, v8, v9, v10, v11, v12, v13, v14, v15, v16, v17, v18, v19, a1, a2, a3, a4)) : ∀ (n p : Nat), p ≤ ex → (∀ j, j < p → D j ≠ d) → ex - p < n → wX_extra_11 post (nI d) (nI w) v0 v1 v2 v3 v4 v5 v6 v7 v8 v9 v10 v11 v12 v13 v14 v15 v16 v17 v18 v19 a1 a2 a3 a4 n (nI p) := by
  have hx := hX.1
  have h11 := (cr_I_of h).2.1
  have h21 := (cr_I_of h).2.2.1
  intro n
  induction n with
  | zero => intro p _ _ hn; exact absurd hn (by omega)
  | succ n ih =>
    intro p hp hz hn
    refine pk_le ex p (fun y => cz_ex_35 hX h hd hw hp (fun j g1 g2 => hz j (by omega)) H3 (H p)) (fun y => And.intro (pk_in p 12 (by omega)) ?_) h11
    have ea : a1 p = nI (D p) := by rw [h21]; exact (hX.2.1 p y).1
    rw [nI_clamp (show p < 2 ^ 31 by omega), ea]
    have hD := (hX.2.1 p y).2
    refine pk_eq (D p) d (fun y2 => cz_ex_35 hX h hd hw hp (fun j g1 g2 g3 => g2 (hX.2.2.1 j p g1 y (by omega))) H3 (H p)) (fun y2 => nm_r (nI_1 p) (ih (p + 1) (by omega) (fun j g => ?_) (by omega)))
    by_cases ej : j = p
    · rw [ej]; exact y2
    · exact hz j (by omega)
theorem cz_extra {post : Int32 → St1 → Prop} {v0 v1 v2 v3 v4 v5 v6 v7 v8 v9 v10 v11 v12 v13 v14 v15 v16 v17 v18 v19 : Int32} {a1 a2 a3 : Nat → Int32} {a4 : Nat → Int64} {d w : Nat} (hX : cr_X ex d1 d2 D) (h : cr_I ex d1 d2 D (v0, v1, v2, v3, v4, v5, v6, v7, v8, v9, v10, v11, v12, v13, v14, v15, v16, v17, v18, v19, a1, a2, a3, a4)) (hd : d ≤ 7304) (hw : w = 1 ∨ w = 2)
    (H3 : post (-3) (v0, v1, v2, v3, v4, v5, v6, v7, v8, v9, v10, v11, v12, v13, v14, v15, v16, v17, v18, v19, a1, a2, a3, a4)) (H : ∀ (p ex' : Nat) (z : Int32) {v0 v1 v2 v3 v4 v5 v6 v7 v8 v9 v10 v11 v12 v13 v14 v15 v16 v17 v18 v19 : Int32} {a1 a2 a3 : Nat → Int32} {a4 : Nat → Int64}, 1 ≤ ex' → ex' ≤ 12 → p < ex' → (w = 1 → z = 1) → (w = 2 → z = 0) → cr_X ex' (upd d1 p (nI d)) (upd d2 p z) (cz_D D p d) → cr_I ex' (upd d1 p (nI d)) (upd d2 p z) (cz_D D p d) (v0, v1, v2, v3, v4, v5, v6, v7, v8, v9, v10, v11, v12, v13, v14, v15, v16, v17, v18, v19, a1, a2, a3, a4) → post (nI ex') (v0, v1, v2, v3, v4, v5, v6, v7, v8, v9, v10, v11, v12, v13, v14, v15, v16, v17, v18, v19, a1, a2, a3, a4)) : wpX_extra post (v0, v1, v2, v3, v4, v5, v6, v7, v8, v9, v10, v11, v12, v13, v14, v15, v16, v17, v18, v19, a1, a2, a3, a4) (nI d) (nI w) := by
  unfold wpX_extra
  exact ca_badDay hd (br_t rfl (Exists.intro (ex + 1) (cz_ex_11 hX h hd hw H3 H (ex + 1) 0 (by omega) (fun j g => absurd g (by omega)) (by omega))))
end
end
section
section
variable {ex : Nat} {d1 d2 : Nat → Int32} {D : Nat → Nat}
theorem cz_355 {post : Int32 → Prop} {L : Nat} {xs : Nat → Int32} {J15 : Int32 → Int32 → Int32 → Int32 → Int32 → Int32 → Int32 → Int32 → Int32 → Int32 → Int32 → Int32 → Int32 → Int32 → Int32 → Int32 → Int32 → Int32 → Int32 → Int32 → Int32 → Int32 → Int32 → (Nat → Int32) → (Nat → Int32) → (Nat → Int32) → (Nat → Int64) → Prop} {x2 x3 : Int32} {i v kc ks : Nat} {v0 v1 v2 v3 v4 v5 v6 v7 v8 v9 v10 v11 v12 v13 v14 v15 v16 v17 v18 v19 : Int32} {a1 a2 a3 : Nat → Int32} {a4 : Nat → Int64} (hX : cr_X ex d1 d2 D) (hi : cr_I ex d1 d2 D (v0, v1, v2, v3, v4, v5, v6, v7, v8, v9, v10, v11, v12, v13, v14, v15, v16, v17, v18, v19, a1, a2, a3, a4)) (hk : x2 < 0 ∨ ∃ k, k < ex ∧ x2 = nI (D k) ∧ x3 = d2 k) (hv : v < 1048576) (hJ : ∀ {v0 v1 v2 v3 v4 v5 v6 v7 v8 v9 v10 v11 v12 v13 v14 v15 v16 v17 v18 v19 : Int32} {a1 a2 a3 : Nat → Int32} {a4 : Nat → Int64}, cr_I ex d1 d2 D (v0, v1, v2, v3, v4, v5, v6, v7, v8, v9, v10, v11, v12, v13, v14, v15, v16, v17, v18, v19, a1, a2, a3, a4) → J15 x2 x3 (nI (i + 2)) v0 v1 v2 v3 v4 v5 v6 v7 v8 v9 v10 v11 v12 v13 v14 v15 v16 v17 v18 v19 a1 a2 a3 a4) : wL_law_355 post L xs J15 x2 x3 (nI i) (nI v) kc ks v0 v1 v2 v3 v4 v5 v6 v7 v8 v9 v10 v11 v12 v13 v14 v15 v16 v17 v18 v19 a1 a2 a3 a4 := by
  unfold wL_law_355
  rw [cz_16 hv, cz_8 hv, cz_64 hv]
  refine And.intro (by decide) (cw_walks hX hi (by omega) ?_)
  intro w0 w1 w2 w3 w4 w5 w6 w7 w8 w9 w10 w11 w12 w13 w14 w15 w16 w17 w18 w19 b1 b2 b3 b4 hp
  refine And.intro (by decide) (And.intro (by decide) (cl_lists hp (by omega) (by omega) (br_f (by decide) (br_f (by decide) (br_c (fun _ => nm_r (nI_add i 2) (hJ (cr_P_of hp).1)) (fun c => ?_))))))
  rcases hk with hk | ⟨k, k1, rfl, rfl⟩
  · exact absurd hk c
  · have hW := cr_P_W hp k k1
    have h01 := hX.2.2.2 k k1
    refine cq_occurs hp (hX.2.1 k k1).2 (fun y => br_t ?_ (nm_r (nI_add i 2) (hJ (cr_P_of hp).1))) (fun y => br_t ?_ (nm_r (nI_add i 2) (hJ (cr_P_of hp).1)))
    · rcases h01 with z | z
      · exact absurd z (hW.mp y)
      · exact z.symm
    · rcases h01 with z | z
      · exact z.symm
      · exact cw_tf (hW.mpr (by rw [z]; decide)) y
theorem cz_231 {post : Int32 → Prop} {L : Nat} {xs : Nat → Int32} {J15 : Int32 → Int32 → Int32 → Int32 → Int32 → Int32 → Int32 → Int32 → Int32 → Int32 → Int32 → Int32 → Int32 → Int32 → Int32 → Int32 → Int32 → Int32 → Int32 → Int32 → Int32 → Int32 → Int32 → (Nat → Int32) → (Nat → Int32) → (Nat → Int32) → (Nat → Int64) → Prop} {x2 x3 z0 : Int32} {i v kc ks : Nat} {v0 v1 v2 v3 v4 v5 v6 v7 v8 v9 v10 v11 v12 v13 v14 v15 v16 v17 v18 v19 : Int32} {a1 a2 a3 : Nat → Int32} {a4 : Nat → Int64} (hz : ¬ z0 < -10 ∧ z0 ≤ 10) (hX : cr_X ex d1 d2 D) (hi : cr_I ex d1 d2 D (v0, v1, v2, v3, v4, v5, v6, v7, v8, v9, v10, v11, v12, v13, v14, v15, v16, v17, v18, v19, a1, a2, a3, a4)) (hk : x2 < 0 ∨ ∃ k, k < ex ∧ x2 = nI (D k) ∧ x3 = d2 k) (hv : v < 1048576) (hJ : ∀ {v0 v1 v2 v3 v4 v5 v6 v7 v8 v9 v10 v11 v12 v13 v14 v15 v16 v17 v18 v19 : Int32} {a1 a2 a3 : Nat → Int32} {a4 : Nat → Int64}, cr_I ex d1 d2 D (v0, v1, v2, v3, v4, v5, v6, v7, v8, v9, v10, v11, v12, v13, v14, v15, v16, v17, v18, v19, a1, a2, a3, a4) → J15 x2 x3 (nI (i + 2)) v0 v1 v2 v3 v4 v5 v6 v7 v8 v9 v10 v11 v12 v13 v14 v15 v16 v17 v18 v19 a1 a2 a3 a4) : wL_law_231 post L xs J15 x2 x3 (nI i) (nI v) z0 kc ks v0 v1 v2 v3 v4 v5 v6 v7 v8 v9 v10 v11 v12 v13 v14 v15 v16 v17 v18 v19 a1 a2 a3 a4 :=
  cz_position hz hi (fun hi' => br_t rfl (cz_355 hX hi' hk hv hJ))
theorem cz_265 {post : Int32 → Prop} {L : Nat} {xs : Nat → Int32} {J15 : Int32 → Int32 → Int32 → Int32 → Int32 → Int32 → Int32 → Int32 → Int32 → Int32 → Int32 → Int32 → Int32 → Int32 → Int32 → Int32 → Int32 → Int32 → Int32 → Int32 → Int32 → Int32 → Int32 → (Nat → Int32) → (Nat → Int32) → (Nat → Int32) → (Nat → Int64) → Prop} {x2 x3 : Int32} {i v c kc ks : Nat} {v0 v1 v2 v3 v4 v5 v6 v7 v8 v9 v10 v11 v12 v13 v14 v15 v16 v17 v18 v19 : Int32} {a1 a2 a3 : Nat → Int32} {a4 : Nat → Int64} (hc : c ≤ 500) (hX : cr_X ex d1 d2 D) (hi : cr_I ex d1 d2 D (v0, v1, v2, v3, v4, v5, v6, v7, v8, v9, v10, v11, v12, v13, v14, v15, v16, v17, v18, v19, a1, a2, a3, a4)) (hk : x2 < 0 ∨ ∃ k, k < ex ∧ x2 = nI (D k) ∧ x3 = d2 k) (hv : v < 1048576) (hJ : ∀ {v0 v1 v2 v3 v4 v5 v6 v7 v8 v9 v10 v11 v12 v13 v14 v15 v16 v17 v18 v19 : Int32} {a1 a2 a3 : Nat → Int32} {a4 : Nat → Int64}, cr_I ex d1 d2 D (v0, v1, v2, v3, v4, v5, v6, v7, v8, v9, v10, v11, v12, v13, v14, v15, v16, v17, v18, v19, a1, a2, a3, a4) → J15 x2 x3 (nI (i + 2)) v0 v1 v2 v3 v4 v5 v6 v7 v8 v9 v10 v11 v12 v13 v14 v15 v16 v17 v18 v19 a1 a2 a3 a4) : wL_law_265 post L xs J15 x2 x3 (nI i) (nI v) (nI c) kc ks v0 v1 v2 v3 v4 v5 v6 v7 v8 v9 v10 v11 v12 v13 v14 v15 v16 v17 v18 v19 a1 a2 a3 a4 := by
  unfold wL_law_265
  rw [cz_5000 hv]
  exact And.intro (by decide) (cz_limit hc (by omega) hi (fun hi' => br_t rfl (cz_355 hX hi' hk hv hJ)))
end
/-- what the law's loop keeps: the object, and the day last put in or out -/
def cz_L (x2 x3 : Int32) (u : St1) : Prop := ∃ (ex : Nat) (d1 d2 : Nat → Int32) (D : Nat → Nat), cr_X ex d1 d2 D ∧ cr_I ex d1 d2 D u ∧ (x2 < 0 ∨ ∃ k, k < ex ∧ x2 = nI (D k) ∧ x3 = d2 k)
theorem cz_D_at {D : Nat → Nat} {p d : Nat} : cz_D D p d p = d := if_pos rfl
theorem cz_15 {post : Int32 → Prop} {L : Nat} {xs : Nat → Int32} {kc ks : Nat} (hL : L ≤ 260) (H : post 1) : ∀ (n i : Nat) (x2 x3 : Int32) {v0 v1 v2 v3 v4 v5 v6 v7 v8 v9 v10 v11 v12 v13 v14 v15 v16 v17 v18 v19 : Int32} {a1 a2 a3 : Nat → Int32} {a4 : Nat → Int64}, cz_L x2 x3 (v0, v1, v2, v3, v4, v5, v6, v7, v8, v9, v10, v11, v12, v13, v14, v15, v16, v17, v18, v19, a1, a2, a3, a4) → i ≤ 37 → 37 - i < n → wL_law_15 post L xs kc ks n x2 x3 (nI i) v0 v1 v2 v3 v4 v5 v6 v7 v8 v9 v10 v11 v12 v13 v14 v15 v16 v17 v18 v19 a1 a2 a3 a4 := by
  intro n
  induction n with
  | zero => intro i x2 x3 v0 v1 v2 v3 v4 v5 v6 v7 v8 v9 v10 v11 v12 v13 v14 v15 v16 v17 v18 v19 a1 a2 a3 a4 _ _ hn; exact absurd hn (by omega)
  | succ n ih =>
    intro i x2 x3 v0 v1 v2 v3 v4 v5 v6 v7 v8 v9 v10 v11 v12 v13 v14 v15 v16 v17 v18 v19 a1 a2 a3 a4 hl hi37 hn
    obtain ⟨ex, d1, d2, D, hX, hI, hk⟩ := hl
    refine br_c (fun _ => H) (fun c1 => pk_le 36 i (fun _ => H) (fun c2 => ?_))
    have c3 := ir_nlt c1
    rw [nI_toInt (by omega)] at c3
    have c4 : (Int32.ofNat L - 2).toInt = (L : Int) - (2 : Nat) := pk_sub_toInt (a := L) (b := 2) (by omega) (by omega)
    rw [c4] at c3
    have go : ∀ (x2 x3 : Int32) {v0 v1 v2 v3 v4 v5 v6 v7 v8 v9 v10 v11 v12 v13 v14 v15 v16 v17 v18 v19 : Int32} {a1 a2 a3 : Nat → Int32} {a4 : Nat → Int64}, cz_L x2 x3 (v0, v1, v2, v3, v4, v5, v6, v7, v8, v9, v10, v11, v12, v13, v14, v15, v16, v17, v18, v19, a1, a2, a3, a4) → wL_law_15 post L xs kc ks n x2 x3 (nI (i + 2)) v0 v1 v2 v3 v4 v5 v6 v7 v8 v9 v10 v11 v12 v13 v14 v15 v16 v17 v18 v19 a1 a2 a3 a4 := fun x2 x3 v0 v1 v2 v3 v4 v5 v6 v7 v8 v9 v10 v11 v12 v13 v14 v15 v16 v17 v18 v19 a1 a2 a3 a4 hl => ih (i + 2) x2 x3 hl (by omega) (by omega)
    have goX : ∀ {v0 v1 v2 v3 v4 v5 v6 v7 v8 v9 v10 v11 v12 v13 v14 v15 v16 v17 v18 v19 : Int32} {a1 a2 a3 : Nat → Int32} {a4 : Nat → Int64}, cr_I ex d1 d2 D (v0, v1, v2, v3, v4, v5, v6, v7, v8, v9, v10, v11, v12, v13, v14, v15, v16, v17, v18, v19, a1, a2, a3, a4) → wL_law_15 post L xs kc ks n x2 x3 (nI (i + 2)) v0 v1 v2 v3 v4 v5 v6 v7 v8 v9 v10 v11 v12 v13 v14 v15 v16 v17 v18 v19 a1 a2 a3 a4 := fun hI' => go x2 x3 ⟨ex, d1, d2, D, hX, hI', hk⟩
    refine And.intro (pk_in i L (by omega)) (nm_e (And.intro (pk_in (i + 1) L (by omega) (nI_1 i)) ?_))
    obtain ⟨v, hv, ev⟩ := pk_andE (xs (nI i + 1).toNatClampNeg) (m := 1048575) 20 (by decide)
    have hv' : v < 1048576 := hv
    refine nm_r ev (br_c (fun _ => br_c (fun _ => br_c (fun _ => ?_) (fun _ => br_c (fun _ => br_c (fun _ => br_c (fun _ => br_c (fun _ => ?_) (fun _ => ?_)) (fun _ => br_c (fun _ => br_c (fun _ => ?_) (fun _ => ?_)) (fun _ => ?_))) (fun _ => ?_)) (fun _ => ?_))) (fun _ => ?_)) (fun _ => ?_))
    · exact cz_months hI (fun k hk1 hI' => br_t (nI_pos' (by omega)) (cz_355 hX hI' hk hv' goX))
    · exact And.intro (by decide) (cz_231 (cz_7 hv') hX hI hk hv' goX)
    · exact cz_231 (by decide) hX hI hk hv' goX
    · rw [pk_shrN (by omega) _ 2 (by decide), pk_andN (by omega) (m := 63) 6 (by decide)]
      exact cz_265 (by omega) hX hI hk hv' goX
    · exact cz_265 (c := 0) (by omega) hX hI hk hv' goX
    · have ew : 1 + (nI v &&& 1) = nI (1 + v % 2) := by
        rw [pk_andN (by omega) (m := 1) 1 (by decide)]
        exact nI_add 1 (v % 2)
      refine nm_r ew (And.intro (by decide) ?_)
      rw [cz_2 hv']
      refine cz_extra hX hI (by omega) (by omega) ?_ ?_
      · exact br_f (by decide) (br_t rfl (br_t (by decide) (br_t (by decide) (cz_355 hX hI hk hv' goX))))
      · intro p ex' z w0 w1 w2 w3 w4 w5 w6 w7 w8 w9 w10 w11 w12 w13 w14 w15 w16 w17 w18 w19 b1 b2 b3 b4 g1 g2 g3 g4 g5 hX' hI'
        have hk' : ∀ x3 : Int32, x3 = z → (nI (v / 2 % 7305) < 0 ∨ ∃ k, k < ex' ∧ nI (v / 2 % 7305) = nI (cz_D D p (v / 2 % 7305) k) ∧ x3 = upd d2 p z k) := fun x3 hx3 => Or.inr ⟨p, g3, by rw [cz_D_at], by rw [hx3, pk_us]⟩
        have last : ∀ x3 : Int32, x3 = z → wL_law_355 post L xs (wL_law_15 post L xs kc ks n) (nI (v / 2 % 7305)) x3 (nI i) (nI v) kc ks w0 w1 w2 w3 w4 w5 w6 w7 w8 w9 w10 w11 w12 w13 w14 w15 w16 w17 w18 w19 b1 b2 b3 b4 := fun x3 hx3 => cz_355 hX' hI' (hk' x3 hx3) hv' (fun hI'' => go _ _ ⟨ex', _, _, _, hX', hI'', hk' x3 hx3⟩)
        exact br_t (nI_pos' (by omega)) (br_f (nI_nle (by omega) (by omega)) (And.intro (by decide) (nm_r (cz_2 hv') (br_f (nI_nle (by omega) (by omega)) (pk_eq (1 + v % 2) 1 (fun y => last 1 (g4 y).symm) (fun y => last 0 (g5 (by omega)).symm))))))
    · exact And.intro (by decide) (cz_weekDays (cz_11 hv') hI (fun k hk1 hI' => br_t (nI_pos' (by omega)) (cz_355 hX hI' hk hv' goX)))
    · exact cz_monthDays hI (fun k hk1 hI' => br_t (nI_pos' (by omega)) (cz_355 hX hI' hk hv' goX))
    · rw [cz_4 hv', pk_andN (by omega) (m := 3) 2 (by decide)]
      exact And.intro (by decide) (cz_frequency (by omega) (by omega) (by omega) hI (fun hI' => br_t rfl (cz_355 hX hI' hk hv' goX)))
    · rw [cz_3000 hv']
      exact And.intro (by decide) (cz_start (by omega) hI (fun hI' => And.intro (by decide) (And.intro (by decide) (br_t rfl (cz_355 hX hI' hk hv' goX)))))
end
section
theorem i_vc (xs : Nat → Int32) (L : Nat) (hL : L ≤ 260) : wpL_law (fun r => r = 1) L xs := by
  refine Exists.intro 4 (Exists.intro 151 (And.intro (by decide) (And.intro (by decide) ?_)))
  refine And.intro (by decide) (And.intro (by decide) (And.intro (by decide) (And.intro (by decide) (And.intro (by decide) (And.intro (by decide) (And.intro (by decide) (And.intro (by decide) ?_)))))))
  refine Exists.intro 38 (cz_15 (post := fun r => r = 1) hL rfl 38 0 (-1) 0 ?_ (by omega) (by omega))
  exact ⟨0, fun _ => 0, fun _ => 0, fun _ => 0, ⟨by omega, fun i hi => absurd hi (by omega), fun i j hi => absurd hi (by omega), fun i hi => absurd hi (by omega)⟩, cr_I_mk ⟨0, 1, 7304, by omega, by omega, by omega, by omega, rfl, rfl, rfl⟩ rfl rfl rfl (fun z => absurd rfl z), Or.inl (by decide)⟩
end
