section
theorem pk_us {f : Nat → Int32} {k : Nat} {x : Int32} : upd f k x k = x := if_pos rfl
theorem pk_un {f : Nat → Int32} {k j : Nat} {x : Int32} (h : j ≠ k) : upd f k x j = f j := if_neg h
theorem pk_sub {a b : Nat} (h : b ≤ a) : nI a - nI b = nI (a - b) := by
  obtain ⟨c, rfl⟩ : ∃ c, a = c + b := ⟨a - b, by omega⟩
  rw [← nI_add, Int32.add_sub_cancel, Nat.add_sub_cancel]
theorem pk_mul (a b : Nat) : nI a * nI b = nI (a * b) := (Int32.ofNat_mul a b).symm
theorem pk_sub_toInt {a b : Nat} (ha : a < 2 ^ 30) (hb : b < 2 ^ 30) : (nI a - nI b).toInt = (a : Int) - b := by
  rw [Int32.toInt_sub, nI_toInt (by omega), nI_toInt (by omega)]
  exact Int.bmod_eq_of_le (by omega) (by omega)
theorem pk_sneg {a b : Nat} (hb : b < 2 ^ 30) (h : a < b) : nI a - nI b < 0 := by
  rw [Int32.lt_iff_toInt_lt, pk_sub_toInt (by omega) hb, show (0 : Int32).toInt = 0 from by decide]
  omega
theorem pk_ix (x : Int32) {n : Nat} (hn : n < 2 ^ 31) : x < 0 ∨ nI n ≤ x ∨ ∃ j : Nat, j < n ∧ x = nI j := by
  by_cases h : x < 0
  · exact Or.inl h
  · obtain ⟨j, hj, rfl⟩ := nI_of h
    by_cases h2 : j < n
    · exact Or.inr (Or.inr ⟨j, h2, rfl⟩)
    · exact Or.inr (Or.inl (nI_le (by omega) hj))
theorem pk_le {x y : Int32} {A B : Prop} (a b : Nat) (f : a ≤ b → A) (g : b < a → B) (hx : x = nI a := by rfl) (hy : y = nI b := by rfl) (ha : a < 2 ^ 31 := by omega) (hb : b < 2 ^ 31 := by omega) : (x ≤ y → A) ∧ (¬ x ≤ y → B) := by
  subst hx hy
  rw [nI_leI ha hb]
  exact ⟨f, fun z => g (by omega)⟩
theorem pk_lt {x y : Int32} {A B : Prop} (a b : Nat) (f : a < b → A) (g : b ≤ a → B) (hx : x = nI a := by rfl) (hy : y = nI b := by rfl) (ha : a < 2 ^ 31 := by omega) (hb : b < 2 ^ 31 := by omega) : (x < y → A) ∧ (¬ x < y → B) := by
  subst hx hy
  rw [nI_ltI ha hb]
  exact ⟨f, fun z => g (by omega)⟩
theorem pk_eq {x y : Int32} {A B : Prop} (a b : Nat) (f : a = b → A) (g : a ≠ b → B) (hx : x = nI a := by rfl) (hy : y = nI b := by rfl) (ha : a < 2 ^ 31 := by omega) (hb : b < 2 ^ 31 := by omega) : (x = y → A) ∧ (¬ x = y → B) := by
  subst hx hy
  rw [nI_eq ha hb]
  exact ⟨f, g⟩
theorem pk_in {x : Int32} (n N : Nat) (h : n < N) (hx : x = nI n := by rfl) (hN : N < 2 ^ 31 := by omega) : vp_in x N := by
  subst hx
  exact vp_in_nI h hN
theorem pk_cl {x : Int32} (n : Nat) (hx : x = nI n := by rfl) (h : n < 2 ^ 31 := by omega) : x.toNatClampNeg = n := by
  subst hx
  exact nI_clamp h
theorem pk_tn {n : Nat} (h : n < 2 ^ 32) : (nI n).toBitVec.toNat = n := Nat.mod_eq_of_lt h
theorem pk_and (x : Int32) {m : Int32} (k : Nat) (hm : m.toBitVec.toNat = 2 ^ k - 1) : x &&& m = nI (x.toBitVec.toNat % 2 ^ k) := by
  apply Int32.toBitVec_inj.mp
  apply BitVec.eq_of_toNat_eq
  rw [Int32.toBitVec_and, BitVec.toNat_and, hm, Nat.and_two_pow_sub_one_eq_mod]
  show _ = (BitVec.ofNat 32 _).toNat
  rw [BitVec.toNat_ofNat]
  exact (Nat.mod_eq_of_lt (Nat.lt_of_le_of_lt (Nat.mod_le _ _) x.toBitVec.isLt)).symm
theorem pk_andN {n : Nat} (h : n < 2 ^ 32) {m : Int32} (k : Nat) (hm : m.toBitVec.toNat = 2 ^ k - 1) : nI n &&& m = nI (n % 2 ^ k) := by
  rw [pk_and _ k hm, pk_tn h]
theorem pk_shr (a s : Int32) (k : Nat) (hs : (s.toBitVec.smod 32).toNat = k) : (a >>> s).toInt = a.toInt >>> k := by
  show (a.toBitVec.sshiftRight (s.toBitVec.smod 32).toNat).toInt = _
  rw [hs, BitVec.toInt_sshiftRight]
  rfl
theorem pk_shrN {n : Nat} (h : n < 2 ^ 31) (s : Int32) (k : Nat) (hs : (s.toBitVec.smod 32).toNat = k) : nI n >>> s = nI (n / 2 ^ k) := by
  apply Int32.toInt_inj.mp
  have h2 : n / 2 ^ k ≤ n := Nat.div_le_self _ _
  rw [pk_shr _ _ k hs, nI_toInt h, nI_toInt (by omega), Int.shiftRight_eq_div_pow]
  rfl
theorem pk_lT {n : Nat} (h : n < 2 ^ 63) : (lN n).toInt = (n : Int) := lg_ofNat_toInt h
theorem pk_lLT {a b : Nat} (ha : a < 2 ^ 63) (hb : b < 2 ^ 63) : lN a < lN b ↔ a < b := by
  rw [Int64.lt_iff_toInt_lt, pk_lT ha, pk_lT hb]; omega
theorem pk_lLE {a b : Nat} (ha : a < 2 ^ 63) (hb : b < 2 ^ 63) : lN a ≤ lN b ↔ a ≤ b := by
  rw [Int64.le_iff_toInt_le, pk_lT ha, pk_lT hb]; omega
theorem pk_lEQ {a b : Nat} (ha : a < 2 ^ 63) (hb : b < 2 ^ 63) : lN a = lN b ↔ a = b := by
  rw [← Int64.toInt_inj, pk_lT ha, pk_lT hb]; omega
theorem pk_lDiv {a b : Nat} (ha : a < 2 ^ 63) (h0 : 0 < b) (hb : b < 2 ^ 63) : lN a / lN b = lN (a / b) := by
  apply Int64.toInt_inj.mp
  rw [lg_ldiv_nonneg (by rw [pk_lT ha]; omega) (by rw [pk_lT hb]; omega), pk_lT ha, pk_lT hb, pk_lT (Nat.lt_of_le_of_lt (Nat.div_le_self a b) ha)]
  rfl
theorem pk_lRem {a b : Nat} (ha : a < 2 ^ 63) (h0 : 0 < b) (hb : b < 2 ^ 63) : lN a - lN a / lN b * lN b = lN (a % b) := by
  rw [pk_lDiv ha h0 hb, lN_mul, lN_sub (Nat.div_mul_le_self a b)]
  exact congrArg lN (by have := Nat.div_add_mod' a b; omega)
theorem s_l : ∀ n, n < 32 → ((nI n &&& 31).toBitVec.smod 32).toNat = n := by decide +kernel
end
section
/-! pure functions -/
def qf_sx (k h : Int32) : Int32 := h ^^^ ((h.toUInt32 >>> (k.toUInt32 &&& Int32.toUInt32 31)).toInt32)
def qf_mix (a b : Int32) : Int32 := qf_sx 16 (qf_sx 13 (qf_sx 15 (a ^^^ (b * (-1640531535))) * (-2048144789)) * (-1028477387))
def qf_root (sh : Int32) (g : Nat → Int32) (w : Nat) : Nat → Int32
  | 0 => qf_mix sh 7
  | j + 1 => qf_mix (qf_mix (qf_root sh g w j) (g (w * 16 + j))) 1
def qf_start (sh : Int32) (g : Nat → Int32) (w j : Nat) : Int32 := qf_mix (qf_root sh g w j) (g (w * 16 + j))
def qf_link (s : Int32) : Nat → Int32
  | 0 => qf_mix s 2
  | k + 1 => qf_mix (qf_link s k) 4
def qf_key (s : Int32) (k : Nat) : Int32 := qf_mix (qf_link s k) 3
def qf_it (c : Int32) : Nat → Int32
  | 0 => c
  | k + 1 => qf_mix (qf_it c k) 4
theorem qf_it_link (s : Int32) (a : Nat) : ∀ k, qf_it (qf_link s a) k = qf_link s (a + k)
  | 0 => rfl
  | k + 1 => congrArg (fun z => qf_mix z 4) (qf_it_link s a k)
def qf_tag (k : Int32) (p : Nat → Int32) (s : Nat) : Int32 :=
  qf_mix (qf_mix (qf_mix (qf_mix (qf_mix (qf_mix k 6) (p (s * 6 + 5))) (p (s * 6 + 0))) (p (s * 6 + 1))) (p (s * 6 + 2))) (p (s * 6 + 3))
theorem qf_root_c {sh : Int32} {g g' : Nat → Int32} {w : Nat} : ∀ {j : Nat}, (∀ i, i < j → g' (w * 16 + i) = g (w * 16 + i)) → qf_root sh g' w j = qf_root sh g w j
  | 0, _ => rfl
  | j + 1, h => by
    show qf_mix (qf_mix (qf_root sh g' w j) (g' (w * 16 + j))) 1 = qf_mix (qf_mix (qf_root sh g w j) (g (w * 16 + j))) 1
    rw [qf_root_c (fun i hi => h i (by omega)), h j (by omega)]
theorem qf_start_c {sh : Int32} {g g' : Nat → Int32} {w j : Nat} (h : ∀ i, i < j + 1 → g' (w * 16 + i) = g (w * 16 + i)) : qf_start sh g' w j = qf_start sh g w j := by
  unfold qf_start
  rw [qf_root_c (fun i hi => h i (by omega)), h j (by omega)]
/-! shifts of a store -/
def qf_sh (a : Nat → Int32) (lo hi : Nat) : Nat → Int32 := fun j => if lo ≤ j ∧ j < hi then a (j + 1) else a j
def qf_s3 (a : Nat → Int32) (lo hi : Nat) : Nat → Int32 := fun j => if lo ≤ j ∧ j < hi then a (j + 3) else a j
theorem qf_sh0 (a : Nat → Int32) (lo : Nat) : qf_sh a lo lo = a := by
  funext j
  exact if_neg (by omega)
theorem qf_s30 (a : Nat → Int32) (lo : Nat) : qf_s3 a lo lo = a := by
  funext j
  exact if_neg (by omega)
theorem qf_shn {a : Nat → Int32} {lo hi j : Nat} (h : j < lo ∨ hi ≤ j) : qf_sh a lo hi j = a j := if_neg (by omega)
theorem qf_s3n {a : Nat → Int32} {lo hi j : Nat} (h : j < lo ∨ hi ≤ j) : qf_s3 a lo hi j = a j := if_neg (by omega)
theorem qf_shi {a : Nat → Int32} {lo hi j : Nat} (h : lo ≤ j) (h2 : j < hi) : qf_sh a lo hi j = a (j + 1) := if_pos ⟨h, h2⟩
theorem qf_s3i {a : Nat → Int32} {lo hi j : Nat} (h : lo ≤ j) (h2 : j < hi) : qf_s3 a lo hi j = a (j + 3) := if_pos ⟨h, h2⟩
theorem qf_shs (a : Nat → Int32) {lo i : Nat} (h : lo ≤ i) : upd (qf_sh a lo i) i (qf_sh a lo i (i + 1)) = qf_sh a lo (i + 1) := by
  funext j
  by_cases e : j = i
  · rw [e, pk_us, qf_shn (by omega), qf_shi h (by omega)]
  · rw [pk_un e]
    by_cases e2 : lo ≤ j ∧ j < i
    · rw [qf_shi e2.1 e2.2, qf_shi e2.1 (by omega)]
    · rw [qf_shn (by omega), qf_shn (by omega)]
theorem qf_s3s (a : Nat → Int32) {lo i : Nat} (h : lo ≤ i) : upd (qf_s3 a lo i) i (qf_s3 a lo i (i + 3)) = qf_s3 a lo (i + 1) := by
  funext j
  by_cases e : j = i
  · rw [e, pk_us, qf_s3n (by omega), qf_s3i h (by omega)]
  · rw [pk_un e]
    by_cases e2 : lo ≤ j ∧ j < i
    · rw [qf_s3i e2.1 e2.2, qf_s3i e2.1 (by omega)]
    · rw [qf_s3n (by omega), qf_s3n (by omega)]
/-! indices: literals -/
theorem qf_m3 (a : Nat) : nI a * 3 = nI (a * 3) := pk_mul a 3
theorem qf_m6 (a : Nat) : nI a * 6 = nI (a * 6) := pk_mul a 6
theorem qf_m9 (a : Nat) : nI a * 9 = nI (a * 9) := pk_mul a 9
theorem qf_m10 (a : Nat) : nI a * 10 = nI (a * 10) := pk_mul a 10
theorem qf_m12 (a : Nat) : nI a * 12 = nI (a * 12) := pk_mul a 12
theorem qf_m16 (a : Nat) : nI a * 16 = nI (a * 16) := pk_mul a 16
theorem qf_m17 (a : Nat) : nI a * 17 = nI (a * 17) := pk_mul a 17
theorem qf_m36 (a : Nat) : nI a * 36 = nI (a * 36) := pk_mul a 36
theorem qf_a0 (a : Nat) : nI a + 0 = nI a := nI_add a 0
theorem qf_a1 (a : Nat) : nI a + 1 = nI (a + 1) := nI_add a 1
theorem qf_a2 (a : Nat) : nI a + 2 = nI (a + 2) := nI_add a 2
theorem qf_a3 (a : Nat) : nI a + 3 = nI (a + 3) := nI_add a 3
theorem qf_a4 (a : Nat) : nI a + 4 = nI (a + 4) := nI_add a 4
theorem qf_a5 (a : Nat) : nI a + 5 = nI (a + 5) := nI_add a 5
theorem qf_a6 (a : Nat) : nI a + 6 = nI (a + 6) := nI_add a 6
theorem qf_a7 (a : Nat) : nI a + 7 = nI (a + 7) := nI_add a 7
theorem qf_a8 (a : Nat) : nI a + 8 = nI (a + 8) := nI_add a 8
theorem qf_a9 (a : Nat) : nI a + 9 = nI (a + 9) := nI_add a 9
theorem qf_2p (a : Nat) : 2 + nI a = nI (2 + a) := nI_add 2 a
theorem qf_in {n N : Nat} (h : n < N) (hN : N < 2 ^ 31) : vp_in (nI n) N = True := eq_true (vp_in_nI h hN)
theorem qf_nb1 : vp_nar .boolean 1 = 1 := rfl
theorem qf_nb0 : vp_nar .boolean 0 = 0 := rfl
theorem qf_ep (x : Int32) : (∃ w : Nat, w < 2 ∧ x = nI w) ∨ (¬ x = 0 ∧ ¬ x = 1) := by
  by_cases h0 : x = 0
  · exact Or.inl ⟨0, by omega, h0⟩
  · by_cases h1 : x = 1
    · exact Or.inl ⟨1, by omega, h1⟩
    · exact Or.inr ⟨h0, h1⟩
theorem qf_w2 {P : Nat → Prop} (h0 : P 0) (h1 : P 1) {w : Nat} (hw : w < 2) : P w := by
  have h : w = 0 ∨ w = 1 := by omega
  rcases h with h | h
  · rw [h]; exact h0
  · rw [h]; exact h1
theorem qf_lit {x : Int32} (n : Nat) (h : x = nI n) (hn : n < 2 ^ 31) : x.toInt = (n : Int) := by rw [h]; exact nI_toInt hn
/-- an int between two naturals -/
theorem qf_rng {x : Int32} (a b : Nat) (ha : ¬ x < nI a) (hb : ¬ nI b < x) (h1 : a < 2 ^ 31) (h2 : b < 2 ^ 31) : ∃ j : Nat, a ≤ j ∧ j ≤ b ∧ x = nI j := by
  rw [Int32.lt_iff_toInt_lt, nI_toInt h1] at ha
  rw [Int32.lt_iff_toInt_lt, nI_toInt h2] at hb
  refine ⟨x.toInt.toNat, by omega, by omega, Int32.toInt_inj.mp ?_⟩
  rw [nI_toInt (by omega)]
  omega
/-! powers -/
theorem qf_lrem {a b : Nat} (ha : a < 2147483648) (hb : b < 2147483648) : lN a * lN b - lN a * lN b / 2147483647 * 2147483647 = lN (a * b % 2147483647) := by
  have h : a * b < 2 ^ 63 := by
    have h1 : a * b ≤ 2147483647 * 2147483647 := Nat.mul_le_mul (by omega) (by omega)
    exact Nat.lt_of_le_of_lt h1 (by decide)
  rw [lN_mul]
  exact pk_lRem h (by decide) (by decide)
theorem qf_pw0 (r q m P : Nat) : r * (q * q % P) ^ m % P = r * q ^ (2 * m) % P := by
  rw [Nat.mul_mod, ← Nat.pow_mod, ← Nat.mul_mod, Nat.pow_mul, Nat.pow_two]
theorem qf_pw1 (r q m P : Nat) : (r * q % P) * (q * q % P) ^ m % P = r * q ^ (2 * m + 1) % P := by
  rw [Nat.mul_mod, Nat.mod_mod, ← Nat.mul_mod, qf_pw0, Nat.pow_succ, Nat.mul_assoc, Nat.mul_comm q]
theorem qf_7 (x : Nat) : 7 ^ x % 2147483647 ≠ 0 := by
  induction x with
  | zero => decide
  | succ x ih =>
    intro h
    apply ih
    rw [Nat.pow_succ] at h
    have e : 7 ^ x * 7 * 1840700269 = 7 ^ x + 2147483647 * (6 * 7 ^ x) := by
      generalize 7 ^ x = m
      omega
    have h2 : (7 ^ x * 7 * 1840700269) % 2147483647 = 0 := by
      rw [Nat.mul_mod, h, Nat.zero_mul, Nat.zero_mod]
    rw [e, Nat.add_mul_mod_self_left] at h2
    exact h2
theorem qf_7n (x : Nat) : ¬ nI (7 ^ x % 2147483647) = 0 := by
  have h := qf_7 x
  have h2 : 7 ^ x % 2147483647 < 2147483647 := Nat.mod_lt _ (by decide)
  exact nI_ne0 (by omega) (by omega)
theorem qf_pl (b x : Nat) : b ^ x % 2147483647 < 2147483647 := Nat.mod_lt _ (by decide)
end
section
/-! the component's small methods -/
section
variable {f_skipLimit f_storeLimit : Int32} {a_pool a_filled a_root a_sendChain a_recvChain a_hasSend a_hasRecv a_ownExponent a_ownPublic a_peerPublic a_sentCount a_recvNext a_prevLength a_turnDue a_turnsMade a_turnsTaken a_pushedOut a_accepted a_lastWords a_usedList a_usedCount a_knownList a_knownCount a_storePublic a_storeNumber a_storeKey a_storeCount : Nat → Int32}
theorem qx_mix {post : Int32 → Prop} {u : SX} {a b : Int32} (h : post (qf_mix a b)) : wpX_mix post u a b := by
  obtain ⟨f_skipLimit, f_storeLimit, a_pool, a_filled, a_root, a_sendChain, a_recvChain, a_hasSend, a_hasRecv, a_ownExponent, a_ownPublic, a_peerPublic, a_sentCount, a_recvNext, a_prevLength, a_turnDue, a_turnsMade, a_turnsTaken, a_pushedOut, a_accepted, a_lastWords, a_usedList, a_usedCount, a_knownList, a_knownCount, a_storePublic, a_storeNumber, a_storeKey, a_storeCount⟩ := u
  intro x1 e1 x2 e2 x3 e3 x4 e4 x5 e5
  subst e1 e2 e3 e4 e5
  exact h
theorem qx_pow9 {post : Int32 → Prop} {x : Nat} (hx : x < 1024) : ∀ d i, i + d = 10 → ∀ n, d < n → ∀ r q, r < 2147483647 → q < 2147483647 → post (nI (r * q ^ (x / 2 ^ i) % 2147483647)) → wX_pow_9 post (nI x) f_skipLimit f_storeLimit a_pool a_filled a_root a_sendChain a_recvChain a_hasSend a_hasRecv a_ownExponent a_ownPublic a_peerPublic a_sentCount a_recvNext a_prevLength a_turnDue a_turnsMade a_turnsTaken a_pushedOut a_accepted a_lastWords a_usedList a_usedCount a_knownList a_knownCount a_storePublic a_storeNumber a_storeKey a_storeCount n (lN r) (lN q) (nI i) := by
  intro d
  induction d with
  | zero =>
    intro i hi n hn r q hr hq h
    obtain ⟨m, rfl⟩ : ∃ m, n = m + 1 := ⟨n - 1, by omega⟩
    obtain rfl : i = 10 := by omega
    refine br_t (nI_le (a := 10) (b := 10) (by omega) (by decide)) ?_
    rw [lN_i]
    have e : x / 2 ^ 10 = 0 := by omega
    rw [e, Nat.pow_zero, Nat.mul_one, Nat.mod_eq_of_lt hr] at h
    exact h
  | succ d ih =>
    intro i hi n hn r q hr hq h
    obtain ⟨m, rfl⟩ : ∃ m, n = m + 1 := ⟨n - 1, by omega⟩
    have hq2 : lN q * lN q - lN q * lN q / 2147483647 * 2147483647 = lN (q * q % 2147483647) := qf_lrem (by omega) (by omega)
    have hb : (nI x >>> (nI i &&& 31)) &&& 1 = nI (x / 2 ^ i % 2) := by
      rw [pk_shrN (by omega) _ i (s_l i (by omega))]
      exact pk_andN (Nat.lt_of_le_of_lt (Nat.div_le_self _ _) (by omega)) 1 (by decide)
    have hs : x / 2 ^ i = 2 * (x / 2 ^ (i + 1)) + x / 2 ^ i % 2 := by
      rw [Nat.pow_succ, ← Nat.div_div_eq_div_mul]
      omega
    have hqm : q * q % 2147483647 < 2147483647 := Nat.mod_lt _ (by decide)
    refine br_f (nI_ge (b := 10) (by omega) (by decide)) ?_
    rcases Nat.mod_two_eq_zero_or_one (x / 2 ^ i) with h0 | h1
    · refine br_f (by rw [hb, h0]; decide) ?_
      refine And.intro (by decide) (nm_r hq2 (nm_r (nI_1 i) (ih (i + 1) (by omega) m (by omega) _ _ hr hqm ?_)))
      rw [qf_pw0]
      rw [h0, Nat.add_zero] at hs
      rw [← hs]
      exact h
    · refine br_t (by rw [hb, h1]; decide) ?_
      refine And.intro (by decide) (nm_r (qf_lrem (by omega) (by omega)) (And.intro (by decide) (nm_r hq2 (nm_r (nI_1 i) (ih (i + 1) (by omega) m (by omega) _ _ (Nat.mod_lt _ (by decide)) hqm ?_)))))
      rw [qf_pw1]
      rw [h1] at hs
      rw [← hs]
      exact h
theorem qx_pow {post : Int32 → Prop} {u : SX} {b x : Nat} (hb : b < 2147483647) (hx : x < 1024) (h : post (nI (b ^ x % 2147483647))) : wpX_pow post u (nI b) (nI x) := by
  obtain ⟨f_skipLimit, f_storeLimit, a_pool, a_filled, a_root, a_sendChain, a_recvChain, a_hasSend, a_hasRecv, a_ownExponent, a_ownPublic, a_peerPublic, a_sentCount, a_recvNext, a_prevLength, a_turnDue, a_turnsMade, a_turnsTaken, a_pushedOut, a_accepted, a_lastWords, a_usedList, a_usedCount, a_knownList, a_knownCount, a_storePublic, a_storeNumber, a_storeKey, a_storeCount⟩ := u
  refine Exists.intro 11 ?_
  rw [nI_l (by omega)]
  refine qx_pow9 hx 10 0 rfl 11 (by omega) 1 b (by omega) hb ?_
  rw [Nat.pow_zero, Nat.div_one, Nat.one_mul]
  exact h
def qf_clamp (v lo hi : Int32) : Int32 := if lo ≤ v then (if v ≤ hi then v else hi) else lo
theorem qx_clamp {post : Int32 → Prop} {u : SX} {v lo hi : Int32} (h : post (qf_clamp v lo hi)) : wpX_clamp post u v lo hi := by
  obtain ⟨f_skipLimit, f_storeLimit, a_pool, a_filled, a_root, a_sendChain, a_recvChain, a_hasSend, a_hasRecv, a_ownExponent, a_ownPublic, a_peerPublic, a_sentCount, a_recvNext, a_prevLength, a_turnDue, a_turnsMade, a_turnsTaken, a_pushedOut, a_accepted, a_lastWords, a_usedList, a_usedCount, a_knownList, a_knownCount, a_storePublic, a_storeNumber, a_storeKey, a_storeCount⟩ := u
  refine br_c (fun h1 => br_c (fun h2 => ?_) (fun h2 => ?_)) (fun h1 => ?_)
  · rw [qf_clamp, if_pos h1, if_pos h2] at h; exact h
  · rw [qf_clamp, if_pos h1, if_neg h2] at h; exact h
  · rw [qf_clamp, if_neg h1] at h; exact h
theorem qf_clamp_r (v : Int32) {a b : Nat} (hab : a ≤ b) (hb : b < 2 ^ 31) : ∃ j : Nat, a ≤ j ∧ j ≤ b ∧ qf_clamp v (nI a) (nI b) = nI j := by
  by_cases h1 : nI a ≤ v
  · by_cases h2 : v ≤ nI b
    · rw [qf_clamp, if_pos h1, if_pos h2]
      exact qf_rng a b (Int32.not_lt.mpr h1) (Int32.not_lt.mpr h2) (by omega) hb
    · rw [qf_clamp, if_pos h1, if_neg h2]
      exact ⟨b, hab, Nat.le_refl _, rfl⟩
  · rw [qf_clamp, if_neg h1]
    exact ⟨a, Nat.le_refl _, hab, rfl⟩
theorem qx_ep {post : Int32 → Prop} {u : SX} {w : Nat} (hw : w < 2) (h : post 1) : wpX_isEndpoint post u (nI w) := by
  obtain ⟨f_skipLimit, f_storeLimit, a_pool, a_filled, a_root, a_sendChain, a_recvChain, a_hasSend, a_hasRecv, a_ownExponent, a_ownPublic, a_peerPublic, a_sentCount, a_recvNext, a_prevLength, a_turnDue, a_turnsMade, a_turnsTaken, a_pushedOut, a_accepted, a_lastWords, a_usedList, a_usedCount, a_knownList, a_knownCount, a_storePublic, a_storeNumber, a_storeKey, a_storeCount⟩ := u
  have e : w = 0 ∨ w = 1 := by omega
  rcases e with e | e
  · rw [e]; exact br_t nI_0 h
  · rw [e]; exact br_f (by decide) (br_t (by decide) h)
theorem qx_nep {post : Int32 → Prop} {u : SX} {x : Int32} (h0 : ¬ x = 0) (h1 : ¬ x = 1) (h : post 0) : wpX_isEndpoint post u x := by
  obtain ⟨f_skipLimit, f_storeLimit, a_pool, a_filled, a_root, a_sendChain, a_recvChain, a_hasSend, a_hasRecv, a_ownExponent, a_ownPublic, a_peerPublic, a_sentCount, a_recvNext, a_prevLength, a_turnDue, a_turnsMade, a_turnsTaken, a_pushedOut, a_accepted, a_lastWords, a_usedList, a_usedCount, a_knownList, a_knownCount, a_storePublic, a_storeNumber, a_storeKey, a_storeCount⟩ := u
  exact br_f h0 (br_f h1 h)
def qr_hold (fl : Nat → Int32) (x : Int32) (s : Nat) : Prop := s < 16 ∧ x = nI s ∧ ¬ fl s = 0
theorem qx_hold {post : Int32 → Prop} {x : Int32} {s : Nat} (H : qr_hold a_filled x s) (h : post 1) : wpX_holdsMessage post (f_skipLimit, f_storeLimit, a_pool, a_filled, a_root, a_sendChain, a_recvChain, a_hasSend, a_hasRecv, a_ownExponent, a_ownPublic, a_peerPublic, a_sentCount, a_recvNext, a_prevLength, a_turnDue, a_turnsMade, a_turnsTaken, a_pushedOut, a_accepted, a_lastWords, a_usedList, a_usedCount, a_knownList, a_knownCount, a_storePublic, a_storeNumber, a_storeKey, a_storeCount) x := by
  obtain ⟨hs, rfl, hf⟩ := H
  refine br_f (nI_pos (by omega)) (br_f (nI_ge (b := 16) hs (by decide)) (And.intro (vp_in_nI hs (by decide)) ?_))
  rw [nI_clamp (by omega)]
  exact br_f hf h
theorem qx_nhold {post : Int32 → Prop} {x : Int32} (H : ∀ s, ¬ qr_hold a_filled x s) (h : post 0) : wpX_holdsMessage post (f_skipLimit, f_storeLimit, a_pool, a_filled, a_root, a_sendChain, a_recvChain, a_hasSend, a_hasRecv, a_ownExponent, a_ownPublic, a_peerPublic, a_sentCount, a_recvNext, a_prevLength, a_turnDue, a_turnsMade, a_turnsTaken, a_pushedOut, a_accepted, a_lastWords, a_usedList, a_usedCount, a_knownList, a_knownCount, a_storePublic, a_storeNumber, a_storeKey, a_storeCount) x := by
  refine br_c (fun _ => h) (fun h0 => br_c (fun _ => h) (fun h1 => ?_))
  rcases pk_ix x (n := 16) (by decide) with e | e | ⟨s, hs, e⟩
  · exact absurd e h0
  · exact absurd e h1
  · refine And.intro (e ▸ vp_in_nI hs (by decide)) (br_t ?_ h)
    rw [e, nI_clamp (by omega)]
    exact Classical.byContradiction fun z => H s ⟨hs, e, z⟩
theorem qx_slotS2 {post : Int32 → Prop} {s : Nat} (hs : s < 16) (hz : a_filled s = 0) (h : post (nI s)) : ∀ d i, i + d = s → ∀ n, d < n → (∀ j, i ≤ j → j < s → ¬ a_filled j = 0) → wX_emptySlot_2 post f_skipLimit f_storeLimit a_pool a_filled a_root a_sendChain a_recvChain a_hasSend a_hasRecv a_ownExponent a_ownPublic a_peerPublic a_sentCount a_recvNext a_prevLength a_turnDue a_turnsMade a_turnsTaken a_pushedOut a_accepted a_lastWords a_usedList a_usedCount a_knownList a_knownCount a_storePublic a_storeNumber a_storeKey a_storeCount n (nI i) := by
  intro d
  induction d with
  | zero =>
    intro i hi n hn hj
    obtain ⟨m, rfl⟩ : ∃ m, n = m + 1 := ⟨n - 1, by omega⟩
    obtain rfl : i = s := by omega
    refine br_f (nI_ge (b := 16) hs (by decide)) (And.intro (vp_in_nI hs (by decide)) (br_t ?_ h))
    rw [nI_clamp (by omega)]
    exact hz
  | succ d ih =>
    intro i hi n hn hj
    obtain ⟨m, rfl⟩ : ∃ m, n = m + 1 := ⟨n - 1, by omega⟩
    refine br_f (nI_ge (b := 16) (by omega) (by decide)) (And.intro (vp_in_nI (by omega) (by decide)) (br_f ?_ (nm_r (nI_1 i) (ih (i + 1) (by omega) m (by omega) (fun j a b => hj j (by omega) b)))))
    rw [nI_clamp (by omega)]
    exact hj i (by omega) (by omega)
theorem qx_slotN2 {post : Int32 → Prop} (h : post (-1)) : ∀ d i, i + d = 16 → ∀ n, d < n → (∀ j, i ≤ j → j < 16 → ¬ a_filled j = 0) → wX_emptySlot_2 post f_skipLimit f_storeLimit a_pool a_filled a_root a_sendChain a_recvChain a_hasSend a_hasRecv a_ownExponent a_ownPublic a_peerPublic a_sentCount a_recvNext a_prevLength a_turnDue a_turnsMade a_turnsTaken a_pushedOut a_accepted a_lastWords a_usedList a_usedCount a_knownList a_knownCount a_storePublic a_storeNumber a_storeKey a_storeCount n (nI i) := by
  intro d
  induction d with
  | zero =>
    intro i hi n hn hj
    obtain ⟨m, rfl⟩ : ∃ m, n = m + 1 := ⟨n - 1, by omega⟩
    exact br_t (nI_le (a := 16) (by omega) (by omega)) h
  | succ d ih =>
    intro i hi n hn hj
    obtain ⟨m, rfl⟩ : ∃ m, n = m + 1 := ⟨n - 1, by omega⟩
    refine br_f (nI_ge (b := 16) (by omega) (by decide)) (And.intro (vp_in_nI (by omega) (by decide)) (br_f ?_ (nm_r (nI_1 i) (ih (i + 1) (by omega) m (by omega) (fun j a b => hj j (by omega) b)))))
    rw [nI_clamp (by omega)]
    exact hj i (by omega) (by omega)
theorem qx_slotS {post : Int32 → Prop} {s : Nat} (hs : s < 16) (hz : a_filled s = 0) (hj : ∀ j, j < s → ¬ a_filled j = 0) (h : post (nI s)) : wpX_emptySlot post (f_skipLimit, f_storeLimit, a_pool, a_filled, a_root, a_sendChain, a_recvChain, a_hasSend, a_hasRecv, a_ownExponent, a_ownPublic, a_peerPublic, a_sentCount, a_recvNext, a_prevLength, a_turnDue, a_turnsMade, a_turnsTaken, a_pushedOut, a_accepted, a_lastWords, a_usedList, a_usedCount, a_knownList, a_knownCount, a_storePublic, a_storeNumber, a_storeKey, a_storeCount) :=
  Exists.intro (s + 1) (qx_slotS2 hs hz h s 0 (by omega) (s + 1) (by omega) (fun j _ b => hj j b))
theorem qx_slotN {post : Int32 → Prop} (hj : ∀ j, j < 16 → ¬ a_filled j = 0) (h : post (-1)) : wpX_emptySlot post (f_skipLimit, f_storeLimit, a_pool, a_filled, a_root, a_sendChain, a_recvChain, a_hasSend, a_hasRecv, a_ownExponent, a_ownPublic, a_peerPublic, a_sentCount, a_recvNext, a_prevLength, a_turnDue, a_turnsMade, a_turnsTaken, a_pushedOut, a_accepted, a_lastWords, a_usedList, a_usedCount, a_knownList, a_knownCount, a_storePublic, a_storeNumber, a_storeKey, a_storeCount) :=
  Exists.intro 17 (qx_slotN2 h 16 0 (by omega) 17 (by omega) (fun j _ b => hj j b))
theorem qx_used12 {post : Int32 → Prop} {w c : Nat} {v : Int32} (hw : w < 2) (hc : c ≤ 9) (ec : a_usedCount w = nI c) : ∀ d i, i + d = c → ∀ n, d < n → ((∃ j, i ≤ j ∧ j < c ∧ a_usedList (w * 9 + j) = v) → post 1) → ((∀ j, i ≤ j → j < c → ¬ a_usedList (w * 9 + j) = v) → post 0) → wX_used_12 post (nI w) v f_skipLimit f_storeLimit a_pool a_filled a_root a_sendChain a_recvChain a_hasSend a_hasRecv a_ownExponent a_ownPublic a_peerPublic a_sentCount a_recvNext a_prevLength a_turnDue a_turnsMade a_turnsTaken a_pushedOut a_accepted a_lastWords a_usedList a_usedCount a_knownList a_knownCount a_storePublic a_storeNumber a_storeKey a_storeCount n (nI i) := by
  have hin : vp_in (nI w) 2 := vp_in_nI hw (by decide)
  have ew : (nI w).toNatClampNeg = w := nI_clamp (by omega)
  intro d
  induction d with
  | zero =>
    intro i hi n hn h1 h0
    obtain ⟨m, rfl⟩ : ∃ m, n = m + 1 := ⟨n - 1, by omega⟩
    refine And.intro hin ?_
    rw [ew, ec]
    exact br_t (nI_le (by omega) (by omega)) (h0 (fun j a b => by omega))
  | succ d ih =>
    intro i hi n hn h1 h0
    obtain ⟨m, rfl⟩ : ∃ m, n = m + 1 := ⟨n - 1, by omega⟩
    refine And.intro hin ?_
    rw [ew, ec]
    refine br_f (nI_ge (by omega) (by omega)) ?_
    rw [qf_m9, nI_add, nI_clamp (by omega)]
    refine And.intro (vp_in_nI (by omega) (by decide)) ?_
    refine br_c (fun e => h1 ⟨i, by omega, by omega, e⟩) (fun e => nm_r (nI_1 i) (ih (i + 1) (by omega) m (by omega) (fun ⟨j, a, b, c⟩ => h1 ⟨j, by omega, b, c⟩) (fun q => h0 (fun j a b => ?_))))
    by_cases ej : j = i
    · rw [ej]; exact e
    · exact q j (by omega) b
theorem qx_used {post : Int32 → Prop} {w c : Nat} {v : Int32} (hw : w < 2) (hc : c ≤ 9) (ec : a_usedCount w = nI c) (h1 : (∃ j, j < c ∧ a_usedList (w * 9 + j) = v) → post 1) (h0 : ¬ (∃ j, j < c ∧ a_usedList (w * 9 + j) = v) → post 0) : wpX_used post (f_skipLimit, f_storeLimit, a_pool, a_filled, a_root, a_sendChain, a_recvChain, a_hasSend, a_hasRecv, a_ownExponent, a_ownPublic, a_peerPublic, a_sentCount, a_recvNext, a_prevLength, a_turnDue, a_turnsMade, a_turnsTaken, a_pushedOut, a_accepted, a_lastWords, a_usedList, a_usedCount, a_knownList, a_knownCount, a_storePublic, a_storeNumber, a_storeKey, a_storeCount) (nI w) v := by
  unfold wpX_used
  dsimp only
  refine qx_ep hw (br_f (by decide) (Exists.intro (c + 1) (qx_used12 hw hc ec c 0 (by omega) (c + 1) (by omega) (fun ⟨j, _, b, e⟩ => h1 ⟨j, b, e⟩) (fun q => h0 fun ⟨j, b, e⟩ => q j (by omega) b e))))
theorem qx_knows12 {post : Int32 → Prop} {w c : Nat} {v : Int32} (hw : w < 2) (hc : c ≤ 9) (ec : a_knownCount w = nI c) : ∀ d i, i + d = c → ∀ n, d < n → ((∃ j, i ≤ j ∧ j < c ∧ a_knownList (w * 9 + j) = v) → post 1) → ((∀ j, i ≤ j → j < c → ¬ a_knownList (w * 9 + j) = v) → post 0) → wX_knows_12 post (nI w) v f_skipLimit f_storeLimit a_pool a_filled a_root a_sendChain a_recvChain a_hasSend a_hasRecv a_ownExponent a_ownPublic a_peerPublic a_sentCount a_recvNext a_prevLength a_turnDue a_turnsMade a_turnsTaken a_pushedOut a_accepted a_lastWords a_usedList a_usedCount a_knownList a_knownCount a_storePublic a_storeNumber a_storeKey a_storeCount n (nI i) := by
  have hin : vp_in (nI w) 2 := vp_in_nI hw (by decide)
  have ew : (nI w).toNatClampNeg = w := nI_clamp (by omega)
  intro d
  induction d with
  | zero =>
    intro i hi n hn h1 h0
    obtain ⟨m, rfl⟩ : ∃ m, n = m + 1 := ⟨n - 1, by omega⟩
    refine And.intro hin ?_
    rw [ew, ec]
    exact br_t (nI_le (by omega) (by omega)) (h0 (fun j a b => by omega))
  | succ d ih =>
    intro i hi n hn h1 h0
    obtain ⟨m, rfl⟩ : ∃ m, n = m + 1 := ⟨n - 1, by omega⟩
    refine And.intro hin ?_
    rw [ew, ec]
    refine br_f (nI_ge (by omega) (by omega)) ?_
    rw [qf_m9, nI_add, nI_clamp (by omega)]
    refine And.intro (vp_in_nI (by omega) (by decide)) ?_
    refine br_c (fun e => h1 ⟨i, by omega, by omega, e⟩) (fun e => nm_r (nI_1 i) (ih (i + 1) (by omega) m (by omega) (fun ⟨j, a, b, c⟩ => h1 ⟨j, by omega, b, c⟩) (fun q => h0 (fun j a b => ?_))))
    by_cases ej : j = i
    · rw [ej]; exact e
    · exact q j (by omega) b
theorem qx_knows {post : Int32 → Prop} {w c : Nat} {v : Int32} (hw : w < 2) (hc : c ≤ 9) (ec : a_knownCount w = nI c) (h1 : (∃ j, j < c ∧ a_knownList (w * 9 + j) = v) → post 1) (h0 : ¬ (∃ j, j < c ∧ a_knownList (w * 9 + j) = v) → post 0) : wpX_knows post (f_skipLimit, f_storeLimit, a_pool, a_filled, a_root, a_sendChain, a_recvChain, a_hasSend, a_hasRecv, a_ownExponent, a_ownPublic, a_peerPublic, a_sentCount, a_recvNext, a_prevLength, a_turnDue, a_turnsMade, a_turnsTaken, a_pushedOut, a_accepted, a_lastWords, a_usedList, a_usedCount, a_knownList, a_knownCount, a_storePublic, a_storeNumber, a_storeKey, a_storeCount) (nI w) v := by
  unfold wpX_knows
  dsimp only
  refine qx_ep hw (br_f (by decide) (Exists.intro (c + 1) (qx_knows12 hw hc ec c 0 (by omega) (c + 1) (by omega) (fun ⟨j, _, b, e⟩ => h1 ⟨j, b, e⟩) (fun q => h0 fun ⟨j, b, e⟩ => q j (by omega) b e))))
theorem qx_tag1 {post : Int32 → Prop} {s i n : Nat} {t : Int32} (hs : s < 16) (hi : i < 4) (h : wX_rightTag_28 post (nI s) f_skipLimit f_storeLimit a_pool a_filled a_root a_sendChain a_recvChain a_hasSend a_hasRecv a_ownExponent a_ownPublic a_peerPublic a_sentCount a_recvNext a_prevLength a_turnDue a_turnsMade a_turnsTaken a_pushedOut a_accepted a_lastWords a_usedList a_usedCount a_knownList a_knownCount a_storePublic a_storeNumber a_storeKey a_storeCount n (qf_mix t (a_pool (s * 6 + i))) (nI (i + 1))) : wX_rightTag_28 post (nI s) f_skipLimit f_storeLimit a_pool a_filled a_root a_sendChain a_recvChain a_hasSend a_hasRecv a_ownExponent a_ownPublic a_peerPublic a_sentCount a_recvNext a_prevLength a_turnDue a_turnsMade a_turnsTaken a_pushedOut a_accepted a_lastWords a_usedList a_usedCount a_knownList a_knownCount a_storePublic a_storeNumber a_storeKey a_storeCount (n + 1) t (nI i) := by
  refine br_f (nI_ge (b := 4) hi (by decide)) ?_
  rw [qf_m6, nI_add, nI_clamp (by omega)]
  exact And.intro (vp_in_nI (by omega) (by decide)) (qx_mix (nm_r (nI_1 i) h))
theorem qx_tag {post : Int32 → Prop} {s : Nat} {k : Int32} (hs : s < 16) (h : post (qf_tag k a_pool s)) : wpX_rightTag post (f_skipLimit, f_storeLimit, a_pool, a_filled, a_root, a_sendChain, a_recvChain, a_hasSend, a_hasRecv, a_ownExponent, a_ownPublic, a_peerPublic, a_sentCount, a_recvNext, a_prevLength, a_turnDue, a_turnsMade, a_turnsTaken, a_pushedOut, a_accepted, a_lastWords, a_usedList, a_usedCount, a_knownList, a_knownCount, a_storePublic, a_storeNumber, a_storeKey, a_storeCount) (nI s) k := by
  unfold wpX_rightTag
  dsimp only
  refine qx_mix ?_
  rw [qf_m6, qf_a5, nI_clamp (by omega)]
  refine And.intro (vp_in_nI (by omega) (by decide)) (qx_mix (Exists.intro 5 ?_))
  refine qx_tag1 (i := 0) hs (by omega) (qx_tag1 hs (by omega) (qx_tag1 hs (by omega) (qx_tag1 hs (by omega) ?_)))
  exact br_t (nI_le (a := 4) (b := 4) (by omega) (by decide)) h
theorem qx_ahead5 {post : Int32 → Prop} {k : Nat} (hk : k ≤ 12) {c : Int32} (h : post (qf_mix (qf_it c k) 3)) : ∀ d i, i + d = k → ∀ n, d < n → wX_keyAhead_5 post (nI k) f_skipLimit f_storeLimit a_pool a_filled a_root a_sendChain a_recvChain a_hasSend a_hasRecv a_ownExponent a_ownPublic a_peerPublic a_sentCount a_recvNext a_prevLength a_turnDue a_turnsMade a_turnsTaken a_pushedOut a_accepted a_lastWords a_usedList a_usedCount a_knownList a_knownCount a_storePublic a_storeNumber a_storeKey a_storeCount n (qf_it c i) (nI i) := by
  intro d
  induction d with
  | zero =>
    intro i hi n hn
    obtain ⟨m, rfl⟩ : ∃ m, n = m + 1 := ⟨n - 1, by omega⟩
    obtain rfl : i = k := by omega
    exact br_t (nI_le (by omega) (by omega)) (qx_mix h)
  | succ d ih =>
    intro i hi n hn
    obtain ⟨m, rfl⟩ : ∃ m, n = m + 1 := ⟨n - 1, by omega⟩
    exact br_f (nI_ge (by omega) (by omega)) (qx_mix (nm_r (nI_1 i) (ih (i + 1) (by omega) m (by omega))))
theorem qx_ahead {post : Int32 → Prop} {u : SX} {k : Nat} (hk : k ≤ 12) {c : Int32} (h : post (qf_mix (qf_it c k) 3)) : wpX_keyAhead post u c (nI k) := by
  obtain ⟨f_skipLimit, f_storeLimit, a_pool, a_filled, a_root, a_sendChain, a_recvChain, a_hasSend, a_hasRecv, a_ownExponent, a_ownPublic, a_peerPublic, a_sentCount, a_recvNext, a_prevLength, a_turnDue, a_turnsMade, a_turnsTaken, a_pushedOut, a_accepted, a_lastWords, a_usedList, a_usedCount, a_knownList, a_knownCount, a_storePublic, a_storeNumber, a_storeKey, a_storeCount⟩ := u
  exact Exists.intro (k + 1) (qx_ahead5 hk h k 0 (by omega) (k + 1) (by omega))
end
end
section
/-! the component's store -/
section
variable {f_skipLimit f_storeLimit : Int32} {a_pool a_filled a_root a_sendChain a_recvChain a_hasSend a_hasRecv a_ownExponent a_ownPublic a_peerPublic a_sentCount a_recvNext a_prevLength a_turnDue a_turnsMade a_turnsTaken a_pushedOut a_accepted a_lastWords a_usedList a_usedCount a_knownList a_knownCount a_storePublic a_storeNumber a_storeKey a_storeCount : Nat → Int32}
/-- the first entry of this public and number is at e -/
def qr_fd (w sc : Nat) (SP SN : Nat → Int32) (pub num : Int32) (e : Nat) : Prop := e < sc ∧ (SP (w * 12 + e) = pub ∧ SN (w * 12 + e) = num) ∧ ∀ j, j < e → ¬ (SP (w * 12 + j) = pub ∧ SN (w * 12 + j) = num)
def qr_nf (w sc : Nat) (SP SN : Nat → Int32) (pub num : Int32) : Prop := ∀ j, j < sc → ¬ (SP (w * 12 + j) = pub ∧ SN (w * 12 + j) = num)
theorem qr_fd_or (w : Nat) (SP SN : Nat → Int32) (pub num : Int32) : ∀ sc, (∃ e, qr_fd w sc SP SN pub num e) ∨ qr_nf w sc SP SN pub num := by
  intro sc
  induction sc with
  | zero => exact Or.inr (fun j hj => by omega)
  | succ sc ih =>
    rcases ih with ⟨e, h1, h2, h3⟩ | h
    · exact Or.inl ⟨e, by omega, h2, h3⟩
    · by_cases z : SP (w * 12 + sc) = pub ∧ SN (w * 12 + sc) = num
      · exact Or.inl ⟨sc, by omega, z, h⟩
      · refine Or.inr (fun j hj => ?_)
        by_cases ej : j = sc
        · rw [ej]; exact z
        · exact h j (by omega)
theorem qx_fdS10 {post : Int32 → Prop} {w sc e : Nat} {pub num : Int32} (hw : w < 2) (hs : sc ≤ 12) (es : a_storeCount w = nI sc) (H : qr_fd w sc a_storePublic a_storeNumber pub num e) (h : post (nI (w * 12 + e))) : ∀ d i, i + d = e → ∀ n, d < n → wX_findEntry_10 post (nI w) pub num (nI (w * 12)) f_skipLimit f_storeLimit a_pool a_filled a_root a_sendChain a_recvChain a_hasSend a_hasRecv a_ownExponent a_ownPublic a_peerPublic a_sentCount a_recvNext a_prevLength a_turnDue a_turnsMade a_turnsTaken a_pushedOut a_accepted a_lastWords a_usedList a_usedCount a_knownList a_knownCount a_storePublic a_storeNumber a_storeKey a_storeCount n (nI (w * 12 + i)) := by
  obtain ⟨he, ⟨h1, h2⟩, h3⟩ := H
  have hin : vp_in (nI w) 2 := vp_in_nI hw (by decide)
  have ew : (nI w).toNatClampNeg = w := nI_clamp (by omega)
  intro d
  induction d with
  | zero =>
    intro i hi n hn
    obtain ⟨m, rfl⟩ : ∃ m, n = m + 1 := ⟨n - 1, by omega⟩
    obtain rfl : i = e := by omega
    have h24 : vp_in (nI (w * 12 + i)) 24 := vp_in_nI (by omega) (by decide)
    refine And.intro hin ?_
    rw [ew, es, nI_add]
    refine br_f (nI_ge (by omega) (by omega)) ?_
    rw [nI_clamp (by omega)]
    exact And.intro h24 (br_t h1 (And.intro h24 (br_t h2 h)))
  | succ d ih =>
    intro i hi n hn
    obtain ⟨m, rfl⟩ : ∃ m, n = m + 1 := ⟨n - 1, by omega⟩
    have h24 : vp_in (nI (w * 12 + i)) 24 := vp_in_nI (by omega) (by decide)
    have hn := ih (i + 1) (by omega) m (by omega)
    refine And.intro hin ?_
    rw [ew, es, nI_add]
    refine br_f (nI_ge (by omega) (by omega)) ?_
    rw [nI_clamp (by omega)]
    exact And.intro h24 (br_c (fun e1 => And.intro h24 (br_f (fun e2 => h3 i (by omega) ⟨e1, e2⟩) (nm_r (qf_a1 _) hn))) (fun e1 => nm_r (qf_a1 _) hn))
theorem qx_fdN10 {post : Int32 → Prop} {w sc : Nat} {pub num : Int32} (hw : w < 2) (hs : sc ≤ 12) (es : a_storeCount w = nI sc) (H : qr_nf w sc a_storePublic a_storeNumber pub num) (h : post (-1)) : ∀ d i, i + d = sc → ∀ n, d < n → wX_findEntry_10 post (nI w) pub num (nI (w * 12)) f_skipLimit f_storeLimit a_pool a_filled a_root a_sendChain a_recvChain a_hasSend a_hasRecv a_ownExponent a_ownPublic a_peerPublic a_sentCount a_recvNext a_prevLength a_turnDue a_turnsMade a_turnsTaken a_pushedOut a_accepted a_lastWords a_usedList a_usedCount a_knownList a_knownCount a_storePublic a_storeNumber a_storeKey a_storeCount n (nI (w * 12 + i)) := by
  have hin : vp_in (nI w) 2 := vp_in_nI hw (by decide)
  have ew : (nI w).toNatClampNeg = w := nI_clamp (by omega)
  intro d
  induction d with
  | zero =>
    intro i hi n hn
    obtain ⟨m, rfl⟩ : ∃ m, n = m + 1 := ⟨n - 1, by omega⟩
    refine And.intro hin ?_
    rw [ew, es, nI_add]
    exact br_t (nI_le (by omega) (by omega)) h
  | succ d ih =>
    intro i hi n hn
    obtain ⟨m, rfl⟩ : ∃ m, n = m + 1 := ⟨n - 1, by omega⟩
    have h24 : vp_in (nI (w * 12 + i)) 24 := vp_in_nI (by omega) (by decide)
    have hn := ih (i + 1) (by omega) m (by omega)
    refine And.intro hin ?_
    rw [ew, es, nI_add]
    refine br_f (nI_ge (by omega) (by omega)) ?_
    rw [nI_clamp (by omega)]
    exact And.intro h24 (br_c (fun e1 => And.intro h24 (br_f (fun e2 => H i (by omega) ⟨e1, e2⟩) (nm_r (qf_a1 _) hn))) (fun e1 => nm_r (qf_a1 _) hn))
theorem qx_findS {post : Int32 → Prop} {w sc e : Nat} {pub num : Int32} (hw : w < 2) (hs : sc ≤ 12) (es : a_storeCount w = nI sc) (H : qr_fd w sc a_storePublic a_storeNumber pub num e) (h : post (nI (w * 12 + e))) : wpX_findEntry post (f_skipLimit, f_storeLimit, a_pool, a_filled, a_root, a_sendChain, a_recvChain, a_hasSend, a_hasRecv, a_ownExponent, a_ownPublic, a_peerPublic, a_sentCount, a_recvNext, a_prevLength, a_turnDue, a_turnsMade, a_turnsTaken, a_pushedOut, a_accepted, a_lastWords, a_usedList, a_usedCount, a_knownList, a_knownCount, a_storePublic, a_storeNumber, a_storeKey, a_storeCount) (nI w) pub num :=
  nm_r (qf_m12 w) (Exists.intro (e + 1) (qx_fdS10 hw hs es H h e 0 (by omega) (e + 1) (by omega)))
theorem qx_findN {post : Int32 → Prop} {w sc : Nat} {pub num : Int32} (hw : w < 2) (hs : sc ≤ 12) (es : a_storeCount w = nI sc) (H : qr_nf w sc a_storePublic a_storeNumber pub num) (h : post (-1)) : wpX_findEntry post (f_skipLimit, f_storeLimit, a_pool, a_filled, a_root, a_sendChain, a_recvChain, a_hasSend, a_hasRecv, a_ownExponent, a_ownPublic, a_peerPublic, a_sentCount, a_recvNext, a_prevLength, a_turnDue, a_turnsMade, a_turnsTaken, a_pushedOut, a_accepted, a_lastWords, a_usedList, a_usedCount, a_knownList, a_knownCount, a_storePublic, a_storeNumber, a_storeKey, a_storeCount) (nI w) pub num :=
  nm_r (qf_m12 w) (Exists.intro (sc + 1) (qx_fdN10 hw hs es H h sc 0 (by omega) (sc + 1) (by omega)))
theorem qx_rm17 {post : SX → Prop} {w lo hi : Nat} (hw : w < 2) (hh : hi < 24) (hp : post (f_skipLimit, f_storeLimit, a_pool, a_filled, a_root, a_sendChain, a_recvChain, a_hasSend, a_hasRecv, a_ownExponent, a_ownPublic, a_peerPublic, a_sentCount, a_recvNext, a_prevLength, a_turnDue, a_turnsMade, a_turnsTaken, a_pushedOut, a_accepted, a_lastWords, a_usedList, a_usedCount, a_knownList, a_knownCount, qf_sh a_storePublic lo hi, qf_sh a_storeNumber lo hi, qf_sh a_storeKey lo hi, upd a_storeCount w (a_storeCount w - 1))) : ∀ d i, i + d = hi → lo ≤ i → ∀ n, d < n → wX_removeEntry_17 post (nI w) (nI hi) f_skipLimit f_storeLimit n (nI i) a_pool a_filled a_root a_sendChain a_recvChain a_hasSend a_hasRecv a_ownExponent a_ownPublic a_peerPublic a_sentCount a_recvNext a_prevLength a_turnDue a_turnsMade a_turnsTaken a_pushedOut a_accepted a_lastWords a_usedList a_usedCount a_knownList a_knownCount (qf_sh a_storePublic lo i) (qf_sh a_storeNumber lo i) (qf_sh a_storeKey lo i) a_storeCount := by
  have hin : vp_in (nI w) 2 := vp_in_nI hw (by decide)
  have ew : (nI w).toNatClampNeg = w := nI_clamp (by omega)
  intro d
  induction d with
  | zero =>
    intro i hi2 hl n hn
    obtain ⟨m, rfl⟩ : ∃ m, n = m + 1 := ⟨n - 1, by omega⟩
    obtain rfl : i = hi := by omega
    refine br_t (nI_le (by omega) (by omega)) ?_
    rw [ew]
    exact And.intro hin (And.intro hin (nm_e hp))
  | succ d ih =>
    intro i hi2 hl n hn
    obtain ⟨m, rfl⟩ : ∃ m, n = m + 1 := ⟨n - 1, by omega⟩
    have i1 : vp_in (nI i) 24 := vp_in_nI (by omega) (by decide)
    have i2 : vp_in (nI (i + 1)) 24 := vp_in_nI (by omega) (by decide)
    refine br_f (nI_ge (by omega) (by omega)) ?_
    rw [qf_a1 i, nI_clamp (n := i) (by omega), nI_clamp (n := i + 1) (by omega)]
    exact And.intro i2 (And.intro i1 (nm_r (qf_shs _ hl) (And.intro i2 (And.intro i1 (nm_r (qf_shs _ hl) (And.intro i2 (And.intro i1 (nm_r (qf_shs _ hl) (nm_e (ih (i + 1) (by omega) (by omega) m (by omega)))))))))))
theorem qx_remove {post : SX → Prop} {w sc e : Nat} (hw : w < 2) (hs : sc ≤ 12) (es : a_storeCount w = nI sc) (he : e < sc) (hp : post (f_skipLimit, f_storeLimit, a_pool, a_filled, a_root, a_sendChain, a_recvChain, a_hasSend, a_hasRecv, a_ownExponent, a_ownPublic, a_peerPublic, a_sentCount, a_recvNext, a_prevLength, a_turnDue, a_turnsMade, a_turnsTaken, a_pushedOut, a_accepted, a_lastWords, a_usedList, a_usedCount, a_knownList, a_knownCount, qf_sh a_storePublic (w * 12 + e) (w * 12 + (sc - 1)), qf_sh a_storeNumber (w * 12 + e) (w * 12 + (sc - 1)), qf_sh a_storeKey (w * 12 + e) (w * 12 + (sc - 1)), upd a_storeCount w (nI (sc - 1)))) : wpX_removeEntry post (f_skipLimit, f_storeLimit, a_pool, a_filled, a_root, a_sendChain, a_recvChain, a_hasSend, a_hasRecv, a_ownExponent, a_ownPublic, a_peerPublic, a_sentCount, a_recvNext, a_prevLength, a_turnDue, a_turnsMade, a_turnsTaken, a_pushedOut, a_accepted, a_lastWords, a_usedList, a_usedCount, a_knownList, a_knownCount, a_storePublic, a_storeNumber, a_storeKey, a_storeCount) (nI w) (nI (w * 12 + e)) := by
  have hin : vp_in (nI w) 2 := vp_in_nI hw (by decide)
  have e1 : a_storeCount w - 1 = nI (sc - 1) := by
    rw [es]; exact pk_sub (b := 1) (by omega)
  rw [← e1] at hp
  have L := qx_rm17 (lo := w * 12 + e) hw (by omega) hp (sc - 1 - e) (w * 12 + e) (by omega) (by omega) 13 (by omega)
  rw [qf_sh0, qf_sh0, qf_sh0] at L
  refine And.intro hin (nm_r (e' := nI (w * 12 + (sc - 1))) ?_ (Exists.intro 13 L))
  rw [nI_clamp (by omega), es, qf_m12, nI_add]
  exact (pk_sub (b := 1) (by omega)).trans (congrArg nI (by omega))
theorem qx_push32 {post : SX → Prop} {w sc : Nat} {pub num key : Int32} (hw : w < 2) (es : a_storeCount w = nI sc) (hs : sc < 12) (hp : post (f_skipLimit, f_storeLimit, a_pool, a_filled, a_root, a_sendChain, a_recvChain, a_hasSend, a_hasRecv, a_ownExponent, a_ownPublic, a_peerPublic, a_sentCount, a_recvNext, a_prevLength, a_turnDue, a_turnsMade, a_turnsTaken, a_pushedOut, a_accepted, a_lastWords, a_usedList, a_usedCount, a_knownList, a_knownCount, upd a_storePublic (w * 12 + sc) pub, upd a_storeNumber (w * 12 + sc) num, upd a_storeKey (w * 12 + sc) key, upd a_storeCount w (nI (sc + 1)))) : wX_pushEntry_32 post (nI w) pub num key f_skipLimit f_storeLimit a_pool a_filled a_root a_sendChain a_recvChain a_hasSend a_hasRecv a_ownExponent a_ownPublic a_peerPublic a_sentCount a_recvNext a_prevLength a_turnDue a_turnsMade a_turnsTaken a_pushedOut a_accepted a_lastWords a_usedList a_usedCount a_knownList a_knownCount a_storePublic a_storeNumber a_storeKey a_storeCount := by
  have hin : vp_in (nI w) 2 := vp_in_nI hw (by decide)
  have ew : (nI w).toNatClampNeg = w := nI_clamp (by omega)
  have h24 : vp_in (nI (w * 12 + sc)) 24 := vp_in_nI (by omega) (by decide)
  refine And.intro hin (nm_r (e' := nI (w * 12 + sc)) (by rw [ew, es, qf_m12, nI_add]) ?_)
  rw [ew, es, nI_clamp (by omega), qf_a1]
  exact And.intro h24 (nm_e (And.intro h24 (nm_e (And.intro h24 (nm_e (And.intro hin (And.intro hin (nm_e hp))))))))
theorem qx_push1 {post : SX → Prop} {w sc lim : Nat} {pub num key : Int32} (hw : w < 2) (es : a_storeCount w = nI sc) (el : f_storeLimit = nI lim) (hl : lim ≤ 12) (hs : sc < lim) (hp : post (f_skipLimit, f_storeLimit, a_pool, a_filled, a_root, a_sendChain, a_recvChain, a_hasSend, a_hasRecv, a_ownExponent, a_ownPublic, a_peerPublic, a_sentCount, a_recvNext, a_prevLength, a_turnDue, a_turnsMade, a_turnsTaken, a_pushedOut, a_accepted, a_lastWords, a_usedList, a_usedCount, a_knownList, a_knownCount, upd a_storePublic (w * 12 + sc) pub, upd a_storeNumber (w * 12 + sc) num, upd a_storeKey (w * 12 + sc) key, upd a_storeCount w (nI (sc + 1)))) : wpX_pushEntry post (f_skipLimit, f_storeLimit, a_pool, a_filled, a_root, a_sendChain, a_recvChain, a_hasSend, a_hasRecv, a_ownExponent, a_ownPublic, a_peerPublic, a_sentCount, a_recvNext, a_prevLength, a_turnDue, a_turnsMade, a_turnsTaken, a_pushedOut, a_accepted, a_lastWords, a_usedList, a_usedCount, a_knownList, a_knownCount, a_storePublic, a_storeNumber, a_storeKey, a_storeCount) (nI w) pub num key := by
  have hin : vp_in (nI w) 2 := vp_in_nI hw (by decide)
  have ew : (nI w).toNatClampNeg = w := nI_clamp (by omega)
  have hc : a_storeCount w < f_storeLimit := by rw [es, el]; exact nI_lt hs (by omega)
  refine And.intro hin ?_
  rw [ew]
  exact br_t hc (qx_push32 hw es (by omega) hp)
theorem qx_push2 {post : SX → Prop} {w sc lim : Nat} {pub num key : Int32} (hw : w < 2) (es : a_storeCount w = nI sc) (el : f_storeLimit = nI lim) (hl : lim ≤ 12) (h1 : 1 ≤ lim) (hs : sc = lim) (hp : post (f_skipLimit, f_storeLimit, a_pool, a_filled, a_root, a_sendChain, a_recvChain, a_hasSend, a_hasRecv, a_ownExponent, a_ownPublic, a_peerPublic, a_sentCount, a_recvNext, a_prevLength, a_turnDue, a_turnsMade, a_turnsTaken, upd a_pushedOut w (a_pushedOut w + 1), a_accepted, a_lastWords, a_usedList, a_usedCount, a_knownList, a_knownCount, upd (qf_sh a_storePublic (w * 12 + 0) (w * 12 + (sc - 1))) (w * 12 + (sc - 1)) pub, upd (qf_sh a_storeNumber (w * 12 + 0) (w * 12 + (sc - 1))) (w * 12 + (sc - 1)) num, upd (qf_sh a_storeKey (w * 12 + 0) (w * 12 + (sc - 1))) (w * 12 + (sc - 1)) key, upd (upd a_storeCount w (nI (sc - 1))) w (nI (sc - 1 + 1)))) : wpX_pushEntry post (f_skipLimit, f_storeLimit, a_pool, a_filled, a_root, a_sendChain, a_recvChain, a_hasSend, a_hasRecv, a_ownExponent, a_ownPublic, a_peerPublic, a_sentCount, a_recvNext, a_prevLength, a_turnDue, a_turnsMade, a_turnsTaken, a_pushedOut, a_accepted, a_lastWords, a_usedList, a_usedCount, a_knownList, a_knownCount, a_storePublic, a_storeNumber, a_storeKey, a_storeCount) (nI w) pub num key := by
  have hin : vp_in (nI w) 2 := vp_in_nI hw (by decide)
  have ew : (nI w).toNatClampNeg = w := nI_clamp (by omega)
  have hc : ¬ a_storeCount w < f_storeLimit := by rw [es, el]; exact nI_nlt (by omega) (by omega)
  refine And.intro hin ?_
  rw [ew]
  refine br_f hc ?_
  rw [qf_m12]
  refine qx_remove (e := 0) hw (by omega) es (by omega) ?_
  dsimp only
  exact And.intro hin (And.intro hin (nm_e (qx_push32 hw pk_us (by omega) hp)))
theorem qx_sk0 {post : SX → Prop} {w en k n : Nat} {c : Int32} (hw : w < 2) (hk : en ≤ k) (hb : k < 100) (hp : post (f_skipLimit, f_storeLimit, a_pool, a_filled, a_root, a_sendChain, upd a_recvChain w c, a_hasSend, a_hasRecv, a_ownExponent, a_ownPublic, a_peerPublic, a_sentCount, a_recvNext, a_prevLength, a_turnDue, a_turnsMade, a_turnsTaken, a_pushedOut, a_accepted, a_lastWords, a_usedList, a_usedCount, a_knownList, a_knownCount, a_storePublic, a_storeNumber, a_storeKey, a_storeCount)) : wX_storeKeysBefore_15 post (nI w) (nI en) (n + 1) c (nI k) f_skipLimit f_storeLimit a_pool a_filled a_root a_sendChain a_recvChain a_hasSend a_hasRecv a_ownExponent a_ownPublic a_peerPublic a_sentCount a_recvNext a_prevLength a_turnDue a_turnsMade a_turnsTaken a_pushedOut a_accepted a_lastWords a_usedList a_usedCount a_knownList a_knownCount a_storePublic a_storeNumber a_storeKey a_storeCount := by
  have hin : vp_in (nI w) 2 := vp_in_nI hw (by decide)
  refine br_t (nI_le hk (by omega)) ?_
  rw [nI_clamp (by omega)]
  exact And.intro hin (nm_e hp)
theorem qx_sk1 {post : SX → Prop} {w en k n sc lim : Nat} {c : Int32} (hw : w < 2) (es : a_storeCount w = nI sc) (el : f_storeLimit = nI lim) (hl : lim ≤ 12) (hs : sc < lim) (hk : k < en) (hb : en < 100) (hp : wX_storeKeysBefore_15 post (nI w) (nI en) n (qf_mix c 4) (nI (k + 1)) f_skipLimit f_storeLimit a_pool a_filled a_root a_sendChain a_recvChain a_hasSend a_hasRecv a_ownExponent a_ownPublic a_peerPublic a_sentCount a_recvNext a_prevLength a_turnDue a_turnsMade a_turnsTaken a_pushedOut a_accepted a_lastWords a_usedList a_usedCount a_knownList a_knownCount (upd a_storePublic (w * 12 + sc) (a_peerPublic w)) (upd a_storeNumber (w * 12 + sc) (nI k)) (upd a_storeKey (w * 12 + sc) (qf_mix c 3)) (upd a_storeCount w (nI (sc + 1)))) : wX_storeKeysBefore_15 post (nI w) (nI en) (n + 1) c (nI k) f_skipLimit f_storeLimit a_pool a_filled a_root a_sendChain a_recvChain a_hasSend a_hasRecv a_ownExponent a_ownPublic a_peerPublic a_sentCount a_recvNext a_prevLength a_turnDue a_turnsMade a_turnsTaken a_pushedOut a_accepted a_lastWords a_usedList a_usedCount a_knownList a_knownCount a_storePublic a_storeNumber a_storeKey a_storeCount := by
  have hin : vp_in (nI w) 2 := vp_in_nI hw (by decide)
  refine br_f (nI_ge hk (by omega)) (qx_mix (And.intro hin ?_))
  rw [nI_clamp (n := w) (by omega)]
  refine qx_push1 hw es el hl hs ?_
  dsimp only
  exact qx_mix (nm_r (nI_1 k) hp)
theorem qx_sk2 {post : SX → Prop} {w en k n sc lim : Nat} {c : Int32} (hw : w < 2) (es : a_storeCount w = nI sc) (el : f_storeLimit = nI lim) (hl : lim ≤ 12) (h1 : 1 ≤ lim) (hs : sc = lim) (hk : k < en) (hb : en < 100) (hp : wX_storeKeysBefore_15 post (nI w) (nI en) n (qf_mix c 4) (nI (k + 1)) f_skipLimit f_storeLimit a_pool a_filled a_root a_sendChain a_recvChain a_hasSend a_hasRecv a_ownExponent a_ownPublic a_peerPublic a_sentCount a_recvNext a_prevLength a_turnDue a_turnsMade a_turnsTaken (upd a_pushedOut w (a_pushedOut w + 1)) a_accepted a_lastWords a_usedList a_usedCount a_knownList a_knownCount (upd (qf_sh a_storePublic (w * 12 + 0) (w * 12 + (sc - 1))) (w * 12 + (sc - 1)) (a_peerPublic w)) (upd (qf_sh a_storeNumber (w * 12 + 0) (w * 12 + (sc - 1))) (w * 12 + (sc - 1)) (nI k)) (upd (qf_sh a_storeKey (w * 12 + 0) (w * 12 + (sc - 1))) (w * 12 + (sc - 1)) (qf_mix c 3)) (upd (upd a_storeCount w (nI (sc - 1))) w (nI (sc - 1 + 1)))) : wX_storeKeysBefore_15 post (nI w) (nI en) (n + 1) c (nI k) f_skipLimit f_storeLimit a_pool a_filled a_root a_sendChain a_recvChain a_hasSend a_hasRecv a_ownExponent a_ownPublic a_peerPublic a_sentCount a_recvNext a_prevLength a_turnDue a_turnsMade a_turnsTaken a_pushedOut a_accepted a_lastWords a_usedList a_usedCount a_knownList a_knownCount a_storePublic a_storeNumber a_storeKey a_storeCount := by
  have hin : vp_in (nI w) 2 := vp_in_nI hw (by decide)
  refine br_f (nI_ge hk (by omega)) (qx_mix (And.intro hin ?_))
  rw [nI_clamp (n := w) (by omega)]
  refine qx_push2 hw es el hl h1 hs ?_
  dsimp only
  exact qx_mix (nm_r (nI_1 k) hp)
end
end
section
/-! the reference's small methods -/
section
variable {f_shared f_skipLimit f_storeLimit : Int32} {a_pool a_full a_state a_ownExponent a_word a_agreed a_agreedCount a_publics a_chain a_store a_size : Nat → Int32}
theorem qy_mix {post : Int32 → Prop} {u : SY} {a b : Int32} (h : post (qf_mix a b)) : wpY_mix post u a b := by
  obtain ⟨f_shared, f_skipLimit, f_storeLimit, a_pool, a_full, a_state, a_ownExponent, a_word, a_agreed, a_agreedCount, a_publics, a_chain, a_store, a_size⟩ := u
  intro x1 e1 x2 e2 x3 e3
  subst e1 e2 e3
  exact h
theorem qy_pow5 {post : Int32 → Prop} {b x : Nat} (hb : b < 2147483647) (hx : x < 1024) (h : post (nI (b ^ x % 2147483647))) : ∀ d i, i + d = x → ∀ n, d < n → wY_pow_5 post (nI b) (nI x) f_shared f_skipLimit f_storeLimit a_pool a_full a_state a_ownExponent a_word a_agreed a_agreedCount a_publics a_chain a_store a_size n (lN (b ^ i % 2147483647)) (nI i) := by
  intro d
  induction d with
  | zero =>
    intro i hi n hn
    obtain ⟨m, rfl⟩ : ∃ m, n = m + 1 := ⟨n - 1, by omega⟩
    obtain rfl : i = x := by omega
    refine br_t (nI_le (by omega) (by omega)) ?_
    rw [lN_i]
    exact h
  | succ d ih =>
    intro i hi n hn
    obtain ⟨m, rfl⟩ : ∃ m, n = m + 1 := ⟨n - 1, by omega⟩
    have hp := qf_pl b i
    refine br_f (nI_ge (by omega) (by omega)) (br_f (nI_ge (b := 1023) (by omega) (by decide)) (And.intro (by decide) (nm_r ?_ (nm_r (nI_1 i) (ih (i + 1) (by omega) m (by omega))))))
    rw [nI_l (by omega), qf_lrem (by omega) (by omega), Nat.pow_succ, Nat.mul_mod (b ^ i % 2147483647) b, Nat.mod_mod, ← Nat.mul_mod]
theorem qy_pow {post : Int32 → Prop} {u : SY} {b x : Nat} (hb : b < 2147483647) (hx : x < 1024) (h : post (nI (b ^ x % 2147483647))) : wpY_pow post u (nI b) (nI x) := by
  obtain ⟨f_shared, f_skipLimit, f_storeLimit, a_pool, a_full, a_state, a_ownExponent, a_word, a_agreed, a_agreedCount, a_publics, a_chain, a_store, a_size⟩ := u
  exact Exists.intro (x + 1) (qy_pow5 hb hx h x 0 (by omega) (x + 1) (by omega))
theorem qy_clamp {post : Int32 → Prop} {u : SY} {v lo hi : Int32} (h : post (qf_clamp v lo hi)) : wpY_clamp post u v lo hi := by
  obtain ⟨f_shared, f_skipLimit, f_storeLimit, a_pool, a_full, a_state, a_ownExponent, a_word, a_agreed, a_agreedCount, a_publics, a_chain, a_store, a_size⟩ := u
  refine br_c (fun h1 => br_c (fun h2 => ?_) (fun h2 => ?_)) (fun h1 => ?_)
  · rw [qf_clamp, if_pos h1, if_pos h2] at h; exact h
  · rw [qf_clamp, if_pos h1, if_neg h2] at h; exact h
  · rw [qf_clamp, if_neg h1] at h; exact h
theorem qy_ep {post : Int32 → Prop} {u : SY} {w : Nat} (hw : w < 2) (h : post 1) : wpY_isEndpoint post u (nI w) := by
  obtain ⟨f_shared, f_skipLimit, f_storeLimit, a_pool, a_full, a_state, a_ownExponent, a_word, a_agreed, a_agreedCount, a_publics, a_chain, a_store, a_size⟩ := u
  have e : w = 0 ∨ w = 1 := by omega
  rcases e with e | e
  · rw [e]; exact br_t nI_0 h
  · rw [e]; exact br_f (by decide) (br_t (by decide) h)
theorem qy_nep {post : Int32 → Prop} {u : SY} {x : Int32} (h0 : ¬ x = 0) (h1 : ¬ x = 1) (h : post 0) : wpY_isEndpoint post u x := by
  obtain ⟨f_shared, f_skipLimit, f_storeLimit, a_pool, a_full, a_state, a_ownExponent, a_word, a_agreed, a_agreedCount, a_publics, a_chain, a_store, a_size⟩ := u
  exact br_f h0 (br_f h1 h)
theorem qy_hold {post : Int32 → Prop} {x : Int32} {s : Nat} (H : qr_hold a_full x s) (h : post 1) : wpY_holds post (f_shared, f_skipLimit, f_storeLimit, a_pool, a_full, a_state, a_ownExponent, a_word, a_agreed, a_agreedCount, a_publics, a_chain, a_store, a_size) x := by
  obtain ⟨hs, rfl, hf⟩ := H
  refine br_f (nI_pos (by omega)) (br_f (nI_ge (b := 16) hs (by decide)) (And.intro (vp_in_nI hs (by decide)) ?_))
  rw [nI_clamp (by omega)]
  exact br_f hf h
theorem qy_nhold {post : Int32 → Prop} {x : Int32} (H : ∀ s, ¬ qr_hold a_full x s) (h : post 0) : wpY_holds post (f_shared, f_skipLimit, f_storeLimit, a_pool, a_full, a_state, a_ownExponent, a_word, a_agreed, a_agreedCount, a_publics, a_chain, a_store, a_size) x := by
  refine br_c (fun _ => h) (fun h0 => br_c (fun _ => h) (fun h1 => ?_))
  rcases pk_ix x (n := 16) (by decide) with e | e | ⟨s, hs, e⟩
  · exact absurd e h0
  · exact absurd e h1
  · refine And.intro (e ▸ vp_in_nI hs (by decide)) (br_t ?_ h)
    rw [e, nI_clamp (by omega)]
    exact Classical.byContradiction fun z => H s ⟨hs, e, z⟩
theorem qy_slotS2 {post : Int32 → Prop} {s : Nat} (hs : s < 16) (hz : a_full s = 0) (h : post (nI s)) : ∀ d i, i + d = s → ∀ n, d < n → (∀ j, i ≤ j → j < s → ¬ a_full j = 0) → wY_freeSlot_2 post f_shared f_skipLimit f_storeLimit a_pool a_full a_state a_ownExponent a_word a_agreed a_agreedCount a_publics a_chain a_store a_size n (nI i) := by
  intro d
  induction d with
  | zero =>
    intro i hi n hn hj
    obtain ⟨m, rfl⟩ : ∃ m, n = m + 1 := ⟨n - 1, by omega⟩
    obtain rfl : i = s := by omega
    refine br_f (nI_ge (b := 16) hs (by decide)) (And.intro (vp_in_nI hs (by decide)) (br_t ?_ h))
    rw [nI_clamp (by omega)]
    exact hz
  | succ d ih =>
    intro i hi n hn hj
    obtain ⟨m, rfl⟩ : ∃ m, n = m + 1 := ⟨n - 1, by omega⟩
    refine br_f (nI_ge (b := 16) (by omega) (by decide)) (And.intro (vp_in_nI (by omega) (by decide)) (br_f ?_ (nm_r (nI_1 i) (ih (i + 1) (by omega) m (by omega) (fun j a b => hj j (by omega) b)))))
    rw [nI_clamp (by omega)]
    exact hj i (by omega) (by omega)
theorem qy_slotN2 {post : Int32 → Prop} (h : post (-1)) : ∀ d i, i + d = 16 → ∀ n, d < n → (∀ j, i ≤ j → j < 16 → ¬ a_full j = 0) → wY_freeSlot_2 post f_shared f_skipLimit f_storeLimit a_pool a_full a_state a_ownExponent a_word a_agreed a_agreedCount a_publics a_chain a_store a_size n (nI i) := by
  intro d
  induction d with
  | zero =>
    intro i hi n hn hj
    obtain ⟨m, rfl⟩ : ∃ m, n = m + 1 := ⟨n - 1, by omega⟩
    exact br_t (nI_le (a := 16) (by omega) (by omega)) h
  | succ d ih =>
    intro i hi n hn hj
    obtain ⟨m, rfl⟩ : ∃ m, n = m + 1 := ⟨n - 1, by omega⟩
    refine br_f (nI_ge (b := 16) (by omega) (by decide)) (And.intro (vp_in_nI (by omega) (by decide)) (br_f ?_ (nm_r (nI_1 i) (ih (i + 1) (by omega) m (by omega) (fun j a b => hj j (by omega) b)))))
    rw [nI_clamp (by omega)]
    exact hj i (by omega) (by omega)
theorem qy_slotS {post : Int32 → Prop} {s : Nat} (hs : s < 16) (hz : a_full s = 0) (hj : ∀ j, j < s → ¬ a_full j = 0) (h : post (nI s)) : wpY_freeSlot post (f_shared, f_skipLimit, f_storeLimit, a_pool, a_full, a_state, a_ownExponent, a_word, a_agreed, a_agreedCount, a_publics, a_chain, a_store, a_size) :=
  Exists.intro (s + 1) (qy_slotS2 hs hz h s 0 (by omega) (s + 1) (by omega) (fun j _ b => hj j b))
theorem qy_slotN {post : Int32 → Prop} (hj : ∀ j, j < 16 → ¬ a_full j = 0) (h : post (-1)) : wpY_freeSlot post (f_shared, f_skipLimit, f_storeLimit, a_pool, a_full, a_state, a_ownExponent, a_word, a_agreed, a_agreedCount, a_publics, a_chain, a_store, a_size) :=
  Exists.intro 17 (qy_slotN2 h 16 0 (by omega) 17 (by omega) (fun j _ b => hj j b))
theorem qr_slot (fl : Nat → Int32) : ∀ n, (∃ s, s < n ∧ fl s = 0 ∧ ∀ j, j < s → ¬ fl j = 0) ∨ (∀ j, j < n → ¬ fl j = 0) := by
  intro n
  induction n with
  | zero => exact Or.inr (fun j hj => by omega)
  | succ n ih =>
    rcases ih with ⟨s, h1, h2, h3⟩ | h
    · exact Or.inl ⟨s, by omega, h2, h3⟩
    · by_cases z : fl n = 0
      · exact Or.inl ⟨n, by omega, z, h⟩
      · refine Or.inr (fun j hj => ?_)
        by_cases ej : j = n
        · rw [ej]; exact z
        · exact h j (by omega)
theorem qy_isIn2 {post : Int32 → Prop} {l : Nat} {v : Int32} (hl : l < 4) : ∀ d i, i + d = 17 → ∀ n, d < n → ((v ≠ 0 ∧ ∃ j, i ≤ j ∧ j < 17 ∧ a_publics (l * 17 + j) = v) → post 1) → (¬ (v ≠ 0 ∧ ∃ j, i ≤ j ∧ j < 17 ∧ a_publics (l * 17 + j) = v) → post 0) → wY_isIn_2 post (nI l) v f_shared f_skipLimit f_storeLimit a_pool a_full a_state a_ownExponent a_word a_agreed a_agreedCount a_publics a_chain a_store a_size n (nI i) := by
  intro d
  induction d with
  | zero =>
    intro i hi n hn h1 h0
    obtain ⟨m, rfl⟩ : ∃ m, n = m + 1 := ⟨n - 1, by omega⟩
    exact br_t (nI_le (a := 17) (by omega) (by omega)) (h0 fun ⟨_, j, a, b, _⟩ => by omega)
  | succ d ih =>
    intro i hi n hn h1 h0
    obtain ⟨m, rfl⟩ : ∃ m, n = m + 1 := ⟨n - 1, by omega⟩
    refine br_f (nI_ge (b := 17) (by omega) (by decide)) ?_
    rw [qf_m17, nI_add, nI_clamp (by omega)]
    refine br_c (fun z => nm_r (nI_1 i) (ih (i + 1) (by omega) m (by omega) (fun q => absurd z q.1) (fun _ => h0 fun q => q.1 z))) (fun z => And.intro (vp_in_nI (by omega) (by decide)) (br_c (fun e => h1 ⟨z, i, by omega, by omega, e⟩) (fun e => nm_r (nI_1 i) (ih (i + 1) (by omega) m (by omega) (fun ⟨_, j, a, b, c⟩ => h1 ⟨z, j, by omega, b, c⟩) (fun q => h0 fun ⟨_, j, a, b, c⟩ => ?_)))))
    by_cases ej : j = i
    · exact e (ej ▸ c)
    · exact q ⟨z, j, by omega, b, c⟩
theorem qy_isIn {post : Int32 → Prop} {l : Nat} {v : Int32} (hl : l < 4) (h1 : (v ≠ 0 ∧ ∃ j, j < 17 ∧ a_publics (l * 17 + j) = v) → post 1) (h0 : ¬ (v ≠ 0 ∧ ∃ j, j < 17 ∧ a_publics (l * 17 + j) = v) → post 0) : wpY_isIn post (f_shared, f_skipLimit, f_storeLimit, a_pool, a_full, a_state, a_ownExponent, a_word, a_agreed, a_agreedCount, a_publics, a_chain, a_store, a_size) (nI l) v :=
  Exists.intro 18 (qy_isIn2 hl 17 0 (by omega) 18 (by omega) (fun ⟨z, j, _, b, e⟩ => h1 ⟨z, j, b, e⟩) (fun q => h0 fun ⟨z, j, b, e⟩ => q ⟨z, j, by omega, b, e⟩))
theorem qy_root14 {post : Int32 → Prop} {w k : Nat} (hw : w < 2) (hk : k ≤ 16) (h : post (qf_root f_shared a_agreed w k)) : ∀ d i, i + d = k → ∀ n, d < n → wY_root_14 post (nI w) (nI k) f_shared f_skipLimit f_storeLimit a_pool a_full a_state a_ownExponent a_word a_agreed a_agreedCount a_publics a_chain a_store a_size n (qf_root f_shared a_agreed w i) (nI i) := by
  intro d
  induction d with
  | zero =>
    intro i hi n hn
    obtain ⟨m, rfl⟩ : ∃ m, n = m + 1 := ⟨n - 1, by omega⟩
    obtain rfl : i = k := by omega
    exact br_t (nI_le (by omega) (by omega)) h
  | succ d ih =>
    intro i hi n hn
    obtain ⟨m, rfl⟩ : ∃ m, n = m + 1 := ⟨n - 1, by omega⟩
    refine br_f (nI_ge (by omega) (by omega)) (br_f (nI_ge (b := 16) (by omega) (by decide)) ?_)
    rw [qf_m16, nI_add, nI_clamp (by omega)]
    exact And.intro (vp_in_nI (by omega) (by decide)) (qy_mix (qy_mix (nm_r (nI_1 i) (ih (i + 1) (by omega) m (by omega)))))
theorem qy_root {post : Int32 → Prop} {w k : Nat} (hw : w < 2) (hk : k ≤ 16) (h : post (qf_root f_shared a_agreed w k)) : wpY_root post (f_shared, f_skipLimit, f_storeLimit, a_pool, a_full, a_state, a_ownExponent, a_word, a_agreed, a_agreedCount, a_publics, a_chain, a_store, a_size) (nI w) (nI k) := by
  unfold wpY_root
  dsimp only
  exact qy_mix (Exists.intro (k + 1) (qy_root14 hw hk h k 0 (by omega) (k + 1) (by omega)))
theorem qy_start {post : Int32 → Prop} {w j : Nat} (hw : w < 2) (hj : j < 16) (h : post (qf_start f_shared a_agreed w j)) : wpY_start post (f_shared, f_skipLimit, f_storeLimit, a_pool, a_full, a_state, a_ownExponent, a_word, a_agreed, a_agreedCount, a_publics, a_chain, a_store, a_size) (nI w) (nI (j + 1)) := by
  have e : nI w * 16 + nI (j + 1) - 1 = nI (w * 16 + j) := by
    rw [qf_m16, nI_add]; exact nI_pred (w * 16 + j)
  unfold wpY_start
  dsimp only
  rw [nI_pred, e, nI_clamp (by omega)]
  exact qy_root hw (by omega) (And.intro (vp_in_nI (by omega) (by decide)) (qy_mix h))
theorem qy_link10 {post : Int32 → Prop} {s : Int32} {k : Nat} (hk : k ≤ 12) (h : post (qf_link s k)) : ∀ d i, i + d = k → ∀ n, d < n → wY_link_10 post (nI k) f_shared f_skipLimit f_storeLimit a_pool a_full a_state a_ownExponent a_word a_agreed a_agreedCount a_publics a_chain a_store a_size n (qf_link s i) (nI i) := by
  intro d
  induction d with
  | zero =>
    intro i hi n hn
    obtain ⟨m, rfl⟩ : ∃ m, n = m + 1 := ⟨n - 1, by omega⟩
    obtain rfl : i = k := by omega
    exact br_t (nI_le (by omega) (by omega)) h
  | succ d ih =>
    intro i hi n hn
    obtain ⟨m, rfl⟩ : ∃ m, n = m + 1 := ⟨n - 1, by omega⟩
    exact br_f (nI_ge (by omega) (by omega)) (br_f (nI_ge (b := 12) (by omega) (by decide)) (qy_mix (nm_r (nI_1 i) (ih (i + 1) (by omega) m (by omega)))))
theorem qy_link {post : Int32 → Prop} {u : SY} {s : Int32} {k : Nat} (hk : k ≤ 12) (h : post (qf_link s k)) : wpY_link post u s (nI k) := by
  obtain ⟨f_shared, f_skipLimit, f_storeLimit, a_pool, a_full, a_state, a_ownExponent, a_word, a_agreed, a_agreedCount, a_publics, a_chain, a_store, a_size⟩ := u
  unfold wpY_link
  dsimp only
  exact qy_mix (Exists.intro (k + 1) (qy_link10 hk h k 0 (by omega) (k + 1) (by omega)))
theorem qy_key {post : Int32 → Prop} {u : SY} {s : Int32} {k : Nat} (hk : k ≤ 12) (h : post (qf_key s k)) : wpY_key post u s (nI k) := by
  obtain ⟨f_shared, f_skipLimit, f_storeLimit, a_pool, a_full, a_state, a_ownExponent, a_word, a_agreed, a_agreedCount, a_publics, a_chain, a_store, a_size⟩ := u
  unfold wpY_key
  dsimp only
  exact qy_link hk (qy_mix h)
theorem qy_tag1 {post : Int32 → Prop} {s i n : Nat} {t : Int32} (hs : s < 16) (hi : i < 4) (h : wY_rightTag_28 post (nI s) f_shared f_skipLimit f_storeLimit a_pool a_full a_state a_ownExponent a_word a_agreed a_agreedCount a_publics a_chain a_store a_size n (qf_mix t (a_pool (s * 6 + i))) (nI (i + 1))) : wY_rightTag_28 post (nI s) f_shared f_skipLimit f_storeLimit a_pool a_full a_state a_ownExponent a_word a_agreed a_agreedCount a_publics a_chain a_store a_size (n + 1) t (nI i) := by
  refine br_f (nI_ge (b := 4) hi (by decide)) ?_
  rw [qf_m6, nI_add, nI_clamp (by omega)]
  exact And.intro (vp_in_nI (by omega) (by decide)) (qy_mix (nm_r (nI_1 i) h))
theorem qy_tag {post : Int32 → Prop} {s : Nat} {k : Int32} (hs : s < 16) (h : post (qf_tag k a_pool s)) : wpY_rightTag post (f_shared, f_skipLimit, f_storeLimit, a_pool, a_full, a_state, a_ownExponent, a_word, a_agreed, a_agreedCount, a_publics, a_chain, a_store, a_size) k (nI s) := by
  unfold wpY_rightTag
  dsimp only
  refine qy_mix ?_
  rw [qf_m6, qf_a5, nI_clamp (by omega)]
  refine And.intro (vp_in_nI (by omega) (by decide)) (qy_mix (Exists.intro 5 ?_))
  refine qy_tag1 (i := 0) hs (by omega) (qy_tag1 hs (by omega) (qy_tag1 hs (by omega) (qy_tag1 hs (by omega) ?_)))
  exact br_t (nI_le (a := 4) (b := 4) (by omega) (by decide)) h
theorem qy_open0 {post : SY → Prop} {w ac : Nat} {d pub : Int32} (hw : w < 2) (ea : a_agreedCount w = nI ac) (hac : ac < 16) (hp : post (f_shared, f_skipLimit, f_storeLimit, a_pool, a_full, upd (upd (upd a_state (w * 10) pub) (w * 10 + 6) (a_state (w * 10 + 6) + 1)) (w * 10 + 5) 0, a_ownExponent, a_word, upd a_agreed (w * 16 + ac) d, upd a_agreedCount w (nI (ac + 1)), upd a_publics (w * 17 + (ac + 1)) pub, upd a_chain w (nI (ac + 1)), a_store, a_size)) : wpY_open post (f_shared, f_skipLimit, f_storeLimit, a_pool, a_full, a_state, a_ownExponent, a_word, a_agreed, a_agreedCount, a_publics, a_chain, a_store, a_size) (nI w) 0 d pub := by
  have e2 : (2 * 0 : Int32) + nI w = nI w := by
    rw [show (2 * 0 : Int32) = nI 0 from rfl, nI_add, Nat.zero_add]
  unfold wpY_open
  simp (disch := omega) only [nI_clamp, nI_add, qf_m3, qf_m6, qf_m9, qf_m10, qf_m12, qf_m16, qf_m17, qf_m36, qf_a0, qf_a1, qf_a2, qf_a3, qf_a4, qf_a5, qf_a6, qf_a7, qf_a8, qf_a9, qf_2p, qf_in, forall_eq, true_and, pk_us, pk_un, qf_nb0, qf_nb1, ea, e2, not_true_eq_false, false_implies, and_true, forall_const, wY_open_84, wY_open_107]
  exact hp
theorem qy_open1 {post : SY → Prop} {w ac : Nat} {d pub : Int32} (hw : w < 2) (ea : a_agreedCount w = nI ac) (hac : ac < 16) (hp : post (f_shared, f_skipLimit, f_storeLimit, a_pool, a_full, upd (upd (upd a_state (w * 10 + 1) pub) (w * 10 + 7) (a_state (w * 10 + 7) + 1)) (w * 10 + 5) 1, a_ownExponent, a_word, upd a_agreed (w * 16 + ac) d, upd a_agreedCount w (nI (ac + 1)), upd a_publics ((2 + w) * 17 + (ac + 1)) pub, upd a_chain (2 + w) (nI (ac + 1)), a_store, a_size)) : wpY_open post (f_shared, f_skipLimit, f_storeLimit, a_pool, a_full, a_state, a_ownExponent, a_word, a_agreed, a_agreedCount, a_publics, a_chain, a_store, a_size) (nI w) 1 d pub := by
  have e2 : (2 * 1 : Int32) + nI w = nI (2 + w) := by
    rw [show (2 * 1 : Int32) = nI 2 from rfl, nI_add]
  have e3 : ¬ (1 : Int32) = 0 := by decide
  have e4 : nI (w * 10) + 1 = nI (w * 10 + 1) := qf_a1 _
  unfold wpY_open
  simp (disch := omega) only [nI_clamp, nI_add, qf_m3, qf_m6, qf_m9, qf_m10, qf_m12, qf_m16, qf_m17, qf_m36, qf_a0, qf_a1, qf_a2, qf_a3, qf_a4, qf_a5, qf_a6, qf_a7, qf_a8, qf_a9, qf_2p, qf_in, forall_eq, true_and, pk_us, pk_un, qf_nb0, qf_nb1, ea, e2, e3, not_false_eq_true, false_implies, forall_const, true_and, and_true, wY_open_84, wY_open_107]
  exact hp
end
end
section
/-! the reference's store -/
def qr_st (w sc : Nat) (SP SN SK st : Nat → Int32) : Prop := ∀ i, i < sc → st (w * 36 + i * 3) = SP (w * 12 + i) ∧ st (w * 36 + i * 3 + 1) = SN (w * 12 + i) ∧ st (w * 36 + i * 3 + 2) = SK (w * 12 + i)
section
variable {f_shared f_skipLimit f_storeLimit : Int32} {a_pool a_full a_state a_ownExponent a_word a_agreed a_agreedCount a_publics a_chain a_store a_size : Nat → Int32} {a_storePublic a_storeNumber a_storeKey : Nat → Int32}
theorem qy_fdS3 {post : Int32 → Prop} {w sc e : Nat} {pub num : Int32} (hw : w < 2) (hs : sc ≤ 12) (es : a_size w = nI sc) (T : qr_st w sc a_storePublic a_storeNumber a_storeKey a_store) (H : qr_fd w sc a_storePublic a_storeNumber pub num e) (h : post (nI e)) : ∀ d i, i + d = e → ∀ n, d < n → wY_find_3 post (nI w) pub num f_shared f_skipLimit f_storeLimit a_pool a_full a_state a_ownExponent a_word a_agreed a_agreedCount a_publics a_chain a_store a_size n (nI i) := by
  obtain ⟨he, ⟨h1, h2⟩, h3⟩ := H
  have hin : vp_in (nI w) 2 := vp_in_nI hw (by decide)
  have ew : (nI w).toNatClampNeg = w := nI_clamp (by omega)
  intro d
  induction d with
  | zero =>
    intro i hi n hn
    obtain ⟨m, rfl⟩ : ∃ m, n = m + 1 := ⟨n - 1, by omega⟩
    obtain rfl : i = e := by omega
    obtain ⟨t1, t2, _⟩ := T i he
    refine And.intro hin ?_
    rw [ew, es]
    refine br_f (nI_ge (by omega) (by omega)) ?_
    rw [qf_m36, qf_m3, nI_add, qf_a1, nI_clamp (n := w * 36 + i * 3) (by omega), nI_clamp (n := w * 36 + i * 3 + 1) (by omega)]
    exact And.intro (vp_in_nI (by omega) (by decide)) (br_t (t1.trans h1) (And.intro (vp_in_nI (by omega) (by decide)) (br_t (t2.trans h2) h)))
  | succ d ih =>
    intro i hi n hn
    obtain ⟨m, rfl⟩ : ∃ m, n = m + 1 := ⟨n - 1, by omega⟩
    obtain ⟨t1, t2, _⟩ := T i (by omega)
    have hn := ih (i + 1) (by omega) m (by omega)
    refine And.intro hin ?_
    rw [ew, es]
    refine br_f (nI_ge (by omega) (by omega)) ?_
    rw [qf_m36, qf_m3, nI_add, qf_a1, nI_clamp (n := w * 36 + i * 3) (by omega), nI_clamp (n := w * 36 + i * 3 + 1) (by omega)]
    exact And.intro (vp_in_nI (by omega) (by decide)) (br_c (fun e1 => And.intro (vp_in_nI (by omega) (by decide)) (br_f (fun e2 => h3 i (by omega) ⟨t1.symm.trans e1, t2.symm.trans e2⟩) (nm_r (qf_a1 _) hn))) (fun e1 => nm_r (qf_a1 _) hn))
theorem qy_fdN3 {post : Int32 → Prop} {w sc : Nat} {pub num : Int32} (hw : w < 2) (hs : sc ≤ 12) (es : a_size w = nI sc) (T : qr_st w sc a_storePublic a_storeNumber a_storeKey a_store) (H : qr_nf w sc a_storePublic a_storeNumber pub num) (h : post (-1)) : ∀ d i, i + d = sc → ∀ n, d < n → wY_find_3 post (nI w) pub num f_shared f_skipLimit f_storeLimit a_pool a_full a_state a_ownExponent a_word a_agreed a_agreedCount a_publics a_chain a_store a_size n (nI i) := by
  have hin : vp_in (nI w) 2 := vp_in_nI hw (by decide)
  have ew : (nI w).toNatClampNeg = w := nI_clamp (by omega)
  intro d
  induction d with
  | zero =>
    intro i hi n hn
    obtain ⟨m, rfl⟩ : ∃ m, n = m + 1 := ⟨n - 1, by omega⟩
    refine And.intro hin ?_
    rw [ew, es]
    exact br_t (nI_le (by omega) (by omega)) h
  | succ d ih =>
    intro i hi n hn
    obtain ⟨m, rfl⟩ : ∃ m, n = m + 1 := ⟨n - 1, by omega⟩
    obtain ⟨t1, t2, _⟩ := T i (by omega)
    have hn := ih (i + 1) (by omega) m (by omega)
    refine And.intro hin ?_
    rw [ew, es]
    refine br_f (nI_ge (by omega) (by omega)) ?_
    rw [qf_m36, qf_m3, nI_add, qf_a1, nI_clamp (n := w * 36 + i * 3) (by omega), nI_clamp (n := w * 36 + i * 3 + 1) (by omega)]
    exact And.intro (vp_in_nI (by omega) (by decide)) (br_c (fun e1 => And.intro (vp_in_nI (by omega) (by decide)) (br_f (fun e2 => H i (by omega) ⟨t1.symm.trans e1, t2.symm.trans e2⟩) (nm_r (qf_a1 _) hn))) (fun e1 => nm_r (qf_a1 _) hn))
theorem qy_findS {post : Int32 → Prop} {w sc e : Nat} {pub num : Int32} (hw : w < 2) (hs : sc ≤ 12) (es : a_size w = nI sc) (T : qr_st w sc a_storePublic a_storeNumber a_storeKey a_store) (H : qr_fd w sc a_storePublic a_storeNumber pub num e) (h : post (nI e)) : wpY_find post (f_shared, f_skipLimit, f_storeLimit, a_pool, a_full, a_state, a_ownExponent, a_word, a_agreed, a_agreedCount, a_publics, a_chain, a_store, a_size) (nI w) pub num :=
  Exists.intro (e + 1) (qy_fdS3 hw hs es T H h e 0 (by omega) (e + 1) (by omega))
theorem qy_findN {post : Int32 → Prop} {w sc : Nat} {pub num : Int32} (hw : w < 2) (hs : sc ≤ 12) (es : a_size w = nI sc) (T : qr_st w sc a_storePublic a_storeNumber a_storeKey a_store) (H : qr_nf w sc a_storePublic a_storeNumber pub num) (h : post (-1)) : wpY_find post (f_shared, f_skipLimit, f_storeLimit, a_pool, a_full, a_state, a_ownExponent, a_word, a_agreed, a_agreedCount, a_publics, a_chain, a_store, a_size) (nI w) pub num :=
  Exists.intro (sc + 1) (qy_fdN3 hw hs es T H h sc 0 (by omega) (sc + 1) (by omega))
theorem qy_rm4 {post : SY → Prop} {w lo : Nat} (hw : w < 2) (hp : post (f_shared, f_skipLimit, f_storeLimit, a_pool, a_full, a_state, a_ownExponent, a_word, a_agreed, a_agreedCount, a_publics, a_chain, qf_s3 a_store (w * 36 + lo) (w * 36 + 33), upd a_size w (a_size w - 1))) : ∀ d i, i + d = 33 → lo ≤ i → ∀ n, d < n → wY_remove_4 post (nI w) f_shared f_skipLimit f_storeLimit n (nI i) a_pool a_full a_state a_ownExponent a_word a_agreed a_agreedCount a_publics a_chain (qf_s3 a_store (w * 36 + lo) (w * 36 + i)) a_size := by
  have hin : vp_in (nI w) 2 := vp_in_nI hw (by decide)
  have ew : (nI w).toNatClampNeg = w := nI_clamp (by omega)
  intro d
  induction d with
  | zero =>
    intro i hi2 hl n hn
    obtain ⟨m, rfl⟩ : ∃ m, n = m + 1 := ⟨n - 1, by omega⟩
    obtain rfl : i = 33 := by omega
    refine br_t (nI_le (a := 33) (b := 33) (by omega) (by omega)) ?_
    rw [ew]
    exact And.intro hin (And.intro hin (nm_e hp))
  | succ d ih =>
    intro i hi2 hl n hn
    obtain ⟨m, rfl⟩ : ∃ m, n = m + 1 := ⟨n - 1, by omega⟩
    refine br_f (nI_ge (b := 33) (by omega) (by omega)) ?_
    rw [qf_m36, nI_add, qf_a3, nI_clamp (n := w * 36 + i) (by omega), nI_clamp (n := w * 36 + i + 3) (by omega)]
    exact And.intro (vp_in_nI (by omega) (by decide)) (And.intro (vp_in_nI (by omega) (by decide)) (nm_r (qf_s3s _ (by omega)) (nm_r (nI_1 i) (ih (i + 1) (by omega) (by omega) m (by omega)))))
theorem qy_remove {post : SY → Prop} {w sc e : Nat} (hw : w < 2) (hs : sc ≤ 12) (es : a_size w = nI sc) (he : e < sc) (hp : post (f_shared, f_skipLimit, f_storeLimit, a_pool, a_full, a_state, a_ownExponent, a_word, a_agreed, a_agreedCount, a_publics, a_chain, qf_s3 a_store (w * 36 + e * 3) (w * 36 + 33), upd a_size w (nI (sc - 1)))) : wpY_remove post (f_shared, f_skipLimit, f_storeLimit, a_pool, a_full, a_state, a_ownExponent, a_word, a_agreed, a_agreedCount, a_publics, a_chain, a_store, a_size) (nI w) (nI e) := by
  have e1 : a_size w - 1 = nI (sc - 1) := by
    rw [es]; exact pk_sub (b := 1) (by omega)
  rw [← e1] at hp
  have L := qy_rm4 hw hp (33 - e * 3) (e * 3) (by omega) (by omega) 34 (by omega)
  rw [qf_s30] at L
  exact nm_r (qf_m3 e) (Exists.intro 34 L)
theorem qy_su0 {post : SY → Prop} {w en k n : Nat} {s : Int32} (hk : en ≤ k) (hb : k < 100) (hp : post (f_shared, f_skipLimit, f_storeLimit, a_pool, a_full, a_state, a_ownExponent, a_word, a_agreed, a_agreedCount, a_publics, a_chain, a_store, a_size)) : wY_skipUpTo_27 post (nI w) (nI en) s (n + 1) (nI k) f_shared f_skipLimit f_storeLimit a_pool a_full a_state a_ownExponent a_word a_agreed a_agreedCount a_publics a_chain a_store a_size :=
  br_t (nI_le hk (by omega)) hp
theorem qy_su68 {post : SY → Prop} {J : Int32 → Int32 → Int32 → Int32 → (Nat → Int32) → (Nat → Int32) → (Nat → Int32) → (Nat → Int32) → (Nat → Int32) → (Nat → Int32) → (Nat → Int32) → (Nat → Int32) → (Nat → Int32) → (Nat → Int32) → (Nat → Int32) → Prop} {w k sc : Nat} {x2 s : Int32} (hw : w < 2) (es : a_size w = nI sc) (hs : sc < 12) (hk : k ≤ 12) (hp : J (nI (k + 1)) f_shared f_skipLimit f_storeLimit a_pool a_full a_state a_ownExponent a_word a_agreed a_agreedCount a_publics a_chain (upd (upd (upd a_store (w * 36 + sc * 3) (a_state (w * 10 + 1))) (w * 36 + sc * 3 + 1) (nI k)) (w * 36 + sc * 3 + 2) (qf_key s k)) (upd a_size w (nI (sc + 1)))) : wY_skipUpTo_68 post J (nI w) x2 s (nI k) f_shared f_skipLimit f_storeLimit a_pool a_full a_state a_ownExponent a_word a_agreed a_agreedCount a_publics a_chain a_store a_size := by
  unfold wY_skipUpTo_68
  simp (disch := omega) only [nI_clamp, nI_add, qf_m3, qf_m6, qf_m9, qf_m10, qf_m12, qf_m16, qf_m17, qf_m36, qf_a0, qf_a1, qf_a2, qf_a3, qf_a4, qf_a5, qf_a6, qf_a7, qf_a8, qf_a9, qf_2p, qf_in, forall_eq, true_and, pk_us, pk_un, qf_nb0, qf_nb1, es]
  exact qy_key hk hp
theorem qy_su1 {post : SY → Prop} {w en k n sc lim : Nat} {s : Int32} (hw : w < 2) (es : a_size w = nI sc) (el : f_storeLimit = nI lim) (hl : lim ≤ 12) (hs : sc < lim) (hk : k < en) (hb : en ≤ 12) (hp : wY_skipUpTo_27 post (nI w) (nI en) s n (nI (k + 1)) f_shared f_skipLimit f_storeLimit a_pool a_full a_state a_ownExponent a_word a_agreed a_agreedCount a_publics a_chain (upd (upd (upd a_store (w * 36 + sc * 3) (a_state (w * 10 + 1))) (w * 36 + sc * 3 + 1) (nI k)) (w * 36 + sc * 3 + 2) (qf_key s k)) (upd a_size w (nI (sc + 1)))) : wY_skipUpTo_27 post (nI w) (nI en) s (n + 1) (nI k) f_shared f_skipLimit f_storeLimit a_pool a_full a_state a_ownExponent a_word a_agreed a_agreedCount a_publics a_chain a_store a_size := by
  have hin : vp_in (nI w) 2 := vp_in_nI hw (by decide)
  have ew : (nI w).toNatClampNeg = w := nI_clamp (by omega)
  have hc : ¬ a_size w = f_storeLimit := by
    rw [es, el, nI_eq (by omega) (by omega)]; omega
  refine br_f (nI_ge hk (by omega)) (And.intro hin ?_)
  rw [ew]
  exact br_f hc (qy_su68 hw es (by omega) (by omega) hp)
theorem qy_su2 {post : SY → Prop} {w en k n sc lim : Nat} {s : Int32} (hw : w < 2) (es : a_size w = nI sc) (el : f_storeLimit = nI lim) (hl : lim ≤ 12) (h1 : 1 ≤ lim) (hs : sc = lim) (hk : k < en) (hb : en ≤ 12) (hp : wY_skipUpTo_27 post (nI w) (nI en) s n (nI (k + 1)) f_shared f_skipLimit f_storeLimit a_pool a_full (upd a_state (w * 10 + 8) (a_state (w * 10 + 8) + 1)) a_ownExponent a_word a_agreed a_agreedCount a_publics a_chain (upd (upd (upd (qf_s3 a_store (w * 36 + 0 * 3) (w * 36 + 33)) (w * 36 + (sc - 1) * 3) (a_state (w * 10 + 1))) (w * 36 + (sc - 1) * 3 + 1) (nI k)) (w * 36 + (sc - 1) * 3 + 2) (qf_key s k)) (upd (upd a_size w (nI (sc - 1))) w (nI (sc - 1 + 1)))) : wY_skipUpTo_27 post (nI w) (nI en) s (n + 1) (nI k) f_shared f_skipLimit f_storeLimit a_pool a_full a_state a_ownExponent a_word a_agreed a_agreedCount a_publics a_chain a_store a_size := by
  have hin : vp_in (nI w) 2 := vp_in_nI hw (by decide)
  have ew : (nI w).toNatClampNeg = w := nI_clamp (by omega)
  have hc : a_size w = f_storeLimit := by
    rw [es, el, hs]
  have e1 : upd a_state (w * 10 + 8) (a_state (w * 10 + 8) + 1) (w * 10 + 1) = a_state (w * 10 + 1) := pk_un (by omega)
  refine br_f (nI_ge hk (by omega)) (And.intro hin ?_)
  rw [ew]
  refine br_t hc ?_
  refine qy_remove (e := 0) hw (by omega) es (by omega) ?_
  dsimp only
  rw [qf_m10, qf_a8, nI_clamp (by omega)]
  refine And.intro (vp_in_nI (by omega) (by decide)) (And.intro (vp_in_nI (by omega) (by decide)) (nm_e ?_))
  refine qy_su68 hw pk_us (by omega) (by omega) ?_
  rw [e1]
  exact hp
end
end
section
/-! the relation -/
def qr_ch (sh : Int32) (g : Nat → Int32) (w ac k : Nat) (h c x : Int32) : Prop := (h = 0 ∧ c = 0) ∨ (∃ j, j < ac ∧ h = 1 ∧ c = nI (j + 1) ∧ x = qf_link (qf_start sh g w j) k)
def qr_set (w l c ac : Nat) (L pb : Nat → Int32) : Prop := (∀ v : Int32, (∃ i, i < c ∧ L (w * 9 + i) = v) ↔ (v ≠ 0 ∧ ∃ i, i < 17 ∧ pb (l * 17 + i) = v)) ∧ (∀ i, ac < i → i < 17 → pb (l * 17 + i) = 0)
def qr_pos (w : Nat) (OP PP NS RN PL TD TM TT PO st : Nat → Int32) : Prop := st (w * 10) = OP w ∧ st (w * 10 + 1) = PP w ∧ st (w * 10 + 2) = NS w ∧ st (w * 10 + 3) = RN w ∧ st (w * 10 + 4) = PL w ∧ st (w * 10 + 5) = TD w ∧ st (w * 10 + 6) = TM w ∧ st (w * 10 + 7) = TT w ∧ st (w * 10 + 8) = PO w
def qr_B (lim ns nr tm tt sc ex pp : Nat) : Prop := ns ≤ 12 ∧ nr ≤ 12 ∧ tm ≤ 8 ∧ tt ≤ 8 ∧ sc ≤ lim ∧ ex ≤ 1023 ∧ pp < 2147483647
def qr_V (w ns nr tm tt sc ex pp : Nat) (NS RN TM TT SC OE PP UC KC AC TD : Nat → Int32) : Prop := NS w = nI ns ∧ RN w = nI nr ∧ TM w = nI tm ∧ TT w = nI tt ∧ SC w = nI sc ∧ OE w = nI ex ∧ PP w = nI pp ∧ UC w = nI (tm + w) ∧ KC w = nI (tt + (1 - w)) ∧ AC w = nI (tm + tt) ∧ (TD w = 0 ∨ TD w = 1)
def qr_F (lim w ns nr tm tt sc ex pp : Nat) (f_shared : Int32) (a_root : Nat → Int32) (a_sendChain : Nat → Int32) (a_recvChain : Nat → Int32) (a_hasSend : Nat → Int32) (a_hasRecv : Nat → Int32) (a_ownExponent : Nat → Int32) (a_ownPublic : Nat → Int32) (a_peerPublic : Nat → Int32) (a_sentCount : Nat → Int32) (a_recvNext : Nat → Int32) (a_prevLength : Nat → Int32) (a_turnDue : Nat → Int32) (a_turnsMade : Nat → Int32) (a_turnsTaken : Nat → Int32) (a_pushedOut : Nat → Int32) (a_usedList : Nat → Int32) (a_usedCount : Nat → Int32) (a_knownList : Nat → Int32) (a_knownCount : Nat → Int32) (a_storePublic : Nat → Int32) (a_storeNumber : Nat → Int32) (a_storeKey : Nat → Int32) (a_storeCount : Nat → Int32) (a_state : Nat → Int32) (a_agreed : Nat → Int32) (a_agreedCount : Nat → Int32) (a_publics : Nat → Int32) (a_chain : Nat → Int32) (a_store : Nat → Int32) : Prop :=
  qr_B lim ns nr tm tt sc ex pp ∧
  qr_V w ns nr tm tt sc ex pp a_sentCount a_recvNext a_turnsMade a_turnsTaken a_storeCount a_ownExponent a_peerPublic a_usedCount a_knownCount a_agreedCount a_turnDue ∧
  qr_pos w a_ownPublic a_peerPublic a_sentCount a_recvNext a_prevLength a_turnDue a_turnsMade a_turnsTaken a_pushedOut a_state ∧
  a_root w = qf_root f_shared a_agreed w (tm + tt) ∧
  qr_ch f_shared a_agreed w (tm + tt) ns (a_hasSend w) (a_chain w) (a_sendChain w) ∧
  qr_ch f_shared a_agreed w (tm + tt) nr (a_hasRecv w) (a_chain (2 + w)) (a_recvChain w) ∧
  qr_set w w (tm + w) (tm + tt) a_usedList a_publics ∧
  qr_set w (2 + w) (tt + (1 - w)) (tm + tt) a_knownList a_publics ∧
  qr_st w sc a_storePublic a_storeNumber a_storeKey a_store
def qr_E (lim w : Nat) (f_shared : Int32) (a_root : Nat → Int32) (a_sendChain : Nat → Int32) (a_recvChain : Nat → Int32) (a_hasSend : Nat → Int32) (a_hasRecv : Nat → Int32) (a_ownExponent : Nat → Int32) (a_ownPublic : Nat → Int32) (a_peerPublic : Nat → Int32) (a_sentCount : Nat → Int32) (a_recvNext : Nat → Int32) (a_prevLength : Nat → Int32) (a_turnDue : Nat → Int32) (a_turnsMade : Nat → Int32) (a_turnsTaken : Nat → Int32) (a_pushedOut : Nat → Int32) (a_usedList : Nat → Int32) (a_usedCount : Nat → Int32) (a_knownList : Nat → Int32) (a_knownCount : Nat → Int32) (a_storePublic : Nat → Int32) (a_storeNumber : Nat → Int32) (a_storeKey : Nat → Int32) (a_storeCount : Nat → Int32) (a_state : Nat → Int32) (a_agreed : Nat → Int32) (a_agreedCount : Nat → Int32) (a_publics : Nat → Int32) (a_chain : Nat → Int32) (a_store : Nat → Int32) : Prop := ∃ ns nr tm tt sc ex pp : Nat, qr_F lim w ns nr tm tt sc ex pp f_shared a_root a_sendChain a_recvChain a_hasSend a_hasRecv a_ownExponent a_ownPublic a_peerPublic a_sentCount a_recvNext a_prevLength a_turnDue a_turnsMade a_turnsTaken a_pushedOut a_usedList a_usedCount a_knownList a_knownCount a_storePublic a_storeNumber a_storeKey a_storeCount a_state a_agreed a_agreedCount a_publics a_chain a_store
def qr_R (lim : Nat) (f_shared : Int32) (a_root : Nat → Int32) (a_sendChain : Nat → Int32) (a_recvChain : Nat → Int32) (a_hasSend : Nat → Int32) (a_hasRecv : Nat → Int32) (a_ownExponent : Nat → Int32) (a_ownPublic : Nat → Int32) (a_peerPublic : Nat → Int32) (a_sentCount : Nat → Int32) (a_recvNext : Nat → Int32) (a_prevLength : Nat → Int32) (a_turnDue : Nat → Int32) (a_turnsMade : Nat → Int32) (a_turnsTaken : Nat → Int32) (a_pushedOut : Nat → Int32) (a_usedList : Nat → Int32) (a_usedCount : Nat → Int32) (a_knownList : Nat → Int32) (a_knownCount : Nat → Int32) (a_storePublic : Nat → Int32) (a_storeNumber : Nat → Int32) (a_storeKey : Nat → Int32) (a_storeCount : Nat → Int32) (a_state : Nat → Int32) (a_agreed : Nat → Int32) (a_agreedCount : Nat → Int32) (a_publics : Nat → Int32) (a_chain : Nat → Int32) (a_store : Nat → Int32) : Prop := ∀ w, w < 2 → qr_E lim w f_shared a_root a_sendChain a_recvChain a_hasSend a_hasRecv a_ownExponent a_ownPublic a_peerPublic a_sentCount a_recvNext a_prevLength a_turnDue a_turnsMade a_turnsTaken a_pushedOut a_usedList a_usedCount a_knownList a_knownCount a_storePublic a_storeNumber a_storeKey a_storeCount a_state a_agreed a_agreedCount a_publics a_chain a_store
def qr_G (lim : Nat) (sk sl : Int32) (pool : Nat → Int32) : Prop := (∃ n, n ≤ 8 ∧ sk = nI n) ∧ 1 ≤ lim ∧ lim ≤ 12 ∧ sl = nI lim ∧ ∀ s, s < 16 → ∃ w, w < 2 ∧ pool (s * 6 + 5) = nI w
def qr_A (acc st : Nat → Int32) : Prop := ∀ w, w < 2 → st (w * 10 + 9) = acc w
/-- the relation of the two states -/
def i_Rel (k : Nat) (u : SX) (v : SY) : Prop := match u, v with
  | (f_skipLimit, f_storeLimit, a_pool, a_filled, a_root, a_sendChain, a_recvChain, a_hasSend, a_hasRecv, a_ownExponent, a_ownPublic, a_peerPublic, a_sentCount, a_recvNext, a_prevLength, a_turnDue, a_turnsMade, a_turnsTaken, a_pushedOut, a_accepted, a_lastWords, a_usedList, a_usedCount, a_knownList, a_knownCount, a_storePublic, a_storeNumber, a_storeKey, a_storeCount), (f_shared, b_skipLimit, b_storeLimit, b_pool, b_full, a_state, b_ownExponent, b_word, a_agreed, a_agreedCount, a_publics, a_chain, a_store, b_size) => (b_skipLimit = f_skipLimit ∧ b_storeLimit = f_storeLimit ∧ b_pool = a_pool ∧ b_full = a_filled ∧ b_ownExponent = a_ownExponent ∧ b_word = a_lastWords ∧ b_size = a_storeCount) ∧ ∃ lim, qr_G lim f_skipLimit f_storeLimit a_pool ∧ qr_A a_accepted a_state ∧ qr_R lim f_shared a_root a_sendChain a_recvChain a_hasSend a_hasRecv a_ownExponent a_ownPublic a_peerPublic a_sentCount a_recvNext a_prevLength a_turnDue a_turnsMade a_turnsTaken a_pushedOut a_usedList a_usedCount a_knownList a_knownCount a_storePublic a_storeNumber a_storeKey a_storeCount a_state a_agreed a_agreedCount a_publics a_chain a_store
theorem i_up {k : Nat} {u : SX} {v : SY} (h : i_Rel k u v) : i_Rel (k + 4) u v := h
theorem qr_el {k : Nat} {u : SX} {v : SY} {P : SX → SY → Prop} (I : i_Rel k u v) (h : ∀ (f_skipLimit f_storeLimit f_shared : Int32) (a_pool a_filled a_root a_sendChain a_recvChain a_hasSend a_hasRecv a_ownExponent a_ownPublic a_peerPublic a_sentCount a_recvNext a_prevLength a_turnDue a_turnsMade a_turnsTaken a_pushedOut a_accepted a_lastWords a_usedList a_usedCount a_knownList a_knownCount a_storePublic a_storeNumber a_storeKey a_storeCount a_state a_agreed a_agreedCount a_publics a_chain a_store : Nat → Int32) (lim : Nat), qr_G lim f_skipLimit f_storeLimit a_pool → qr_A a_accepted a_state → qr_R lim f_shared a_root a_sendChain a_recvChain a_hasSend a_hasRecv a_ownExponent a_ownPublic a_peerPublic a_sentCount a_recvNext a_prevLength a_turnDue a_turnsMade a_turnsTaken a_pushedOut a_usedList a_usedCount a_knownList a_knownCount a_storePublic a_storeNumber a_storeKey a_storeCount a_state a_agreed a_agreedCount a_publics a_chain a_store → P (f_skipLimit, f_storeLimit, a_pool, a_filled, a_root, a_sendChain, a_recvChain, a_hasSend, a_hasRecv, a_ownExponent, a_ownPublic, a_peerPublic, a_sentCount, a_recvNext, a_prevLength, a_turnDue, a_turnsMade, a_turnsTaken, a_pushedOut, a_accepted, a_lastWords, a_usedList, a_usedCount, a_knownList, a_knownCount, a_storePublic, a_storeNumber, a_storeKey, a_storeCount) (f_shared, f_skipLimit, f_storeLimit, a_pool, a_filled, a_state, a_ownExponent, a_lastWords, a_agreed, a_agreedCount, a_publics, a_chain, a_store, a_storeCount)) : P u v := by
  obtain ⟨f_skipLimit, f_storeLimit, a_pool, a_filled, a_root, a_sendChain, a_recvChain, a_hasSend, a_hasRecv, a_ownExponent, a_ownPublic, a_peerPublic, a_sentCount, a_recvNext, a_prevLength, a_turnDue, a_turnsMade, a_turnsTaken, a_pushedOut, a_accepted, a_lastWords, a_usedList, a_usedCount, a_knownList, a_knownCount, a_storePublic, a_storeNumber, a_storeKey, a_storeCount⟩ := u
  obtain ⟨f_shared, b_skipLimit, b_storeLimit, b_pool, b_full, a_state, b_ownExponent, b_word, a_agreed, a_agreedCount, a_publics, a_chain, a_store, b_size⟩ := v
  obtain ⟨⟨e1, e2, e3, e4, e5, e6, e7⟩, lim, G, A, R⟩ := I
  subst e1 e2 e3 e4 e5 e6 e7
  exact h _ _ _ _ _ _ _ _ _ _ _ _ _ _ _ _ _ _ _ _ _ _ _ _ _ _ _ _ _ _ _ _ _ _ _ _ lim G A R
section
variable {f_skipLimit f_storeLimit : Int32} {a_pool a_filled a_accepted a_lastWords : Nat → Int32} {f_shared : Int32} {a_root a_sendChain a_recvChain a_hasSend a_hasRecv a_ownExponent a_ownPublic a_peerPublic a_sentCount a_recvNext a_prevLength a_turnDue a_turnsMade a_turnsTaken a_pushedOut a_usedList a_usedCount a_knownList a_knownCount a_storePublic a_storeNumber a_storeKey a_storeCount a_state a_agreed a_agreedCount a_publics a_chain a_store : Nat → Int32}
theorem qr_in {k lim : Nat} (G : qr_G lim f_skipLimit f_storeLimit a_pool) (A : qr_A a_accepted a_state) (R : qr_R lim f_shared a_root a_sendChain a_recvChain a_hasSend a_hasRecv a_ownExponent a_ownPublic a_peerPublic a_sentCount a_recvNext a_prevLength a_turnDue a_turnsMade a_turnsTaken a_pushedOut a_usedList a_usedCount a_knownList a_knownCount a_storePublic a_storeNumber a_storeKey a_storeCount a_state a_agreed a_agreedCount a_publics a_chain a_store) : i_Rel k (f_skipLimit, f_storeLimit, a_pool, a_filled, a_root, a_sendChain, a_recvChain, a_hasSend, a_hasRecv, a_ownExponent, a_ownPublic, a_peerPublic, a_sentCount, a_recvNext, a_prevLength, a_turnDue, a_turnsMade, a_turnsTaken, a_pushedOut, a_accepted, a_lastWords, a_usedList, a_usedCount, a_knownList, a_knownCount, a_storePublic, a_storeNumber, a_storeKey, a_storeCount) (f_shared, f_skipLimit, f_storeLimit, a_pool, a_filled, a_state, a_ownExponent, a_lastWords, a_agreed, a_agreedCount, a_publics, a_chain, a_store, a_storeCount) :=
  ⟨⟨rfl, rfl, rfl, rfl, rfl, rfl, rfl⟩, lim, G, A, R⟩
end
theorem qr_ch_c {sh : Int32} {g g' : Nat → Int32} {w ac ac' k : Nat} {h c x : Int32} (ha : ac ≤ ac') (hg : ∀ i, i < ac → g' (w * 16 + i) = g (w * 16 + i)) (H : qr_ch sh g w ac k h c x) : qr_ch sh g' w ac' k h c x := by
  rcases H with H | ⟨j, hj, h1, h2, h3⟩
  · exact Or.inl H
  · refine Or.inr ⟨j, by omega, h1, h2, ?_⟩
    rw [qf_start_c (fun i hi => hg i (by omega))]
    exact h3
theorem qr_set_c {w l c ac ac' : Nat} {L L' pb pb' : Nat → Int32} (ha : ac ≤ ac') (hc : c ≤ 9) (hL : ∀ i, i < 9 → L' (w * 9 + i) = L (w * 9 + i)) (hp : ∀ i, i < 17 → pb' (l * 17 + i) = pb (l * 17 + i)) (H : qr_set w l c ac L pb) : qr_set w l c ac' L' pb' := by
  obtain ⟨h1, h2⟩ := H
  refine ⟨fun v => ⟨?_, ?_⟩, fun i a b => ?_⟩
  · rintro ⟨i, hi, e⟩
    rw [hL i (by omega)] at e
    obtain ⟨z, j, hj, ej⟩ := (h1 v).mp ⟨i, hi, e⟩
    exact ⟨z, j, hj, (hp j hj).trans ej⟩
  · rintro ⟨z, j, hj, e⟩
    rw [hp j hj] at e
    obtain ⟨i, hi, ei⟩ := (h1 v).mpr ⟨z, j, hj, e⟩
    exact ⟨i, hi, (hL i (by omega)).trans ei⟩
  · rw [hp i b]
    exact h2 i (by omega) b
theorem qr_set_add {w l c ac : Nat} {L pb : Nat → Int32} {v : Int32} (hv : v ≠ 0) (hac : ac < 16) (H : qr_set w l c ac L pb) : qr_set w l (c + 1) (ac + 1) (upd L (w * 9 + c) v) (upd pb (l * 17 + (ac + 1)) v) := by
  obtain ⟨h1, h2⟩ := H
  refine ⟨fun z => ⟨?_, ?_⟩, fun i a b => ?_⟩
  · rintro ⟨i, hi, e⟩
    by_cases ei : i = c
    · rw [ei, pk_us] at e
      rw [← e]
      exact ⟨hv, ac + 1, by omega, pk_us⟩
    · rw [pk_un (by omega)] at e
      obtain ⟨z0, j, hj, ej⟩ := (h1 z).mp ⟨i, by omega, e⟩
      refine ⟨z0, j, hj, ?_⟩
      by_cases q : j = ac + 1
      · exact absurd (ej.symm.trans (h2 j (by omega) hj)) z0
      · rw [pk_un (by omega)]
        exact ej
  · rintro ⟨z0, j, hj, ej⟩
    by_cases e : j = ac + 1
    · rw [e, pk_us] at ej
      exact ⟨c, by omega, by rw [pk_us]; exact ej⟩
    · rw [pk_un (by omega)] at ej
      obtain ⟨i, hi, ei⟩ := (h1 z).mpr ⟨z0, j, hj, ej⟩
      exact ⟨i, by omega, by rw [pk_un (by omega)]; exact ei⟩
  · rw [pk_un (by omega)]
    exact h2 i (by omega) b
theorem qr_st_rm {w sc e : Nat} {SP SN SK st : Nat → Int32} (hs : sc ≤ 12) (he : e < sc) (T : qr_st w sc SP SN SK st) : qr_st w (sc - 1) (qf_sh SP (w * 12 + e) (w * 12 + (sc - 1))) (qf_sh SN (w * 12 + e) (w * 12 + (sc - 1))) (qf_sh SK (w * 12 + e) (w * 12 + (sc - 1))) (qf_s3 st (w * 36 + e * 3) (w * 36 + 33)) := by
  intro i hi
  by_cases h : i < e
  · rw [qf_s3n (by omega), qf_s3n (by omega), qf_s3n (by omega), qf_shn (by omega), qf_shn (by omega), qf_shn (by omega)]
    exact T i (by omega)
  · rw [qf_s3i (by omega) (by omega), qf_s3i (by omega) (by omega), qf_s3i (by omega) (by omega), qf_shi (by omega) (by omega), qf_shi (by omega) (by omega), qf_shi (by omega) (by omega)]
    obtain ⟨t1, t2, t3⟩ := T (i + 1) (by omega)
    have e0 : w * 36 + (i + 1) * 3 = w * 36 + i * 3 + 3 := by omega
    rw [e0] at t1 t2 t3
    exact ⟨t1, t2, t3⟩
theorem qr_st_push {w sc : Nat} {SP SN SK st : Nat → Int32} {a b c : Int32} (T : qr_st w sc SP SN SK st) : qr_st w (sc + 1) (upd SP (w * 12 + sc) a) (upd SN (w * 12 + sc) b) (upd SK (w * 12 + sc) c) (upd (upd (upd st (w * 36 + sc * 3) a) (w * 36 + sc * 3 + 1) b) (w * 36 + sc * 3 + 2) c) := by
  intro i hi
  by_cases h : i = sc
  · subst h
    refine ⟨?_, ?_, ?_⟩ <;> simp (disch := omega) only [pk_us, pk_un]
  · simp (disch := omega) only [pk_un]
    exact T i (by omega)
section
variable {f_shared : Int32} {a_root a_sendChain a_recvChain a_hasSend a_hasRecv a_ownExponent a_ownPublic a_peerPublic a_sentCount a_recvNext a_prevLength a_turnDue a_turnsMade a_turnsTaken a_pushedOut a_usedList a_usedCount a_knownList a_knownCount a_storePublic a_storeNumber a_storeKey a_storeCount a_state a_agreed a_agreedCount a_publics a_chain a_store : Nat → Int32} {a_root' a_sendChain' a_recvChain' a_hasSend' a_hasRecv' a_ownExponent' a_ownPublic' a_peerPublic' a_sentCount' a_recvNext' a_prevLength' a_turnDue' a_turnsMade' a_turnsTaken' a_pushedOut' a_usedList' a_usedCount' a_knownList' a_knownCount' a_storePublic' a_storeNumber' a_storeKey' a_storeCount' a_state' a_agreed' a_agreedCount' a_publics' a_chain' a_store' : Nat → Int32}
/-- what an endpoint's relation reads -/
theorem qr_frame {lim w : Nat} (hl : lim ≤ 12) (hw : w < 2) (H : qr_E lim w f_shared a_root a_sendChain a_recvChain a_hasSend a_hasRecv a_ownExponent a_ownPublic a_peerPublic a_sentCount a_recvNext a_prevLength a_turnDue a_turnsMade a_turnsTaken a_pushedOut a_usedList a_usedCount a_knownList a_knownCount a_storePublic a_storeNumber a_storeKey a_storeCount a_state a_agreed a_agreedCount a_publics a_chain a_store) (h_root : a_root' w = a_root w := by intros; first | rfl | (simp (disch := omega) only [pk_un, qf_shn, qf_s3n])) (h_sendChain : a_sendChain' w = a_sendChain w := by intros; first | rfl | (simp (disch := omega) only [pk_un, qf_shn, qf_s3n])) (h_recvChain : a_recvChain' w = a_recvChain w := by intros; first | rfl | (simp (disch := omega) only [pk_un, qf_shn, qf_s3n])) (h_hasSend : a_hasSend' w = a_hasSend w := by intros; first | rfl | (simp (disch := omega) only [pk_un, qf_shn, qf_s3n])) (h_hasRecv : a_hasRecv' w = a_hasRecv w := by intros; first | rfl | (simp (disch := omega) only [pk_un, qf_shn, qf_s3n])) (h_ownExponent : a_ownExponent' w = a_ownExponent w := by intros; first | rfl | (simp (disch := omega) only [pk_un, qf_shn, qf_s3n])) (h_ownPublic : a_ownPublic' w = a_ownPublic w := by intros; first | rfl | (simp (disch := omega) only [pk_un, qf_shn, qf_s3n])) (h_peerPublic : a_peerPublic' w = a_peerPublic w := by intros; first | rfl | (simp (disch := omega) only [pk_un, qf_shn, qf_s3n])) (h_sentCount : a_sentCount' w = a_sentCount w := by intros; first | rfl | (simp (disch := omega) only [pk_un, qf_shn, qf_s3n])) (h_recvNext : a_recvNext' w = a_recvNext w := by intros; first | rfl | (simp (disch := omega) only [pk_un, qf_shn, qf_s3n])) (h_prevLength : a_prevLength' w = a_prevLength w := by intros; first | rfl | (simp (disch := omega) only [pk_un, qf_shn, qf_s3n])) (h_turnDue : a_turnDue' w = a_turnDue w := by intros; first | rfl | (simp (disch := omega) only [pk_un, qf_shn, qf_s3n])) (h_turnsMade : a_turnsMade' w = a_turnsMade w := by intros; first | rfl | (simp (disch := omega) only [pk_un, qf_shn, qf_s3n])) (h_turnsTaken : a_turnsTaken' w = a_turnsTaken w := by intros; first | rfl | (simp (disch := omega) only [pk_un, qf_shn, qf_s3n])) (h_pushedOut : a_pushedOut' w = a_pushedOut w := by intros; first | rfl | (simp (disch := omega) only [pk_un, qf_shn, qf_s3n])) (h_usedList : ∀ i, i < 9 → a_usedList' (w * 9 + i) = a_usedList (w * 9 + i) := by intros; first | rfl | (simp (disch := omega) only [pk_un, qf_shn, qf_s3n])) (h_usedCount : a_usedCount' w = a_usedCount w := by intros; first | rfl | (simp (disch := omega) only [pk_un, qf_shn, qf_s3n])) (h_knownList : ∀ i, i < 9 → a_knownList' (w * 9 + i) = a_knownList (w * 9 + i) := by intros; first | rfl | (simp (disch := omega) only [pk_un, qf_shn, qf_s3n])) (h_knownCount : a_knownCount' w = a_knownCount w := by intros; first | rfl | (simp (disch := omega) only [pk_un, qf_shn, qf_s3n])) (h_storePublic : ∀ i, i < 12 → a_storePublic' (w * 12 + i) = a_storePublic (w * 12 + i) := by intros; first | rfl | (simp (disch := omega) only [pk_un, qf_shn, qf_s3n])) (h_storeNumber : ∀ i, i < 12 → a_storeNumber' (w * 12 + i) = a_storeNumber (w * 12 + i) := by intros; first | rfl | (simp (disch := omega) only [pk_un, qf_shn, qf_s3n])) (h_storeKey : ∀ i, i < 12 → a_storeKey' (w * 12 + i) = a_storeKey (w * 12 + i) := by intros; first | rfl | (simp (disch := omega) only [pk_un, qf_shn, qf_s3n])) (h_storeCount : a_storeCount' w = a_storeCount w := by intros; first | rfl | (simp (disch := omega) only [pk_un, qf_shn, qf_s3n])) (h_state : ∀ i, i < 9 → a_state' (w * 10 + i) = a_state (w * 10 + i) := by intros; first | rfl | (simp (disch := omega) only [pk_un, qf_shn, qf_s3n])) (h_agreed : ∀ i, i < 16 → a_agreed' (w * 16 + i) = a_agreed (w * 16 + i) := by intros; first | rfl | (simp (disch := omega) only [pk_un, qf_shn, qf_s3n])) (h_agreedCount : a_agreedCount' w = a_agreedCount w := by intros; first | rfl | (simp (disch := omega) only [pk_un, qf_shn, qf_s3n])) (h_publics : ∀ i, i < 17 → a_publics' (w * 17 + i) = a_publics (w * 17 + i) := by intros; first | rfl | (simp (disch := omega) only [pk_un, qf_shn, qf_s3n])) (h_publics2 : ∀ i, i < 17 → a_publics' ((2 + w) * 17 + i) = a_publics ((2 + w) * 17 + i) := by intros; first | rfl | (simp (disch := omega) only [pk_un, qf_shn, qf_s3n])) (h_chain : a_chain' w = a_chain w := by intros; first | rfl | (simp (disch := omega) only [pk_un, qf_shn, qf_s3n])) (h_chain2 : a_chain' (2 + w) = a_chain (2 + w) := by intros; first | rfl | (simp (disch := omega) only [pk_un, qf_shn, qf_s3n])) (h_store : ∀ i, i < 36 → a_store' (w * 36 + i) = a_store (w * 36 + i) := by intros; first | rfl | (simp (disch := omega) only [pk_un, qf_shn, qf_s3n])) : qr_E lim w f_shared a_root' a_sendChain' a_recvChain' a_hasSend' a_hasRecv' a_ownExponent' a_ownPublic' a_peerPublic' a_sentCount' a_recvNext' a_prevLength' a_turnDue' a_turnsMade' a_turnsTaken' a_pushedOut' a_usedList' a_usedCount' a_knownList' a_knownCount' a_storePublic' a_storeNumber' a_storeKey' a_storeCount' a_state' a_agreed' a_agreedCount' a_publics' a_chain' a_store' := by
  obtain ⟨ns, nr, tm, tt, sc, ex, pp, hB, hV, hP, hR, hS, hC, hU, hK, hT⟩ := H
  have hB' := hB
  obtain ⟨b1, b2, b3, b4, b5, b6, b7⟩ := hB
  refine ⟨ns, nr, tm, tt, sc, ex, pp, hB', ?_, ?_, ?_, ?_, ?_, ?_, ?_, ?_⟩
  · unfold qr_V at hV ⊢
    rw [h_sentCount, h_recvNext, h_turnsMade, h_turnsTaken, h_storeCount, h_ownExponent, h_peerPublic, h_usedCount, h_knownCount, h_agreedCount, h_turnDue]
    exact hV
  · unfold qr_pos at hP ⊢
    have s0 : a_state' (w * 10) = a_state (w * 10) := h_state 0 (by omega)
    rw [s0, h_state 1 (by omega), h_state 2 (by omega), h_state 3 (by omega), h_state 4 (by omega), h_state 5 (by omega), h_state 6 (by omega), h_state 7 (by omega), h_state 8 (by omega), h_ownPublic, h_peerPublic, h_sentCount, h_recvNext, h_prevLength, h_turnDue, h_turnsMade, h_turnsTaken, h_pushedOut]
    exact hP
  · rw [h_root, hR]
    exact (qf_root_c (fun i hi => h_agreed i (by omega))).symm
  · rw [h_hasSend, h_chain, h_sendChain]
    exact qr_ch_c (Nat.le_refl _) (fun i hi => h_agreed i (by omega)) hS
  · rw [h_hasRecv, h_chain2, h_recvChain]
    exact qr_ch_c (Nat.le_refl _) (fun i hi => h_agreed i (by omega)) hC
  · exact qr_set_c (Nat.le_refl _) (by omega) h_usedList h_publics hU
  · exact qr_set_c (Nat.le_refl _) (by omega) h_knownList h_publics2 hK
  · intro i hi
    obtain ⟨t1, t2, t3⟩ := hT i hi
    rw [h_storePublic i (by omega), h_storeNumber i (by omega), h_storeKey i (by omega)]
    exact ⟨(h_store (i * 3) (by omega)).trans t1, (h_store (i * 3 + 1) (by omega)).trans t2, (h_store (i * 3 + 2) (by omega)).trans t3⟩
end
end
section
/-! the steps, at the relation -/
theorem qf_uu (f : Nat → Int32) (k : Nat) (x y : Int32) : upd (upd f k x) k y = upd f k y := by
  funext j
  by_cases h : j = k
  · rw [h, pk_us, pk_us]
  · rw [pk_un h, pk_un h, pk_un h]
section
variable {f_shared : Int32} {a_root a_sendChain a_recvChain a_hasSend a_hasRecv a_ownExponent a_ownPublic a_peerPublic a_sentCount a_recvNext a_prevLength a_turnDue a_turnsMade a_turnsTaken a_pushedOut a_usedList a_usedCount a_knownList a_knownCount a_storePublic a_storeNumber a_storeKey a_storeCount a_state a_agreed a_agreedCount a_publics a_chain a_store : Nat → Int32}
theorem qo_st9 {lim w : Nat} {x : Int32} (hl : lim ≤ 12) (hw : w < 2) (R : qr_R lim f_shared a_root a_sendChain a_recvChain a_hasSend a_hasRecv a_ownExponent a_ownPublic a_peerPublic a_sentCount a_recvNext a_prevLength a_turnDue a_turnsMade a_turnsTaken a_pushedOut a_usedList a_usedCount a_knownList a_knownCount a_storePublic a_storeNumber a_storeKey a_storeCount a_state a_agreed a_agreedCount a_publics a_chain a_store) : qr_R lim f_shared a_root a_sendChain a_recvChain a_hasSend a_hasRecv a_ownExponent a_ownPublic a_peerPublic a_sentCount a_recvNext a_prevLength a_turnDue a_turnsMade a_turnsTaken a_pushedOut a_usedList a_usedCount a_knownList a_knownCount a_storePublic a_storeNumber a_storeKey a_storeCount (upd a_state (w * 10 + 9) x) a_agreed a_agreedCount a_publics a_chain a_store := by
  intro w' hw'
  exact qr_frame hl hw' (R w' hw')
theorem qo_msg {lim w ns nr tm tt sc ex pp : Nat} (hl : lim ≤ 12) (hw : w < 2) (R : qr_R lim f_shared a_root a_sendChain a_recvChain a_hasSend a_hasRecv a_ownExponent a_ownPublic a_peerPublic a_sentCount a_recvNext a_prevLength a_turnDue a_turnsMade a_turnsTaken a_pushedOut a_usedList a_usedCount a_knownList a_knownCount a_storePublic a_storeNumber a_storeKey a_storeCount a_state a_agreed a_agreedCount a_publics a_chain a_store) (F : qr_F lim w ns nr tm tt sc ex pp f_shared a_root a_sendChain a_recvChain a_hasSend a_hasRecv a_ownExponent a_ownPublic a_peerPublic a_sentCount a_recvNext a_prevLength a_turnDue a_turnsMade a_turnsTaken a_pushedOut a_usedList a_usedCount a_knownList a_knownCount a_storePublic a_storeNumber a_storeKey a_storeCount a_state a_agreed a_agreedCount a_publics a_chain a_store) (hn : ns < 12) : qr_R lim f_shared a_root (upd a_sendChain w (qf_mix (a_sendChain w) 4)) a_recvChain a_hasSend a_hasRecv a_ownExponent a_ownPublic a_peerPublic (upd a_sentCount w (nI (ns + 1))) a_recvNext a_prevLength a_turnDue a_turnsMade a_turnsTaken a_pushedOut a_usedList a_usedCount a_knownList a_knownCount a_storePublic a_storeNumber a_storeKey a_storeCount (upd a_state (w * 10 + 2) (nI (ns + 1))) a_agreed a_agreedCount a_publics a_chain a_store := by
  intro w' hw'
  by_cases e : w' = w
  · subst e
    obtain ⟨⟨b1, b2, b3, b4, b5, b6, b7⟩, ⟨v1, v2, v3, v4, v5, v6, v7, v8, v9, v10, v11⟩, ⟨p0, p1, p2, p3, p4, p5, p6, p7, p8⟩, hR, hS, hC, hU, hK, hT⟩ := F
    refine ⟨ns + 1, nr, tm, tt, sc, ex, pp, ⟨by omega, b2, b3, b4, b5, b6, b7⟩, ⟨pk_us, v2, v3, v4, v5, v6, v7, v8, v9, v10, v11⟩, ?_, hR, ?_, hC, hU, hK, hT⟩
    · refine ⟨?_, ?_, ?_, ?_, ?_, ?_, ?_, ?_, ?_⟩ <;> simp (disch := omega) only [pk_us, pk_un, p0, p1, p2, p3, p4, p5, p6, p7, p8]
    · rw [pk_us]
      rcases hS with h | ⟨j, h1, h2, h3, h4⟩
      · exact Or.inl h
      · exact Or.inr ⟨j, h1, h2, h3, by rw [h4]; rfl⟩
  · exact qr_frame hl hw' (R w' hw')
theorem qo_own {lim w ns nr tm tt sc ex pp x : Nat} {d pub : Int32} (hl : lim ≤ 12) (hw : w < 2) (R : qr_R lim f_shared a_root a_sendChain a_recvChain a_hasSend a_hasRecv a_ownExponent a_ownPublic a_peerPublic a_sentCount a_recvNext a_prevLength a_turnDue a_turnsMade a_turnsTaken a_pushedOut a_usedList a_usedCount a_knownList a_knownCount a_storePublic a_storeNumber a_storeKey a_storeCount a_state a_agreed a_agreedCount a_publics a_chain a_store) (F : qr_F lim w ns nr tm tt sc ex pp f_shared a_root a_sendChain a_recvChain a_hasSend a_hasRecv a_ownExponent a_ownPublic a_peerPublic a_sentCount a_recvNext a_prevLength a_turnDue a_turnsMade a_turnsTaken a_pushedOut a_usedList a_usedCount a_knownList a_knownCount a_storePublic a_storeNumber a_storeKey a_storeCount a_state a_agreed a_agreedCount a_publics a_chain a_store) (hm : tm < 8) (hx : x ≤ 1023) (hpub : pub ≠ 0) : qr_R lim f_shared (upd a_root w (qf_mix (qf_mix (a_root w) d) 1)) (upd a_sendChain w (qf_mix (qf_mix (a_root w) d) 2)) a_recvChain (upd a_hasSend w 1) a_hasRecv (upd a_ownExponent w (nI x)) (upd a_ownPublic w pub) a_peerPublic (upd a_sentCount w 0) a_recvNext (upd a_prevLength w (a_sentCount w)) (upd a_turnDue w 0) (upd a_turnsMade w (nI (tm + 1))) a_turnsTaken a_pushedOut (upd a_usedList (w * 9 + (tm + w)) pub) (upd a_usedCount w (nI (tm + w + 1))) a_knownList a_knownCount a_storePublic a_storeNumber a_storeKey a_storeCount (upd (upd (upd (upd (upd a_state (w * 10 + 4) (a_state (w * 10 + 2))) (w * 10 + 2) 0) (w * 10) pub) (w * 10 + 6) (a_state (w * 10 + 6) + 1)) (w * 10 + 5) 0) (upd a_agreed (w * 16 + (tm + tt)) d) (upd a_agreedCount w (nI (tm + tt + 1))) (upd a_publics (w * 17 + (tm + tt + 1)) pub) (upd a_chain w (nI (tm + tt + 1))) a_store := by
  intro w' hw'
  obtain ⟨⟨b1, b2, b3, b4, b5, b6, b7⟩, ⟨v1, v2, v3, v4, v5, v6, v7, v8, v9, v10, v11⟩, ⟨p0, p1, p2, p3, p4, p5, p6, p7, p8⟩, hR, hS, hC, hU, hK, hT⟩ := F
  by_cases e : w' = w
  · subst e
    have eac : tm + 1 + tt = tm + tt + 1 := by omega
    have euc : tm + 1 + w' = tm + w' + 1 := by omega
    have hag : ∀ i, i < tm + tt → upd a_agreed (w' * 16 + (tm + tt)) d (w' * 16 + i) = a_agreed (w' * 16 + i) := fun i hi => pk_un (by omega)
    refine ⟨0, nr, tm + 1, tt, sc, x, pp, ⟨by omega, b2, by omega, b4, b5, hx, b7⟩, ⟨pk_us, v2, pk_us, v4, v5, pk_us, v7, ?_, v9, ?_, Or.inl pk_us⟩, ?_, ?_, ?_, ?_, ?_, ?_, hT⟩
    · rw [euc]; exact pk_us
    · rw [eac]; exact pk_us
    · refine ⟨?_, ?_, ?_, ?_, ?_, ?_, ?_, ?_, ?_⟩ <;> simp (disch := omega) only [pk_us, pk_un, p0, p1, p2, p3, p4, p5, p6, p7, p8, v3, qf_a1]
    · rw [eac, pk_us, hR]
      show _ = qf_mix (qf_mix (qf_root f_shared _ w' (tm + tt)) (upd a_agreed (w' * 16 + (tm + tt)) d (w' * 16 + (tm + tt)))) 1
      rw [pk_us, qf_root_c hag]
    · refine Or.inr ⟨tm + tt, by omega, pk_us, pk_us, ?_⟩
      rw [pk_us, hR]
      show _ = qf_mix (qf_start _ _ _ _) 2
      rw [qf_start, pk_us, qf_root_c hag]
    · rw [eac, pk_un (by omega)]
      exact qr_ch_c (by omega) hag hC
    · rw [eac, euc]
      exact qr_set_add hpub (by omega) hU
    · rw [eac]
      exact qr_set_c (by omega) (by omega) (fun i hi => rfl) (fun i hi => pk_un (by omega)) hK
  · exact qr_frame hl hw' (R w' hw')
theorem qo_rm {lim w ns nr tm tt sc ex pp e : Nat} (hl : lim ≤ 12) (hw : w < 2) (R : qr_R lim f_shared a_root a_sendChain a_recvChain a_hasSend a_hasRecv a_ownExponent a_ownPublic a_peerPublic a_sentCount a_recvNext a_prevLength a_turnDue a_turnsMade a_turnsTaken a_pushedOut a_usedList a_usedCount a_knownList a_knownCount a_storePublic a_storeNumber a_storeKey a_storeCount a_state a_agreed a_agreedCount a_publics a_chain a_store) (F : qr_F lim w ns nr tm tt sc ex pp f_shared a_root a_sendChain a_recvChain a_hasSend a_hasRecv a_ownExponent a_ownPublic a_peerPublic a_sentCount a_recvNext a_prevLength a_turnDue a_turnsMade a_turnsTaken a_pushedOut a_usedList a_usedCount a_knownList a_knownCount a_storePublic a_storeNumber a_storeKey a_storeCount a_state a_agreed a_agreedCount a_publics a_chain a_store) (he : e < sc) : qr_R lim f_shared a_root a_sendChain a_recvChain a_hasSend a_hasRecv a_ownExponent a_ownPublic a_peerPublic a_sentCount a_recvNext a_prevLength a_turnDue a_turnsMade a_turnsTaken a_pushedOut a_usedList a_usedCount a_knownList a_knownCount (qf_sh a_storePublic (w * 12 + e) (w * 12 + (sc - 1))) (qf_sh a_storeNumber (w * 12 + e) (w * 12 + (sc - 1))) (qf_sh a_storeKey (w * 12 + e) (w * 12 + (sc - 1))) (upd a_storeCount w (nI (sc - 1))) a_state a_agreed a_agreedCount a_publics a_chain (qf_s3 a_store (w * 36 + e * 3) (w * 36 + 33)) := by
  intro w' hw'
  obtain ⟨⟨b1, b2, b3, b4, b5, b6, b7⟩, ⟨v1, v2, v3, v4, v5, v6, v7, v8, v9, v10, v11⟩, hP, hR, hS, hC, hU, hK, hT⟩ := F
  by_cases e : w' = w
  · subst e
    exact ⟨ns, nr, tm, tt, sc - 1, ex, pp, ⟨b1, b2, b3, b4, by omega, b6, b7⟩, ⟨v1, v2, v3, v4, pk_us, v6, v7, v8, v9, v10, v11⟩, hP, hR, hS, hC, hU, hK, qr_st_rm (by omega) he hT⟩
  · exact qr_frame hl hw' (R w' hw')
theorem qo_push1 {lim w ns nr tm tt sc ex pp : Nat} {a b c : Int32} (hl : lim ≤ 12) (hw : w < 2) (R : qr_R lim f_shared a_root a_sendChain a_recvChain a_hasSend a_hasRecv a_ownExponent a_ownPublic a_peerPublic a_sentCount a_recvNext a_prevLength a_turnDue a_turnsMade a_turnsTaken a_pushedOut a_usedList a_usedCount a_knownList a_knownCount a_storePublic a_storeNumber a_storeKey a_storeCount a_state a_agreed a_agreedCount a_publics a_chain a_store) (F : qr_F lim w ns nr tm tt sc ex pp f_shared a_root a_sendChain a_recvChain a_hasSend a_hasRecv a_ownExponent a_ownPublic a_peerPublic a_sentCount a_recvNext a_prevLength a_turnDue a_turnsMade a_turnsTaken a_pushedOut a_usedList a_usedCount a_knownList a_knownCount a_storePublic a_storeNumber a_storeKey a_storeCount a_state a_agreed a_agreedCount a_publics a_chain a_store) (hs : sc < lim) : qr_R lim f_shared a_root a_sendChain a_recvChain a_hasSend a_hasRecv a_ownExponent a_ownPublic a_peerPublic a_sentCount a_recvNext a_prevLength a_turnDue a_turnsMade a_turnsTaken a_pushedOut a_usedList a_usedCount a_knownList a_knownCount (upd a_storePublic (w * 12 + sc) a) (upd a_storeNumber (w * 12 + sc) b) (upd a_storeKey (w * 12 + sc) c) (upd a_storeCount w (nI (sc + 1))) a_state a_agreed a_agreedCount a_publics a_chain (upd (upd (upd a_store (w * 36 + sc * 3) a) (w * 36 + sc * 3 + 1) b) (w * 36 + sc * 3 + 2) c) := by
  intro w' hw'
  obtain ⟨⟨b1, b2, b3, b4, b5, b6, b7⟩, ⟨v1, v2, v3, v4, v5, v6, v7, v8, v9, v10, v11⟩, hP, hR, hS, hC, hU, hK, hT⟩ := F
  by_cases e : w' = w
  · subst e
    exact ⟨ns, nr, tm, tt, sc + 1, ex, pp, ⟨b1, b2, b3, b4, by omega, b6, b7⟩, ⟨v1, v2, v3, v4, pk_us, v6, v7, v8, v9, v10, v11⟩, hP, hR, hS, hC, hU, hK, qr_st_push hT⟩
  · exact qr_frame hl hw' (R w' hw')
theorem qo_push2 {lim w ns nr tm tt sc ex pp : Nat} {a b c : Int32} (hl : lim ≤ 12) (h1 : 1 ≤ lim) (hw : w < 2) (R : qr_R lim f_shared a_root a_sendChain a_recvChain a_hasSend a_hasRecv a_ownExponent a_ownPublic a_peerPublic a_sentCount a_recvNext a_prevLength a_turnDue a_turnsMade a_turnsTaken a_pushedOut a_usedList a_usedCount a_knownList a_knownCount a_storePublic a_storeNumber a_storeKey a_storeCount a_state a_agreed a_agreedCount a_publics a_chain a_store) (F : qr_F lim w ns nr tm tt sc ex pp f_shared a_root a_sendChain a_recvChain a_hasSend a_hasRecv a_ownExponent a_ownPublic a_peerPublic a_sentCount a_recvNext a_prevLength a_turnDue a_turnsMade a_turnsTaken a_pushedOut a_usedList a_usedCount a_knownList a_knownCount a_storePublic a_storeNumber a_storeKey a_storeCount a_state a_agreed a_agreedCount a_publics a_chain a_store) (hs : sc = lim) : qr_R lim f_shared a_root a_sendChain a_recvChain a_hasSend a_hasRecv a_ownExponent a_ownPublic a_peerPublic a_sentCount a_recvNext a_prevLength a_turnDue a_turnsMade a_turnsTaken (upd a_pushedOut w (a_pushedOut w + 1)) a_usedList a_usedCount a_knownList a_knownCount (upd (qf_sh a_storePublic (w * 12 + 0) (w * 12 + (sc - 1))) (w * 12 + (sc - 1)) a) (upd (qf_sh a_storeNumber (w * 12 + 0) (w * 12 + (sc - 1))) (w * 12 + (sc - 1)) b) (upd (qf_sh a_storeKey (w * 12 + 0) (w * 12 + (sc - 1))) (w * 12 + (sc - 1)) c) (upd (upd a_storeCount w (nI (sc - 1))) w (nI (sc - 1 + 1))) (upd a_state (w * 10 + 8) (a_state (w * 10 + 8) + 1)) a_agreed a_agreedCount a_publics a_chain (upd (upd (upd (qf_s3 a_store (w * 36 + 0 * 3) (w * 36 + 33)) (w * 36 + (sc - 1) * 3) a) (w * 36 + (sc - 1) * 3 + 1) b) (w * 36 + (sc - 1) * 3 + 2) c) := by
  intro w' hw'
  obtain ⟨⟨b1, b2, b3, b4, b5, b6, b7⟩, ⟨v1, v2, v3, v4, v5, v6, v7, v8, v9, v10, v11⟩, ⟨p0, p1, p2, p3, p4, p5, p6, p7, p8⟩, hR, hS, hC, hU, hK, hT⟩ := F
  by_cases e : w' = w
  · subst e
    refine ⟨ns, nr, tm, tt, sc - 1 + 1, ex, pp, ⟨b1, b2, b3, b4, by omega, b6, b7⟩, ⟨v1, v2, v3, v4, pk_us, v6, v7, v8, v9, v10, v11⟩, ?_, hR, hS, hC, hU, hK, qr_st_push (qr_st_rm (by omega) (by omega) hT)⟩
    refine ⟨?_, ?_, ?_, ?_, ?_, ?_, ?_, ?_, ?_⟩ <;> simp (disch := omega) only [pk_us, pk_un, p0, p1, p2, p3, p4, p5, p6, p7, p8]
  · exact qr_frame hl hw' (R w' hw')
theorem qo_recv {lim w ns nr tm tt sc ex pp n j : Nat} (hl : lim ≤ 12) (hw : w < 2) (R : qr_R lim f_shared a_root a_sendChain a_recvChain a_hasSend a_hasRecv a_ownExponent a_ownPublic a_peerPublic a_sentCount a_recvNext a_prevLength a_turnDue a_turnsMade a_turnsTaken a_pushedOut a_usedList a_usedCount a_knownList a_knownCount a_storePublic a_storeNumber a_storeKey a_storeCount a_state a_agreed a_agreedCount a_publics a_chain a_store) (F : qr_F lim w ns nr tm tt sc ex pp f_shared a_root a_sendChain a_recvChain a_hasSend a_hasRecv a_ownExponent a_ownPublic a_peerPublic a_sentCount a_recvNext a_prevLength a_turnDue a_turnsMade a_turnsTaken a_pushedOut a_usedList a_usedCount a_knownList a_knownCount a_storePublic a_storeNumber a_storeKey a_storeCount a_state a_agreed a_agreedCount a_publics a_chain a_store) (hn : n ≤ 12) (hj : j < tm + tt) (hh : a_hasRecv w = 1) (hc : a_chain (2 + w) = nI (j + 1)) : qr_R lim f_shared a_root a_sendChain (upd a_recvChain w (qf_link (qf_start f_shared a_agreed w j) n)) a_hasSend a_hasRecv a_ownExponent a_ownPublic a_peerPublic a_sentCount (upd a_recvNext w (nI n)) a_prevLength a_turnDue a_turnsMade a_turnsTaken a_pushedOut a_usedList a_usedCount a_knownList a_knownCount a_storePublic a_storeNumber a_storeKey a_storeCount (upd a_state (w * 10 + 3) (nI n)) a_agreed a_agreedCount a_publics a_chain a_store := by
  intro w' hw'
  obtain ⟨⟨b1, b2, b3, b4, b5, b6, b7⟩, ⟨v1, v2, v3, v4, v5, v6, v7, v8, v9, v10, v11⟩, ⟨p0, p1, p2, p3, p4, p5, p6, p7, p8⟩, hR, hS, hC, hU, hK, hT⟩ := F
  by_cases e : w' = w
  · subst e
    refine ⟨ns, n, tm, tt, sc, ex, pp, ⟨b1, hn, b3, b4, b5, b6, b7⟩, ⟨v1, pk_us, v3, v4, v5, v6, v7, v8, v9, v10, v11⟩, ?_, hR, hS, Or.inr ⟨j, hj, hh, hc, pk_us⟩, hU, hK, hT⟩
    refine ⟨?_, ?_, ?_, ?_, ?_, ?_, ?_, ?_, ?_⟩ <;> simp (disch := omega) only [pk_us, pk_un, p0, p1, p2, p3, p4, p5, p6, p7, p8]
  · exact qr_frame hl hw' (R w' hw')
theorem qo_peer {lim w ns nr tm tt sc ex pp pb : Nat} {d : Int32} (hl : lim ≤ 12) (hw : w < 2) (R : qr_R lim f_shared a_root a_sendChain a_recvChain a_hasSend a_hasRecv a_ownExponent a_ownPublic a_peerPublic a_sentCount a_recvNext a_prevLength a_turnDue a_turnsMade a_turnsTaken a_pushedOut a_usedList a_usedCount a_knownList a_knownCount a_storePublic a_storeNumber a_storeKey a_storeCount a_state a_agreed a_agreedCount a_publics a_chain a_store) (F : qr_F lim w ns nr tm tt sc ex pp f_shared a_root a_sendChain a_recvChain a_hasSend a_hasRecv a_ownExponent a_ownPublic a_peerPublic a_sentCount a_recvNext a_prevLength a_turnDue a_turnsMade a_turnsTaken a_pushedOut a_usedList a_usedCount a_knownList a_knownCount a_storePublic a_storeNumber a_storeKey a_storeCount a_state a_agreed a_agreedCount a_publics a_chain a_store) (ht : tt < 8) (hb1 : 1 ≤ pb) (hb2 : pb < 2147483647) : qr_R lim f_shared (upd a_root w (qf_mix (qf_mix (a_root w) d) 1)) a_sendChain (upd a_recvChain w (qf_mix (qf_mix (a_root w) d) 2)) a_hasSend (upd a_hasRecv w 1) a_ownExponent a_ownPublic (upd a_peerPublic w (nI pb)) a_sentCount (upd a_recvNext w 0) a_prevLength (upd a_turnDue w 1) a_turnsMade (upd a_turnsTaken w (nI (tt + 1))) a_pushedOut a_usedList a_usedCount (upd a_knownList (w * 9 + (tt + (1 - w))) (nI pb)) (upd a_knownCount w (nI (tt + (1 - w) + 1))) a_storePublic a_storeNumber a_storeKey a_storeCount (upd (upd (upd (upd a_state (w * 10 + 1) (nI pb)) (w * 10 + 7) (a_state (w * 10 + 7) + 1)) (w * 10 + 5) 1) (w * 10 + 3) 0) (upd a_agreed (w * 16 + (tm + tt)) d) (upd a_agreedCount w (nI (tm + tt + 1))) (upd a_publics ((2 + w) * 17 + (tm + tt + 1)) (nI pb)) (upd a_chain (2 + w) (nI (tm + tt + 1))) a_store := by
  intro w' hw'
  obtain ⟨⟨b1, b2, b3, b4, b5, b6, b7⟩, ⟨v1, v2, v3, v4, v5, v6, v7, v8, v9, v10, v11⟩, ⟨p0, p1, p2, p3, p4, p5, p6, p7, p8⟩, hR, hS, hC, hU, hK, hT⟩ := F
  by_cases e : w' = w
  · subst e
    have eac : tm + (tt + 1) = tm + tt + 1 := by omega
    have euc : tt + 1 + (1 - w') = tt + (1 - w') + 1 := by omega
    have hag : ∀ i, i < tm + tt → upd a_agreed (w' * 16 + (tm + tt)) d (w' * 16 + i) = a_agreed (w' * 16 + i) := fun i hi => pk_un (by omega)
    refine ⟨ns, 0, tm, tt + 1, sc, ex, pb, ⟨b1, by omega, b3, by omega, b5, b6, hb2⟩, ⟨v1, pk_us, v3, pk_us, v5, v6, pk_us, v8, ?_, ?_, Or.inr pk_us⟩, ?_, ?_, ?_, ?_, ?_, ?_, hT⟩
    · rw [euc]; exact pk_us
    · rw [eac]; exact pk_us
    · refine ⟨?_, ?_, ?_, ?_, ?_, ?_, ?_, ?_, ?_⟩ <;> simp (disch := omega) only [pk_us, pk_un, p0, p1, p2, p3, p4, p5, p6, p7, p8, v4, qf_a1]
    · rw [eac, pk_us, hR]
      show _ = qf_mix (qf_mix (qf_root f_shared _ w' (tm + tt)) (upd a_agreed (w' * 16 + (tm + tt)) d (w' * 16 + (tm + tt)))) 1
      rw [pk_us, qf_root_c hag]
    · rw [eac, pk_un (by omega)]
      exact qr_ch_c (by omega) hag hS
    · refine Or.inr ⟨tm + tt, by omega, pk_us, pk_us, ?_⟩
      rw [pk_us, hR]
      show _ = qf_mix (qf_start _ _ _ _) 2
      rw [qf_start, pk_us, qf_root_c hag]
    · rw [eac]
      exact qr_set_c (by omega) (by omega) (fun i hi => rfl) (fun i hi => pk_un (by omega)) hU
    · rw [eac, euc]
      exact qr_set_add (nI_ne0 (by omega) (by omega)) (by omega) hK
  · exact qr_frame hl hw' (R w' hw')
end
end
section
/-! the reading methods -/
theorem qf_gt {v : Int32} {n : Nat} (hn : n + 1 < 2 ^ 31) (h : nI (n + 1) ≤ v) : ¬ v ≤ nI n ∧ nI n < v := by
  rw [Int32.le_iff_toInt_le, nI_toInt hn] at h
  rw [Int32.le_iff_toInt_le, Int32.lt_iff_toInt_lt, nI_toInt (by omega)]
  omega
section
variable {f_skipLimit f_storeLimit : Int32} {a_pool a_filled a_root a_sendChain a_recvChain a_hasSend a_hasRecv a_ownExponent a_ownPublic a_peerPublic a_sentCount a_recvNext a_prevLength a_turnDue a_turnsMade a_turnsTaken a_pushedOut a_accepted a_lastWords a_usedList a_usedCount a_knownList a_knownCount a_storePublic a_storeNumber a_storeKey a_storeCount : Nat → Int32}
theorem qx_pos_0 {post : Int32 → Prop} {w : Nat} (hw : w < 2) (h : post (a_ownPublic w)) : wpX_position post (f_skipLimit, f_storeLimit, a_pool, a_filled, a_root, a_sendChain, a_recvChain, a_hasSend, a_hasRecv, a_ownExponent, a_ownPublic, a_peerPublic, a_sentCount, a_recvNext, a_prevLength, a_turnDue, a_turnsMade, a_turnsTaken, a_pushedOut, a_accepted, a_lastWords, a_usedList, a_usedCount, a_knownList, a_knownCount, a_storePublic, a_storeNumber, a_storeKey, a_storeCount) (nI w) 0 := by
  have hin : vp_in (nI w) 2 := vp_in_nI hw (by decide)
  unfold wpX_position
  dsimp only
  rw [nI_clamp (n := w) (by omega)]
  exact qx_ep hw (br_f (by decide) (br_f (by decide) (br_f (by decide) (br_t (by decide) (And.intro hin h)))))
theorem qx_pos_1 {post : Int32 → Prop} {w : Nat} (hw : w < 2) (h : post (a_peerPublic w)) : wpX_position post (f_skipLimit, f_storeLimit, a_pool, a_filled, a_root, a_sendChain, a_recvChain, a_hasSend, a_hasRecv, a_ownExponent, a_ownPublic, a_peerPublic, a_sentCount, a_recvNext, a_prevLength, a_turnDue, a_turnsMade, a_turnsTaken, a_pushedOut, a_accepted, a_lastWords, a_usedList, a_usedCount, a_knownList, a_knownCount, a_storePublic, a_storeNumber, a_storeKey, a_storeCount) (nI w) 1 := by
  have hin : vp_in (nI w) 2 := vp_in_nI hw (by decide)
  unfold wpX_position
  dsimp only
  rw [nI_clamp (n := w) (by omega)]
  exact qx_ep hw (br_f (by decide) (br_f (by decide) (br_f (by decide) (br_f (by decide) (br_t (by decide) (And.intro hin h))))))
theorem qx_pos_2 {post : Int32 → Prop} {w : Nat} (hw : w < 2) (h : post (a_sentCount w)) : wpX_position post (f_skipLimit, f_storeLimit, a_pool, a_filled, a_root, a_sendChain, a_recvChain, a_hasSend, a_hasRecv, a_ownExponent, a_ownPublic, a_peerPublic, a_sentCount, a_recvNext, a_prevLength, a_turnDue, a_turnsMade, a_turnsTaken, a_pushedOut, a_accepted, a_lastWords, a_usedList, a_usedCount, a_knownList, a_knownCount, a_storePublic, a_storeNumber, a_storeKey, a_storeCount) (nI w) 2 := by
  have hin : vp_in (nI w) 2 := vp_in_nI hw (by decide)
  unfold wpX_position
  dsimp only
  rw [nI_clamp (n := w) (by omega)]
  exact qx_ep hw (br_f (by decide) (br_f (by decide) (br_f (by decide) (br_f (by decide) (br_f (by decide) (br_t (by decide) (And.intro hin h)))))))
theorem qx_pos_3 {post : Int32 → Prop} {w : Nat} (hw : w < 2) (h : post (a_recvNext w)) : wpX_position post (f_skipLimit, f_storeLimit, a_pool, a_filled, a_root, a_sendChain, a_recvChain, a_hasSend, a_hasRecv, a_ownExponent, a_ownPublic, a_peerPublic, a_sentCount, a_recvNext, a_prevLength, a_turnDue, a_turnsMade, a_turnsTaken, a_pushedOut, a_accepted, a_lastWords, a_usedList, a_usedCount, a_knownList, a_knownCount, a_storePublic, a_storeNumber, a_storeKey, a_storeCount) (nI w) 3 := by
  have hin : vp_in (nI w) 2 := vp_in_nI hw (by decide)
  unfold wpX_position
  dsimp only
  rw [nI_clamp (n := w) (by omega)]
  exact qx_ep hw (br_f (by decide) (br_f (by decide) (br_f (by decide) (br_f (by decide) (br_f (by decide) (br_f (by decide) (br_t (by decide) (And.intro hin h))))))))
theorem qx_pos_4 {post : Int32 → Prop} {w : Nat} (hw : w < 2) (h : post (a_prevLength w)) : wpX_position post (f_skipLimit, f_storeLimit, a_pool, a_filled, a_root, a_sendChain, a_recvChain, a_hasSend, a_hasRecv, a_ownExponent, a_ownPublic, a_peerPublic, a_sentCount, a_recvNext, a_prevLength, a_turnDue, a_turnsMade, a_turnsTaken, a_pushedOut, a_accepted, a_lastWords, a_usedList, a_usedCount, a_knownList, a_knownCount, a_storePublic, a_storeNumber, a_storeKey, a_storeCount) (nI w) 4 := by
  have hin : vp_in (nI w) 2 := vp_in_nI hw (by decide)
  unfold wpX_position
  dsimp only
  rw [nI_clamp (n := w) (by omega)]
  exact qx_ep hw (br_f (by decide) (br_f (by decide) (br_f (by decide) (br_f (by decide) (br_f (by decide) (br_f (by decide) (br_f (by decide) (br_t (by decide) (And.intro hin h)))))))))
theorem qx_pos_6 {post : Int32 → Prop} {w : Nat} (hw : w < 2) (h : post (a_turnsMade w)) : wpX_position post (f_skipLimit, f_storeLimit, a_pool, a_filled, a_root, a_sendChain, a_recvChain, a_hasSend, a_hasRecv, a_ownExponent, a_ownPublic, a_peerPublic, a_sentCount, a_recvNext, a_prevLength, a_turnDue, a_turnsMade, a_turnsTaken, a_pushedOut, a_accepted, a_lastWords, a_usedList, a_usedCount, a_knownList, a_knownCount, a_storePublic, a_storeNumber, a_storeKey, a_storeCount) (nI w) 6 := by
  have hin : vp_in (nI w) 2 := vp_in_nI hw (by decide)
  unfold wpX_position
  dsimp only
  rw [nI_clamp (n := w) (by omega)]
  exact qx_ep hw (br_f (by decide) (br_f (by decide) (br_f (by decide) (br_f (by decide) (br_f (by decide) (br_f (by decide) (br_f (by decide) (br_f (by decide) (br_f (by decide) (br_t (by decide) (And.intro hin h)))))))))))
theorem qx_pos_7 {post : Int32 → Prop} {w : Nat} (hw : w < 2) (h : post (a_turnsTaken w)) : wpX_position post (f_skipLimit, f_storeLimit, a_pool, a_filled, a_root, a_sendChain, a_recvChain, a_hasSend, a_hasRecv, a_ownExponent, a_ownPublic, a_peerPublic, a_sentCount, a_recvNext, a_prevLength, a_turnDue, a_turnsMade, a_turnsTaken, a_pushedOut, a_accepted, a_lastWords, a_usedList, a_usedCount, a_knownList, a_knownCount, a_storePublic, a_storeNumber, a_storeKey, a_storeCount) (nI w) 7 := by
  have hin : vp_in (nI w) 2 := vp_in_nI hw (by decide)
  unfold wpX_position
  dsimp only
  rw [nI_clamp (n := w) (by omega)]
  exact qx_ep hw (br_f (by decide) (br_f (by decide) (br_f (by decide) (br_f (by decide) (br_f (by decide) (br_f (by decide) (br_f (by decide) (br_f (by decide) (br_f (by decide) (br_f (by decide) (br_t (by decide) (And.intro hin h))))))))))))
theorem qx_pos_8 {post : Int32 → Prop} {w : Nat} (hw : w < 2) (h : post (a_pushedOut w)) : wpX_position post (f_skipLimit, f_storeLimit, a_pool, a_filled, a_root, a_sendChain, a_recvChain, a_hasSend, a_hasRecv, a_ownExponent, a_ownPublic, a_peerPublic, a_sentCount, a_recvNext, a_prevLength, a_turnDue, a_turnsMade, a_turnsTaken, a_pushedOut, a_accepted, a_lastWords, a_usedList, a_usedCount, a_knownList, a_knownCount, a_storePublic, a_storeNumber, a_storeKey, a_storeCount) (nI w) 8 := by
  have hin : vp_in (nI w) 2 := vp_in_nI hw (by decide)
  unfold wpX_position
  dsimp only
  rw [nI_clamp (n := w) (by omega)]
  exact qx_ep hw (br_f (by decide) (br_f (by decide) (br_f (by decide) (br_f (by decide) (br_f (by decide) (br_f (by decide) (br_f (by decide) (br_f (by decide) (br_f (by decide) (br_f (by decide) (br_f (by decide) (br_t (by decide) (And.intro hin h)))))))))))))
theorem qx_pos_9 {post : Int32 → Prop} {w : Nat} (hw : w < 2) (h : post (a_accepted w)) : wpX_position post (f_skipLimit, f_storeLimit, a_pool, a_filled, a_root, a_sendChain, a_recvChain, a_hasSend, a_hasRecv, a_ownExponent, a_ownPublic, a_peerPublic, a_sentCount, a_recvNext, a_prevLength, a_turnDue, a_turnsMade, a_turnsTaken, a_pushedOut, a_accepted, a_lastWords, a_usedList, a_usedCount, a_knownList, a_knownCount, a_storePublic, a_storeNumber, a_storeKey, a_storeCount) (nI w) 9 := by
  have hin : vp_in (nI w) 2 := vp_in_nI hw (by decide)
  unfold wpX_position
  dsimp only
  rw [nI_clamp (n := w) (by omega)]
  exact qx_ep hw (br_f (by decide) (br_f (by decide) (br_f (by decide) (br_f (by decide) (br_f (by decide) (br_f (by decide) (br_f (by decide) (br_f (by decide) (br_f (by decide) (br_f (by decide) (br_f (by decide) (br_f (by decide) (br_t (by decide) (And.intro hin h))))))))))))))
theorem qx_pos_5 {post : Int32 → Prop} {w : Nat} (hw : w < 2) (ht : a_turnDue w = 0 ∨ a_turnDue w = 1) (h : post (a_turnDue w)) : wpX_position post (f_skipLimit, f_storeLimit, a_pool, a_filled, a_root, a_sendChain, a_recvChain, a_hasSend, a_hasRecv, a_ownExponent, a_ownPublic, a_peerPublic, a_sentCount, a_recvNext, a_prevLength, a_turnDue, a_turnsMade, a_turnsTaken, a_pushedOut, a_accepted, a_lastWords, a_usedList, a_usedCount, a_knownList, a_knownCount, a_storePublic, a_storeNumber, a_storeKey, a_storeCount) (nI w) 5 := by
  have hin : vp_in (nI w) 2 := vp_in_nI hw (by decide)
  unfold wpX_position
  dsimp only
  rw [nI_clamp (n := w) (by omega)]
  rcases ht with e | e
  · rw [e] at h; exact qx_ep hw (br_f (by decide) (br_f (by decide) (br_f (by decide) (br_f (by decide) (br_f (by decide) (br_f (by decide) (br_f (by decide) (br_f (by decide) (br_t (by decide) (And.intro hin (br_t e h)))))))))))
  · rw [e] at h; exact qx_ep hw (br_f (by decide) (br_f (by decide) (br_f (by decide) (br_f (by decide) (br_f (by decide) (br_f (by decide) (br_f (by decide) (br_f (by decide) (br_t (by decide) (And.intro hin (br_f (by rw [e]; decide) h)))))))))))
theorem qx_pos_n {post : Int32 → Prop} {w : Nat} {x : Int32} (hw : w < 2) (e : x < 0 ∨ nI 10 ≤ x) (h : post (-1)) : wpX_position post (f_skipLimit, f_storeLimit, a_pool, a_filled, a_root, a_sendChain, a_recvChain, a_hasSend, a_hasRecv, a_ownExponent, a_ownPublic, a_peerPublic, a_sentCount, a_recvNext, a_prevLength, a_turnDue, a_turnsMade, a_turnsTaken, a_pushedOut, a_accepted, a_lastWords, a_usedList, a_usedCount, a_knownList, a_knownCount, a_storePublic, a_storeNumber, a_storeKey, a_storeCount) (nI w) x := by
  unfold wpX_position
  dsimp only
  refine qx_ep hw (br_f (by decide) (br_c (fun _ => h) (fun h0 => br_t ?_ h)))
  rcases e with e | e
  · exact absurd e h0
  · exact (qf_gt (n := 9) (by omega) e).2
theorem qx_pos_e {post : Int32 → Prop} {y x : Int32} (h0 : ¬ y = 0) (h1 : ¬ y = 1) (h : post (-1)) : wpX_position post (f_skipLimit, f_storeLimit, a_pool, a_filled, a_root, a_sendChain, a_recvChain, a_hasSend, a_hasRecv, a_ownExponent, a_ownPublic, a_peerPublic, a_sentCount, a_recvNext, a_prevLength, a_turnDue, a_turnsMade, a_turnsTaken, a_pushedOut, a_accepted, a_lastWords, a_usedList, a_usedCount, a_knownList, a_knownCount, a_storePublic, a_storeNumber, a_storeKey, a_storeCount) y x := by
  unfold wpX_position
  dsimp only
  exact qx_nep h0 h1 (br_t rfl h)
theorem qx_lw {post : Int32 → Prop} {w : Nat} (hw : w < 2) (h : post (a_lastWords w)) : wpX_lastWord post (f_skipLimit, f_storeLimit, a_pool, a_filled, a_root, a_sendChain, a_recvChain, a_hasSend, a_hasRecv, a_ownExponent, a_ownPublic, a_peerPublic, a_sentCount, a_recvNext, a_prevLength, a_turnDue, a_turnsMade, a_turnsTaken, a_pushedOut, a_accepted, a_lastWords, a_usedList, a_usedCount, a_knownList, a_knownCount, a_storePublic, a_storeNumber, a_storeKey, a_storeCount) (nI w) := by
  have hin : vp_in (nI w) 2 := vp_in_nI hw (by decide)
  unfold wpX_lastWord
  dsimp only
  rw [nI_clamp (n := w) (by omega)]
  exact qx_ep hw (br_f (by decide) (And.intro hin h))
theorem qx_lw_e {post : Int32 → Prop} {y : Int32} (h0 : ¬ y = 0) (h1 : ¬ y = 1) (h : post (-1)) : wpX_lastWord post (f_skipLimit, f_storeLimit, a_pool, a_filled, a_root, a_sendChain, a_recvChain, a_hasSend, a_hasRecv, a_ownExponent, a_ownPublic, a_peerPublic, a_sentCount, a_recvNext, a_prevLength, a_turnDue, a_turnsMade, a_turnsTaken, a_pushedOut, a_accepted, a_lastWords, a_usedList, a_usedCount, a_knownList, a_knownCount, a_storePublic, a_storeNumber, a_storeKey, a_storeCount) y := by
  unfold wpX_lastWord
  dsimp only
  exact qx_nep h0 h1 (br_t rfl h)
theorem qx_sc {post : Int32 → Prop} {w : Nat} (hw : w < 2) (h : post (a_storeCount w)) : wpX_storedCount post (f_skipLimit, f_storeLimit, a_pool, a_filled, a_root, a_sendChain, a_recvChain, a_hasSend, a_hasRecv, a_ownExponent, a_ownPublic, a_peerPublic, a_sentCount, a_recvNext, a_prevLength, a_turnDue, a_turnsMade, a_turnsTaken, a_pushedOut, a_accepted, a_lastWords, a_usedList, a_usedCount, a_knownList, a_knownCount, a_storePublic, a_storeNumber, a_storeKey, a_storeCount) (nI w) := by
  have hin : vp_in (nI w) 2 := vp_in_nI hw (by decide)
  unfold wpX_storedCount
  dsimp only
  rw [nI_clamp (n := w) (by omega)]
  exact qx_ep hw (br_f (by decide) (And.intro hin h))
theorem qx_sc_e {post : Int32 → Prop} {y : Int32} (h0 : ¬ y = 0) (h1 : ¬ y = 1) (h : post (-1)) : wpX_storedCount post (f_skipLimit, f_storeLimit, a_pool, a_filled, a_root, a_sendChain, a_recvChain, a_hasSend, a_hasRecv, a_ownExponent, a_ownPublic, a_peerPublic, a_sentCount, a_recvNext, a_prevLength, a_turnDue, a_turnsMade, a_turnsTaken, a_pushedOut, a_accepted, a_lastWords, a_usedList, a_usedCount, a_knownList, a_knownCount, a_storePublic, a_storeNumber, a_storeKey, a_storeCount) y := by
  unfold wpX_storedCount
  dsimp only
  exact qx_nep h0 h1 (br_t rfl h)
theorem qx_field {post : Int32 → Prop} {x : Int32} {s f : Nat} (H : qr_hold a_filled x s) (hf : f < 6) (h : post (a_pool (s * 6 + f))) : wpX_field post (f_skipLimit, f_storeLimit, a_pool, a_filled, a_root, a_sendChain, a_recvChain, a_hasSend, a_hasRecv, a_ownExponent, a_ownPublic, a_peerPublic, a_sentCount, a_recvNext, a_prevLength, a_turnDue, a_turnsMade, a_turnsTaken, a_pushedOut, a_accepted, a_lastWords, a_usedList, a_usedCount, a_knownList, a_knownCount, a_storePublic, a_storeNumber, a_storeKey, a_storeCount) x (nI f) := by
  unfold wpX_field
  dsimp only
  refine qx_hold H (br_f (by decide) (br_f (nI_pos (by omega)) (br_t (nI_le (b := 5) (by omega) (by decide)) ?_)))
  obtain ⟨hs, rfl, _⟩ := H
  rw [qf_m6, nI_add, nI_clamp (by omega)]
  exact And.intro (vp_in_nI (by omega) (by decide)) h
theorem qx_field_n {post : Int32 → Prop} {x y : Int32} {s : Nat} (H : qr_hold a_filled x s) (e : y < 0 ∨ nI 6 ≤ y) (h : post (-1)) : wpX_field post (f_skipLimit, f_storeLimit, a_pool, a_filled, a_root, a_sendChain, a_recvChain, a_hasSend, a_hasRecv, a_ownExponent, a_ownPublic, a_peerPublic, a_sentCount, a_recvNext, a_prevLength, a_turnDue, a_turnsMade, a_turnsTaken, a_pushedOut, a_accepted, a_lastWords, a_usedList, a_usedCount, a_knownList, a_knownCount, a_storePublic, a_storeNumber, a_storeKey, a_storeCount) x y := by
  unfold wpX_field
  dsimp only
  refine qx_hold H (br_f (by decide) (br_c (fun _ => h) (fun h0 => br_f ?_ h)))
  rcases e with e | e
  · exact absurd e h0
  · exact (qf_gt (n := 5) (by omega) e).1
theorem qx_field_e {post : Int32 → Prop} {x y : Int32} (H : ∀ s, ¬ qr_hold a_filled x s) (h : post (-1)) : wpX_field post (f_skipLimit, f_storeLimit, a_pool, a_filled, a_root, a_sendChain, a_recvChain, a_hasSend, a_hasRecv, a_ownExponent, a_ownPublic, a_peerPublic, a_sentCount, a_recvNext, a_prevLength, a_turnDue, a_turnsMade, a_turnsTaken, a_pushedOut, a_accepted, a_lastWords, a_usedList, a_usedCount, a_knownList, a_knownCount, a_storePublic, a_storeNumber, a_storeKey, a_storeCount) x y := by
  unfold wpX_field
  dsimp only
  exact qx_nhold H (br_t rfl h)
theorem qx_sec0 {post : Int32 → Prop} {w : Nat} (hw : w < 2) (h : post (a_root w)) : wpX_secret post (f_skipLimit, f_storeLimit, a_pool, a_filled, a_root, a_sendChain, a_recvChain, a_hasSend, a_hasRecv, a_ownExponent, a_ownPublic, a_peerPublic, a_sentCount, a_recvNext, a_prevLength, a_turnDue, a_turnsMade, a_turnsTaken, a_pushedOut, a_accepted, a_lastWords, a_usedList, a_usedCount, a_knownList, a_knownCount, a_storePublic, a_storeNumber, a_storeKey, a_storeCount) (nI w) 0 := by
  have hin : vp_in (nI w) 2 := vp_in_nI hw (by decide)
  unfold wpX_secret
  dsimp only
  rw [nI_clamp (n := w) (by omega)]
  exact qx_ep hw (br_f (by decide) (br_t rfl (And.intro hin h)))
theorem qx_sec1 {post : Int32 → Prop} {w : Nat} (hw : w < 2) (e : ¬ a_hasSend w = 0) (h : post (a_sendChain w)) : wpX_secret post (f_skipLimit, f_storeLimit, a_pool, a_filled, a_root, a_sendChain, a_recvChain, a_hasSend, a_hasRecv, a_ownExponent, a_ownPublic, a_peerPublic, a_sentCount, a_recvNext, a_prevLength, a_turnDue, a_turnsMade, a_turnsTaken, a_pushedOut, a_accepted, a_lastWords, a_usedList, a_usedCount, a_knownList, a_knownCount, a_storePublic, a_storeNumber, a_storeKey, a_storeCount) (nI w) 1 := by
  have hin : vp_in (nI w) 2 := vp_in_nI hw (by decide)
  unfold wpX_secret
  dsimp only
  rw [nI_clamp (n := w) (by omega)]
  exact qx_ep hw (br_f (by decide) (br_f (by decide) (br_t rfl (And.intro hin (br_f e (And.intro hin h))))))
theorem qx_sec1n {post : Int32 → Prop} {w : Nat} (hw : w < 2) (e : a_hasSend w = 0) (h : post (-1)) : wpX_secret post (f_skipLimit, f_storeLimit, a_pool, a_filled, a_root, a_sendChain, a_recvChain, a_hasSend, a_hasRecv, a_ownExponent, a_ownPublic, a_peerPublic, a_sentCount, a_recvNext, a_prevLength, a_turnDue, a_turnsMade, a_turnsTaken, a_pushedOut, a_accepted, a_lastWords, a_usedList, a_usedCount, a_knownList, a_knownCount, a_storePublic, a_storeNumber, a_storeKey, a_storeCount) (nI w) 1 := by
  have hin : vp_in (nI w) 2 := vp_in_nI hw (by decide)
  unfold wpX_secret
  dsimp only
  rw [nI_clamp (n := w) (by omega)]
  exact qx_ep hw (br_f (by decide) (br_f (by decide) (br_t rfl (And.intro hin (br_t e (br_f (by decide) h))))))
theorem qx_sec2 {post : Int32 → Prop} {w : Nat} (hw : w < 2) (e : ¬ a_hasRecv w = 0) (h : post (a_recvChain w)) : wpX_secret post (f_skipLimit, f_storeLimit, a_pool, a_filled, a_root, a_sendChain, a_recvChain, a_hasSend, a_hasRecv, a_ownExponent, a_ownPublic, a_peerPublic, a_sentCount, a_recvNext, a_prevLength, a_turnDue, a_turnsMade, a_turnsTaken, a_pushedOut, a_accepted, a_lastWords, a_usedList, a_usedCount, a_knownList, a_knownCount, a_storePublic, a_storeNumber, a_storeKey, a_storeCount) (nI w) 2 := by
  have hin : vp_in (nI w) 2 := vp_in_nI hw (by decide)
  unfold wpX_secret wX_secret_42
  dsimp only
  rw [nI_clamp (n := w) (by omega)]
  exact qx_ep hw (br_f (by decide) (br_f (by decide) (br_f (by decide) (br_t rfl (And.intro hin (br_f e (And.intro hin h)))))))
theorem qx_sec2n {post : Int32 → Prop} {w : Nat} (hw : w < 2) (e : a_hasRecv w = 0) (h : post (-1)) : wpX_secret post (f_skipLimit, f_storeLimit, a_pool, a_filled, a_root, a_sendChain, a_recvChain, a_hasSend, a_hasRecv, a_ownExponent, a_ownPublic, a_peerPublic, a_sentCount, a_recvNext, a_prevLength, a_turnDue, a_turnsMade, a_turnsTaken, a_pushedOut, a_accepted, a_lastWords, a_usedList, a_usedCount, a_knownList, a_knownCount, a_storePublic, a_storeNumber, a_storeKey, a_storeCount) (nI w) 2 := by
  have hin : vp_in (nI w) 2 := vp_in_nI hw (by decide)
  unfold wpX_secret wX_secret_42
  dsimp only
  rw [nI_clamp (n := w) (by omega)]
  exact qx_ep hw (br_f (by decide) (br_f (by decide) (br_f (by decide) (br_t rfl (And.intro hin (br_t e h))))))
theorem qx_secn {post : Int32 → Prop} {w : Nat} {x : Int32} (hw : w < 2) (h0 : ¬ x = 0) (h1 : ¬ x = 1) (h2 : ¬ x = 2) (h : post (-1)) : wpX_secret post (f_skipLimit, f_storeLimit, a_pool, a_filled, a_root, a_sendChain, a_recvChain, a_hasSend, a_hasRecv, a_ownExponent, a_ownPublic, a_peerPublic, a_sentCount, a_recvNext, a_prevLength, a_turnDue, a_turnsMade, a_turnsTaken, a_pushedOut, a_accepted, a_lastWords, a_usedList, a_usedCount, a_knownList, a_knownCount, a_storePublic, a_storeNumber, a_storeKey, a_storeCount) (nI w) x := by
  unfold wpX_secret wX_secret_42
  dsimp only
  exact qx_ep hw (br_f (by decide) (br_f h0 (br_f h1 (br_f h2 h))))
theorem qx_sec_e {post : Int32 → Prop} {y x : Int32} (h0 : ¬ y = 0) (h1 : ¬ y = 1) (h : post (-1)) : wpX_secret post (f_skipLimit, f_storeLimit, a_pool, a_filled, a_root, a_sendChain, a_recvChain, a_hasSend, a_hasRecv, a_ownExponent, a_ownPublic, a_peerPublic, a_sentCount, a_recvNext, a_prevLength, a_turnDue, a_turnsMade, a_turnsTaken, a_pushedOut, a_accepted, a_lastWords, a_usedList, a_usedCount, a_knownList, a_knownCount, a_storePublic, a_storeNumber, a_storeKey, a_storeCount) y x := by
  unfold wpX_secret
  dsimp only
  exact qx_nep h0 h1 (br_t rfl h)
theorem qx_std {post : Int32 → Prop} {w i sc : Nat} (hw : w < 2) (hs : sc ≤ 12) (es : a_storeCount w = nI sc) (hi : i < sc) {c : Nat} (hc : c < 3) (h0 : c = 0 → post (a_storePublic (w * 12 + i))) (h1 : c = 1 → post (a_storeNumber (w * 12 + i))) (h2 : c = 2 → post (a_storeKey (w * 12 + i))) : wpX_stored post (f_skipLimit, f_storeLimit, a_pool, a_filled, a_root, a_sendChain, a_recvChain, a_hasSend, a_hasRecv, a_ownExponent, a_ownPublic, a_peerPublic, a_sentCount, a_recvNext, a_prevLength, a_turnDue, a_turnsMade, a_turnsTaken, a_pushedOut, a_accepted, a_lastWords, a_usedList, a_usedCount, a_knownList, a_knownCount, a_storePublic, a_storeNumber, a_storeKey, a_storeCount) (nI w) (nI i) (nI c) := by
  have hin : vp_in (nI w) 2 := vp_in_nI hw (by decide)
  have h24 : vp_in (nI (w * 12 + i)) 24 := vp_in_nI (by omega) (by decide)
  unfold wpX_stored
  dsimp only
  rw [nI_clamp (n := w) (by omega), es]
  refine qx_ep hw (br_f (by decide) (br_f (nI_pos (by omega)) (And.intro hin (br_t (nI_lt hi (by omega)) (nm_r (e' := nI (w * 12 + i)) (by rw [qf_m12, nI_add]) ?_)))))
  rw [nI_clamp (by omega)]
  refine br_f (nI_pos (by omega)) (br_f (nI_nlt (a := 2) (by omega) (by omega)) ?_)
  have e : c = 0 ∨ c = 1 ∨ c = 2 := by omega
  rcases e with rfl | rfl | rfl
  · exact br_t (by decide) (And.intro h24 (h0 rfl))
  · exact br_f (by decide) (br_t (by decide) (And.intro h24 (h1 rfl)))
  · exact br_f (by decide) (br_f (by decide) (br_t (by decide) (And.intro h24 (h2 rfl))))
theorem qx_std_i {post : Int32 → Prop} {w sc : Nat} {x y : Int32} (hw : w < 2) (hs : sc ≤ 12) (es : a_storeCount w = nI sc) (e : x < 0 ∨ nI sc ≤ x) (h : post (-1)) : wpX_stored post (f_skipLimit, f_storeLimit, a_pool, a_filled, a_root, a_sendChain, a_recvChain, a_hasSend, a_hasRecv, a_ownExponent, a_ownPublic, a_peerPublic, a_sentCount, a_recvNext, a_prevLength, a_turnDue, a_turnsMade, a_turnsTaken, a_pushedOut, a_accepted, a_lastWords, a_usedList, a_usedCount, a_knownList, a_knownCount, a_storePublic, a_storeNumber, a_storeKey, a_storeCount) (nI w) x y := by
  have hin : vp_in (nI w) 2 := vp_in_nI hw (by decide)
  unfold wpX_stored
  dsimp only
  rw [nI_clamp (n := w) (by omega), es]
  refine qx_ep hw (br_f (by decide) (br_c (fun _ => h) (fun h0 => And.intro hin (br_f ?_ h))))
  rcases e with e | e
  · exact absurd e h0
  · exact Int32.not_lt.mpr e
theorem qx_std_c {post : Int32 → Prop} {w i sc : Nat} {y : Int32} (hw : w < 2) (hs : sc ≤ 12) (es : a_storeCount w = nI sc) (hi : i < sc) (e : y < 0 ∨ nI 3 ≤ y) (h : post (-1)) : wpX_stored post (f_skipLimit, f_storeLimit, a_pool, a_filled, a_root, a_sendChain, a_recvChain, a_hasSend, a_hasRecv, a_ownExponent, a_ownPublic, a_peerPublic, a_sentCount, a_recvNext, a_prevLength, a_turnDue, a_turnsMade, a_turnsTaken, a_pushedOut, a_accepted, a_lastWords, a_usedList, a_usedCount, a_knownList, a_knownCount, a_storePublic, a_storeNumber, a_storeKey, a_storeCount) (nI w) (nI i) y := by
  have hin : vp_in (nI w) 2 := vp_in_nI hw (by decide)
  unfold wpX_stored
  dsimp only
  rw [nI_clamp (n := w) (by omega), es]
  refine qx_ep hw (br_f (by decide) (br_f (nI_pos (by omega)) (And.intro hin (br_t (nI_lt hi (by omega)) (nm_e (br_c (fun _ => h) (fun h0 => br_t ?_ h)))))))
  rcases e with e | e
  · exact absurd e h0
  · exact (qf_gt (n := 2) (by omega) e).2
theorem qx_std_e {post : Int32 → Prop} {y x z : Int32} (h0 : ¬ y = 0) (h1 : ¬ y = 1) (h : post (-1)) : wpX_stored post (f_skipLimit, f_storeLimit, a_pool, a_filled, a_root, a_sendChain, a_recvChain, a_hasSend, a_hasRecv, a_ownExponent, a_ownPublic, a_peerPublic, a_sentCount, a_recvNext, a_prevLength, a_turnDue, a_turnsMade, a_turnsTaken, a_pushedOut, a_accepted, a_lastWords, a_usedList, a_usedCount, a_knownList, a_knownCount, a_storePublic, a_storeNumber, a_storeKey, a_storeCount) y x z := by
  unfold wpX_stored
  dsimp only
  exact qx_nep h0 h1 (br_t rfl h)
end
end
section
section
variable {f_shared f_skipLimit f_storeLimit : Int32} {a_pool a_full a_state a_ownExponent a_word a_agreed a_agreedCount a_publics a_chain a_store a_size : Nat → Int32}
theorem qy_pos {post : Int32 → Prop} {w f : Nat} (hw : w < 2) (hf : f < 10) (h : post (a_state (w * 10 + f))) : wpY_position post (f_shared, f_skipLimit, f_storeLimit, a_pool, a_full, a_state, a_ownExponent, a_word, a_agreed, a_agreedCount, a_publics, a_chain, a_store, a_size) (nI w) (nI f) := by
  unfold wpY_position
  dsimp only
  rw [qf_m10, nI_add, nI_clamp (by omega)]
  exact qy_ep hw (br_f (by decide) (br_f (nI_pos (by omega)) (br_f (nI_nlt (a := 9) (by omega) (by omega)) (And.intro (vp_in_nI (by omega) (by decide)) h))))
theorem qy_pos_n {post : Int32 → Prop} {w : Nat} {x : Int32} (hw : w < 2) (e : x < 0 ∨ nI 10 ≤ x) (h : post (-1)) : wpY_position post (f_shared, f_skipLimit, f_storeLimit, a_pool, a_full, a_state, a_ownExponent, a_word, a_agreed, a_agreedCount, a_publics, a_chain, a_store, a_size) (nI w) x := by
  unfold wpY_position
  dsimp only
  refine qy_ep hw (br_f (by decide) (br_c (fun _ => h) (fun h0 => br_t ?_ h)))
  rcases e with e | e
  · exact absurd e h0
  · exact (qf_gt (n := 9) (by omega) e).2
theorem qy_pos_e {post : Int32 → Prop} {y x : Int32} (h0 : ¬ y = 0) (h1 : ¬ y = 1) (h : post (-1)) : wpY_position post (f_shared, f_skipLimit, f_storeLimit, a_pool, a_full, a_state, a_ownExponent, a_word, a_agreed, a_agreedCount, a_publics, a_chain, a_store, a_size) y x := by
  unfold wpY_position
  dsimp only
  exact qy_nep h0 h1 (br_t rfl h)
theorem qy_lw {post : Int32 → Prop} {w : Nat} (hw : w < 2) (h : post (a_word w)) : wpY_lastWord post (f_shared, f_skipLimit, f_storeLimit, a_pool, a_full, a_state, a_ownExponent, a_word, a_agreed, a_agreedCount, a_publics, a_chain, a_store, a_size) (nI w) := by
  have hin : vp_in (nI w) 2 := vp_in_nI hw (by decide)
  unfold wpY_lastWord
  dsimp only
  rw [nI_clamp (n := w) (by omega)]
  exact qy_ep hw (br_f (by decide) (And.intro hin h))
theorem qy_lw_e {post : Int32 → Prop} {y : Int32} (h0 : ¬ y = 0) (h1 : ¬ y = 1) (h : post (-1)) : wpY_lastWord post (f_shared, f_skipLimit, f_storeLimit, a_pool, a_full, a_state, a_ownExponent, a_word, a_agreed, a_agreedCount, a_publics, a_chain, a_store, a_size) y := by
  unfold wpY_lastWord
  dsimp only
  exact qy_nep h0 h1 (br_t rfl h)
theorem qy_sc {post : Int32 → Prop} {w : Nat} (hw : w < 2) (h : post (a_size w)) : wpY_storedCount post (f_shared, f_skipLimit, f_storeLimit, a_pool, a_full, a_state, a_ownExponent, a_word, a_agreed, a_agreedCount, a_publics, a_chain, a_store, a_size) (nI w) := by
  have hin : vp_in (nI w) 2 := vp_in_nI hw (by decide)
  unfold wpY_storedCount
  dsimp only
  rw [nI_clamp (n := w) (by omega)]
  exact qy_ep hw (br_f (by decide) (And.intro hin h))
theorem qy_sc_e {post : Int32 → Prop} {y : Int32} (h0 : ¬ y = 0) (h1 : ¬ y = 1) (h : post (-1)) : wpY_storedCount post (f_shared, f_skipLimit, f_storeLimit, a_pool, a_full, a_state, a_ownExponent, a_word, a_agreed, a_agreedCount, a_publics, a_chain, a_store, a_size) y := by
  unfold wpY_storedCount
  dsimp only
  exact qy_nep h0 h1 (br_t rfl h)
theorem qy_field {post : Int32 → Prop} {x : Int32} {s f : Nat} (H : qr_hold a_full x s) (hf : f < 6) (h : post (a_pool (s * 6 + f))) : wpY_field post (f_shared, f_skipLimit, f_storeLimit, a_pool, a_full, a_state, a_ownExponent, a_word, a_agreed, a_agreedCount, a_publics, a_chain, a_store, a_size) x (nI f) := by
  unfold wpY_field
  dsimp only
  refine qy_hold H (br_f (by decide) (br_f (nI_pos (by omega)) (br_f (nI_nlt (a := 5) (by omega) (by omega)) ?_)))
  obtain ⟨hs, rfl, _⟩ := H
  rw [qf_m6, nI_add, nI_clamp (by omega)]
  exact And.intro (vp_in_nI (by omega) (by decide)) h
theorem qy_field_n {post : Int32 → Prop} {x y : Int32} {s : Nat} (H : qr_hold a_full x s) (e : y < 0 ∨ nI 6 ≤ y) (h : post (-1)) : wpY_field post (f_shared, f_skipLimit, f_storeLimit, a_pool, a_full, a_state, a_ownExponent, a_word, a_agreed, a_agreedCount, a_publics, a_chain, a_store, a_size) x y := by
  unfold wpY_field
  dsimp only
  refine qy_hold H (br_f (by decide) (br_c (fun _ => h) (fun h0 => br_t ?_ h)))
  rcases e with e | e
  · exact absurd e h0
  · exact (qf_gt (n := 5) (by omega) e).2
theorem qy_field_e {post : Int32 → Prop} {x y : Int32} (H : ∀ s, ¬ qr_hold a_full x s) (h : post (-1)) : wpY_field post (f_shared, f_skipLimit, f_storeLimit, a_pool, a_full, a_state, a_ownExponent, a_word, a_agreed, a_agreedCount, a_publics, a_chain, a_store, a_size) x y := by
  unfold wpY_field
  dsimp only
  exact qy_nhold H (br_t rfl h)
theorem qy_sec0 {post : Int32 → Prop} {w ac : Nat} (hw : w < 2) (ha : ac ≤ 16) (ea : a_agreedCount w = nI ac) (h : post (qf_root f_shared a_agreed w ac)) : wpY_secret post (f_shared, f_skipLimit, f_storeLimit, a_pool, a_full, a_state, a_ownExponent, a_word, a_agreed, a_agreedCount, a_publics, a_chain, a_store, a_size) (nI w) 0 := by
  have hin : vp_in (nI w) 2 := vp_in_nI hw (by decide)
  unfold wpY_secret
  dsimp only
  rw [nI_clamp (n := w) (by omega), ea]
  exact qy_ep hw (br_f (by decide) (br_f (by decide) (br_t (by decide) (br_t rfl (And.intro hin (qy_root hw ha h))))))
theorem qy_sec1 {post : Int32 → Prop} {w j ns : Nat} (hw : w < 2) (hj : j < 16) (ec : a_chain w = nI (j + 1)) (hn : ns ≤ 12) (en : a_state (w * 10 + 2) = nI ns) (h : post (qf_link (qf_start f_shared a_agreed w j) ns)) : wpY_secret post (f_shared, f_skipLimit, f_storeLimit, a_pool, a_full, a_state, a_ownExponent, a_word, a_agreed, a_agreedCount, a_publics, a_chain, a_store, a_size) (nI w) 1 := by
  have hin : vp_in (nI w) 4 := vp_in_nI (by omega) (by decide)
  unfold wpY_secret wY_secret_57 wY_secret_102
  dsimp only
  rw [nI_clamp (n := w) (by omega), ec]
  refine qy_ep hw (br_f (by decide) (br_f (by decide) (br_t (by decide) (br_f (by decide) (br_t rfl (And.intro hin (br_f (nI_ne0 (by omega) (by omega)) (qy_start hw hj (br_t rfl ?_)))))))))
  rw [qf_m10, qf_a2, nI_clamp (by omega), en]
  exact And.intro (vp_in_nI (by omega) (by decide)) (qy_link hn h)
theorem qy_sec1n {post : Int32 → Prop} {w : Nat} (hw : w < 2) (ec : a_chain w = 0) (h : post (-1)) : wpY_secret post (f_shared, f_skipLimit, f_storeLimit, a_pool, a_full, a_state, a_ownExponent, a_word, a_agreed, a_agreedCount, a_publics, a_chain, a_store, a_size) (nI w) 1 := by
  have hin : vp_in (nI w) 4 := vp_in_nI (by omega) (by decide)
  unfold wpY_secret wY_secret_57
  dsimp only
  rw [nI_clamp (n := w) (by omega), ec]
  exact qy_ep hw (br_f (by decide) (br_f (by decide) (br_t (by decide) (br_f (by decide) (br_t rfl (And.intro hin (br_t rfl h)))))))
theorem qy_sec2 {post : Int32 → Prop} {w j nr : Nat} (hw : w < 2) (hj : j < 16) (ec : a_chain (2 + w) = nI (j + 1)) (hn : nr ≤ 12) (en : a_state (w * 10 + 3) = nI nr) (h : post (qf_link (qf_start f_shared a_agreed w j) nr)) : wpY_secret post (f_shared, f_skipLimit, f_storeLimit, a_pool, a_full, a_state, a_ownExponent, a_word, a_agreed, a_agreedCount, a_publics, a_chain, a_store, a_size) (nI w) 2 := by
  have hin : vp_in (nI (2 + w)) 4 := vp_in_nI (by omega) (by decide)
  unfold wpY_secret wY_secret_57 wY_secret_102
  dsimp only
  rw [qf_2p, nI_clamp (n := 2 + w) (by omega), ec]
  refine qy_ep hw (br_f (by decide) (br_f (by decide) (br_t (by decide) (br_f (by decide) (br_f (by decide) (And.intro hin (br_f (nI_ne0 (by omega) (by omega)) (qy_start hw hj (br_f (by decide) ?_)))))))))
  rw [qf_m10, qf_a3, nI_clamp (by omega), en]
  exact And.intro (vp_in_nI (by omega) (by decide)) (qy_link hn h)
theorem qy_sec2n {post : Int32 → Prop} {w : Nat} (hw : w < 2) (ec : a_chain (2 + w) = 0) (h : post (-1)) : wpY_secret post (f_shared, f_skipLimit, f_storeLimit, a_pool, a_full, a_state, a_ownExponent, a_word, a_agreed, a_agreedCount, a_publics, a_chain, a_store, a_size) (nI w) 2 := by
  have hin : vp_in (nI (2 + w)) 4 := vp_in_nI (by omega) (by decide)
  unfold wpY_secret wY_secret_57
  dsimp only
  rw [qf_2p, nI_clamp (n := 2 + w) (by omega), ec]
  exact qy_ep hw (br_f (by decide) (br_f (by decide) (br_t (by decide) (br_f (by decide) (br_f (by decide) (And.intro hin (br_t rfl h)))))))
theorem qy_secn {post : Int32 → Prop} {w : Nat} {x : Int32} (hw : w < 2) (e : x < 0 ∨ nI 3 ≤ x) (h : post (-1)) : wpY_secret post (f_shared, f_skipLimit, f_storeLimit, a_pool, a_full, a_state, a_ownExponent, a_word, a_agreed, a_agreedCount, a_publics, a_chain, a_store, a_size) (nI w) x := by
  unfold wpY_secret
  dsimp only
  refine qy_ep hw (br_f (by decide) (br_c (fun _ => h) (fun h0 => br_f ?_ h)))
  rcases e with e | e
  · exact absurd e h0
  · exact (qf_gt (n := 2) (by omega) e).1
theorem qy_sec_e {post : Int32 → Prop} {y x : Int32} (h0 : ¬ y = 0) (h1 : ¬ y = 1) (h : post (-1)) : wpY_secret post (f_shared, f_skipLimit, f_storeLimit, a_pool, a_full, a_state, a_ownExponent, a_word, a_agreed, a_agreedCount, a_publics, a_chain, a_store, a_size) y x := by
  unfold wpY_secret
  dsimp only
  exact qy_nep h0 h1 (br_t rfl h)
theorem qy_std {post : Int32 → Prop} {w i sc c : Nat} (hw : w < 2) (hs : sc ≤ 12) (es : a_size w = nI sc) (hi : i < sc) (hc : c < 3) (h : post (a_store (w * 36 + i * 3 + c))) : wpY_stored post (f_shared, f_skipLimit, f_storeLimit, a_pool, a_full, a_state, a_ownExponent, a_word, a_agreed, a_agreedCount, a_publics, a_chain, a_store, a_size) (nI w) (nI i) (nI c) := by
  have hin : vp_in (nI w) 2 := vp_in_nI hw (by decide)
  unfold wpY_stored
  dsimp only
  rw [nI_clamp (n := w) (by omega), es, qf_m36, qf_m3, nI_add, nI_add, nI_clamp (by omega)]
  exact qy_ep hw (br_f (by decide) (br_f (nI_pos (by omega)) (br_t (nI_le (b := 2) (by omega) (by decide)) (br_f (nI_pos (by omega)) (And.intro hin (br_f (nI_ge hi (by omega)) (And.intro (vp_in_nI (by omega) (by decide)) h)))))))
theorem qy_std_i {post : Int32 → Prop} {w sc : Nat} {x y : Int32} (hw : w < 2) (hs : sc ≤ 12) (es : a_size w = nI sc) (e : x < 0 ∨ nI sc ≤ x) (h : post (-1)) : wpY_stored post (f_shared, f_skipLimit, f_storeLimit, a_pool, a_full, a_state, a_ownExponent, a_word, a_agreed, a_agreedCount, a_publics, a_chain, a_store, a_size) (nI w) x y := by
  have hin : vp_in (nI w) 2 := vp_in_nI hw (by decide)
  unfold wpY_stored
  dsimp only
  rw [nI_clamp (n := w) (by omega), es]
  refine qy_ep hw (br_f (by decide) (br_c (fun _ => h) (fun _ => br_c (fun _ => br_c (fun _ => h) (fun h0 => And.intro hin (br_t ?_ h))) (fun _ => h))))
  rcases e with e | e
  · exact absurd e h0
  · exact e
theorem qy_std_c {post : Int32 → Prop} {w : Nat} {x y : Int32} (hw : w < 2) (e : y < 0 ∨ nI 3 ≤ y) (h : post (-1)) : wpY_stored post (f_shared, f_skipLimit, f_storeLimit, a_pool, a_full, a_state, a_ownExponent, a_word, a_agreed, a_agreedCount, a_publics, a_chain, a_store, a_size) (nI w) x y := by
  unfold wpY_stored
  dsimp only
  refine qy_ep hw (br_f (by decide) (br_c (fun _ => h) (fun h0 => br_f ?_ h)))
  rcases e with e | e
  · exact absurd e h0
  · exact (qf_gt (n := 2) (by omega) e).1
theorem qy_std_e {post : Int32 → Prop} {y x z : Int32} (h0 : ¬ y = 0) (h1 : ¬ y = 1) (h : post (-1)) : wpY_stored post (f_shared, f_skipLimit, f_storeLimit, a_pool, a_full, a_state, a_ownExponent, a_word, a_agreed, a_agreedCount, a_publics, a_chain, a_store, a_size) y x z := by
  unfold wpY_stored
  dsimp only
  exact qy_nep h0 h1 (br_t rfl h)
theorem qy_kn {post : Int32 → Prop} {w : Nat} {v : Int32} (hw : w < 2) (h1 : (v ≠ 0 ∧ ∃ j, j < 17 ∧ a_publics ((2 + w) * 17 + j) = v) → post 1) (h0 : ¬ (v ≠ 0 ∧ ∃ j, j < 17 ∧ a_publics ((2 + w) * 17 + j) = v) → post 0) : wpY_knows post (f_shared, f_skipLimit, f_storeLimit, a_pool, a_full, a_state, a_ownExponent, a_word, a_agreed, a_agreedCount, a_publics, a_chain, a_store, a_size) (nI w) v := by
  unfold wpY_knows
  dsimp only
  rw [qf_2p]
  exact qy_ep hw (br_f (by decide) (qy_isIn (by omega) (fun q => br_f (by decide) (h1 q)) (fun q => br_t rfl (h0 q))))
theorem qy_kn_e {post : Int32 → Prop} {y x : Int32} (h0 : ¬ y = 0) (h1 : ¬ y = 1) (h : post 0) : wpY_knows post (f_shared, f_skipLimit, f_storeLimit, a_pool, a_full, a_state, a_ownExponent, a_word, a_agreed, a_agreedCount, a_publics, a_chain, a_store, a_size) y x := by
  unfold wpY_knows
  dsimp only
  exact qy_nep h0 h1 (br_t rfl h)
theorem qy_us {post : Int32 → Prop} {w : Nat} {v : Int32} (hw : w < 2) (h1 : (v ≠ 0 ∧ ∃ j, j < 17 ∧ a_publics (w * 17 + j) = v) → post 1) (h0 : ¬ (v ≠ 0 ∧ ∃ j, j < 17 ∧ a_publics (w * 17 + j) = v) → post 0) : wpY_used post (f_shared, f_skipLimit, f_storeLimit, a_pool, a_full, a_state, a_ownExponent, a_word, a_agreed, a_agreedCount, a_publics, a_chain, a_store, a_size) (nI w) v := by
  unfold wpY_used
  dsimp only
  exact qy_ep hw (br_f (by decide) (qy_isIn (by omega) (fun q => br_f (by decide) (h1 q)) (fun q => br_t rfl (h0 q))))
theorem qy_us_e {post : Int32 → Prop} {y x : Int32} (h0 : ¬ y = 0) (h1 : ¬ y = 1) (h : post 0) : wpY_used post (f_shared, f_skipLimit, f_storeLimit, a_pool, a_full, a_state, a_ownExponent, a_word, a_agreed, a_agreedCount, a_publics, a_chain, a_store, a_size) y x := by
  unfold wpY_used
  dsimp only
  exact qy_nep h0 h1 (br_t rfl h)
end
end
section
/-! the owed reading methods -/
section
variable {f_skipLimit f_storeLimit : Int32} {a_pool a_filled a_root a_sendChain a_recvChain a_hasSend a_hasRecv a_ownExponent a_ownPublic a_peerPublic a_sentCount a_recvNext a_prevLength a_turnDue a_turnsMade a_turnsTaken a_pushedOut a_accepted a_lastWords a_usedList a_usedCount a_knownList a_knownCount a_storePublic a_storeNumber a_storeKey a_storeCount : Nat → Int32}
theorem qx_kn_e {post : Int32 → Prop} {y x : Int32} (h0 : ¬ y = 0) (h1 : ¬ y = 1) (h : post 0) : wpX_knows post (f_skipLimit, f_storeLimit, a_pool, a_filled, a_root, a_sendChain, a_recvChain, a_hasSend, a_hasRecv, a_ownExponent, a_ownPublic, a_peerPublic, a_sentCount, a_recvNext, a_prevLength, a_turnDue, a_turnsMade, a_turnsTaken, a_pushedOut, a_accepted, a_lastWords, a_usedList, a_usedCount, a_knownList, a_knownCount, a_storePublic, a_storeNumber, a_storeKey, a_storeCount) y x := by
  unfold wpX_knows
  dsimp only
  exact qx_nep h0 h1 (br_t rfl h)
theorem qx_us_e {post : Int32 → Prop} {y x : Int32} (h0 : ¬ y = 0) (h1 : ¬ y = 1) (h : post 0) : wpX_used post (f_skipLimit, f_storeLimit, a_pool, a_filled, a_root, a_sendChain, a_recvChain, a_hasSend, a_hasRecv, a_ownExponent, a_ownPublic, a_peerPublic, a_sentCount, a_recvNext, a_prevLength, a_turnDue, a_turnsMade, a_turnsTaken, a_pushedOut, a_accepted, a_lastWords, a_usedList, a_usedCount, a_knownList, a_knownCount, a_storePublic, a_storeNumber, a_storeKey, a_storeCount) y x := by
  unfold wpX_used
  dsimp only
  exact qx_nep h0 h1 (br_t rfl h)
end
theorem i_vc_field {k : Nat} {u : SX} {v : SY} (I : i_Rel k u v) (hk : k + 4 ≤ 2052) (v1 : Int32) (v2 : Int32) : wpX_field (fun r => wpY_field (fun r' => r' = r ∧ i_Rel (k + 4) u v) v v1 v2) u v1 v2 := by
  have J := i_up I
  revert J
  refine qr_el (P := fun u v => i_Rel (k + 4) u v → wpX_field (fun r => wpY_field (fun r' => r' = r ∧ i_Rel (k + 4) u v) v v1 v2) u v1 v2) I ?_
  intro f_skipLimit f_storeLimit f_shared a_pool a_filled a_root a_sendChain a_recvChain a_hasSend a_hasRecv a_ownExponent a_ownPublic a_peerPublic a_sentCount a_recvNext a_prevLength a_turnDue a_turnsMade a_turnsTaken a_pushedOut a_accepted a_lastWords a_usedList a_usedCount a_knownList a_knownCount a_storePublic a_storeNumber a_storeKey a_storeCount a_state a_agreed a_agreedCount a_publics a_chain a_store lim G A R J
  by_cases H : ∃ s, qr_hold a_filled v1 s
  · obtain ⟨s, Hs⟩ := H
    rcases pk_ix v2 (n := 6) (by decide) with e | e | ⟨f, hf, rfl⟩
    · exact qx_field_n Hs (Or.inl e) (qy_field_n Hs (Or.inl e) ⟨rfl, J⟩)
    · exact qx_field_n Hs (Or.inr e) (qy_field_n Hs (Or.inr e) ⟨rfl, J⟩)
    · exact qx_field Hs hf (qy_field Hs hf ⟨rfl, J⟩)
  · have H' : ∀ s, ¬ qr_hold a_filled v1 s := fun s h => H ⟨s, h⟩
    exact qx_field_e H' (qy_field_e H' ⟨rfl, J⟩)
theorem i_vc_lastWord {k : Nat} {u : SX} {v : SY} (I : i_Rel k u v) (hk : k + 4 ≤ 2052) (v1 : Int32) : wpX_lastWord (fun r => wpY_lastWord (fun r' => r' = r ∧ i_Rel (k + 4) u v) v v1) u v1 := by
  have J := i_up I
  revert J
  refine qr_el (P := fun u v => i_Rel (k + 4) u v → wpX_lastWord (fun r => wpY_lastWord (fun r' => r' = r ∧ i_Rel (k + 4) u v) v v1) u v1) I ?_
  intro f_skipLimit f_storeLimit f_shared a_pool a_filled a_root a_sendChain a_recvChain a_hasSend a_hasRecv a_ownExponent a_ownPublic a_peerPublic a_sentCount a_recvNext a_prevLength a_turnDue a_turnsMade a_turnsTaken a_pushedOut a_accepted a_lastWords a_usedList a_usedCount a_knownList a_knownCount a_storePublic a_storeNumber a_storeKey a_storeCount a_state a_agreed a_agreedCount a_publics a_chain a_store lim G A R J
  rcases qf_ep v1 with ⟨w, hw, rfl⟩ | ⟨h0, h1⟩
  · exact qx_lw hw (qy_lw hw ⟨rfl, J⟩)
  · exact qx_lw_e h0 h1 (qy_lw_e h0 h1 ⟨rfl, J⟩)
theorem i_vc_storedCount {k : Nat} {u : SX} {v : SY} (I : i_Rel k u v) (hk : k + 4 ≤ 2052) (v1 : Int32) : wpX_storedCount (fun r => wpY_storedCount (fun r' => r' = r ∧ i_Rel (k + 4) u v) v v1) u v1 := by
  have J := i_up I
  revert J
  refine qr_el (P := fun u v => i_Rel (k + 4) u v → wpX_storedCount (fun r => wpY_storedCount (fun r' => r' = r ∧ i_Rel (k + 4) u v) v v1) u v1) I ?_
  intro f_skipLimit f_storeLimit f_shared a_pool a_filled a_root a_sendChain a_recvChain a_hasSend a_hasRecv a_ownExponent a_ownPublic a_peerPublic a_sentCount a_recvNext a_prevLength a_turnDue a_turnsMade a_turnsTaken a_pushedOut a_accepted a_lastWords a_usedList a_usedCount a_knownList a_knownCount a_storePublic a_storeNumber a_storeKey a_storeCount a_state a_agreed a_agreedCount a_publics a_chain a_store lim G A R J
  rcases qf_ep v1 with ⟨w, hw, rfl⟩ | ⟨h0, h1⟩
  · exact qx_sc hw (qy_sc hw ⟨rfl, J⟩)
  · exact qx_sc_e h0 h1 (qy_sc_e h0 h1 ⟨rfl, J⟩)
theorem i_vc_position {k : Nat} {u : SX} {v : SY} (I : i_Rel k u v) (hk : k + 4 ≤ 2052) (v1 : Int32) (v2 : Int32) : wpX_position (fun r => wpY_position (fun r' => r' = r ∧ i_Rel (k + 4) u v) v v1 v2) u v1 v2 := by
  have J := i_up I
  revert J
  refine qr_el (P := fun u v => i_Rel (k + 4) u v → wpX_position (fun r => wpY_position (fun r' => r' = r ∧ i_Rel (k + 4) u v) v v1 v2) u v1 v2) I ?_
  intro f_skipLimit f_storeLimit f_shared a_pool a_filled a_root a_sendChain a_recvChain a_hasSend a_hasRecv a_ownExponent a_ownPublic a_peerPublic a_sentCount a_recvNext a_prevLength a_turnDue a_turnsMade a_turnsTaken a_pushedOut a_accepted a_lastWords a_usedList a_usedCount a_knownList a_knownCount a_storePublic a_storeNumber a_storeKey a_storeCount a_state a_agreed a_agreedCount a_publics a_chain a_store lim G A R J
  rcases qf_ep v1 with ⟨w, hw, rfl⟩ | ⟨h0, h1⟩
  · obtain ⟨ns, nr, tm, tt, sc, ex, pp, hB, hV, ⟨p0, p1, p2, p3, p4, p5, p6, p7, p8⟩, hF⟩ := R w hw
    rcases pk_ix v2 (n := 10) (by decide) with e | e | ⟨f, hf, rfl⟩
    · exact qx_pos_n hw (Or.inl e) (qy_pos_n hw (Or.inl e) ⟨rfl, J⟩)
    · exact qx_pos_n hw (Or.inr e) (qy_pos_n hw (Or.inr e) ⟨rfl, J⟩)
    · match f, hf with
      | 0, _ => exact qx_pos_0 hw (qy_pos (f := 0) hw (by omega) ⟨p0, J⟩)
      | 1, _ => exact qx_pos_1 hw (qy_pos (f := 1) hw (by omega) ⟨p1, J⟩)
      | 2, _ => exact qx_pos_2 hw (qy_pos (f := 2) hw (by omega) ⟨p2, J⟩)
      | 3, _ => exact qx_pos_3 hw (qy_pos (f := 3) hw (by omega) ⟨p3, J⟩)
      | 4, _ => exact qx_pos_4 hw (qy_pos (f := 4) hw (by omega) ⟨p4, J⟩)
      | 5, _ => exact qx_pos_5 hw hV.2.2.2.2.2.2.2.2.2.2 (qy_pos (f := 5) hw (by omega) ⟨p5, J⟩)
      | 6, _ => exact qx_pos_6 hw (qy_pos (f := 6) hw (by omega) ⟨p6, J⟩)
      | 7, _ => exact qx_pos_7 hw (qy_pos (f := 7) hw (by omega) ⟨p7, J⟩)
      | 8, _ => exact qx_pos_8 hw (qy_pos (f := 8) hw (by omega) ⟨p8, J⟩)
      | 9, _ => exact qx_pos_9 hw (qy_pos (f := 9) hw (by omega) ⟨A w hw, J⟩)
      | n + 10, h => exact absurd h (by omega)
  · exact qx_pos_e h0 h1 (qy_pos_e h0 h1 ⟨rfl, J⟩)
theorem i_vc_secret {k : Nat} {u : SX} {v : SY} (I : i_Rel k u v) (hk : k + 4 ≤ 2052) (v1 : Int32) (v2 : Int32) : wpX_secret (fun r => wpY_secret (fun r' => r' = r ∧ i_Rel (k + 4) u v) v v1 v2) u v1 v2 := by
  have J := i_up I
  revert J
  refine qr_el (P := fun u v => i_Rel (k + 4) u v → wpX_secret (fun r => wpY_secret (fun r' => r' = r ∧ i_Rel (k + 4) u v) v v1 v2) u v1 v2) I ?_
  intro f_skipLimit f_storeLimit f_shared a_pool a_filled a_root a_sendChain a_recvChain a_hasSend a_hasRecv a_ownExponent a_ownPublic a_peerPublic a_sentCount a_recvNext a_prevLength a_turnDue a_turnsMade a_turnsTaken a_pushedOut a_accepted a_lastWords a_usedList a_usedCount a_knownList a_knownCount a_storePublic a_storeNumber a_storeKey a_storeCount a_state a_agreed a_agreedCount a_publics a_chain a_store lim G A R J
  rcases qf_ep v1 with ⟨w, hw, rfl⟩ | ⟨h0, h1⟩
  · obtain ⟨ns, nr, tm, tt, sc, ex, pp, ⟨b1, b2, b3, b4, b5, b6, b7⟩, ⟨w1, w2, w3, w4, w5, w6, w7, w8, w9, w10, w11⟩, ⟨p0, p1, p2, p3, p4, p5, p6, p7, p8⟩, hR, hS, hC, hF⟩ := R w hw
    rcases pk_ix v2 (n := 3) (by decide) with e | e | ⟨f, hf, rfl⟩
    · exact qx_secn hw (fun q => absurd (q ▸ e) (by decide)) (fun q => absurd (q ▸ e) (by decide)) (fun q => absurd (q ▸ e) (by decide)) (qy_secn hw (Or.inl e) ⟨rfl, J⟩)
    · exact qx_secn hw (fun q => absurd (q ▸ e) (by decide)) (fun q => absurd (q ▸ e) (by decide)) (fun q => absurd (q ▸ e) (by decide)) (qy_secn hw (Or.inr e) ⟨rfl, J⟩)
    · match f, hf with
      | 0, _ => exact qx_sec0 hw (qy_sec0 hw (by omega) w10 ⟨hR.symm, J⟩)
      | 1, _ =>
        rcases hS with ⟨h1, h2⟩ | ⟨j, hj, h1, h2, h3⟩
        · exact qx_sec1n hw h1 (qy_sec1n hw h2 ⟨rfl, J⟩)
        · exact qx_sec1 hw (by rw [h1]; decide) (qy_sec1 hw (by omega) h2 b1 (p2.trans w1) ⟨h3.symm, J⟩)
      | 2, _ =>
        rcases hC with ⟨h1, h2⟩ | ⟨j, hj, h1, h2, h3⟩
        · exact qx_sec2n hw h1 (qy_sec2n hw h2 ⟨rfl, J⟩)
        · exact qx_sec2 hw (by rw [h1]; decide) (qy_sec2 hw (by omega) h2 b2 (p3.trans w2) ⟨h3.symm, J⟩)
      | n + 3, h => exact absurd h (by omega)
  · exact qx_sec_e h0 h1 (qy_sec_e h0 h1 ⟨rfl, J⟩)
theorem i_vc_stored {k : Nat} {u : SX} {v : SY} (I : i_Rel k u v) (hk : k + 4 ≤ 2052) (v1 : Int32) (v2 : Int32) (v3 : Int32) : wpX_stored (fun r => wpY_stored (fun r' => r' = r ∧ i_Rel (k + 4) u v) v v1 v2 v3) u v1 v2 v3 := by
  have J := i_up I
  revert J
  refine qr_el (P := fun u v => i_Rel (k + 4) u v → wpX_stored (fun r => wpY_stored (fun r' => r' = r ∧ i_Rel (k + 4) u v) v v1 v2 v3) u v1 v2 v3) I ?_
  intro f_skipLimit f_storeLimit f_shared a_pool a_filled a_root a_sendChain a_recvChain a_hasSend a_hasRecv a_ownExponent a_ownPublic a_peerPublic a_sentCount a_recvNext a_prevLength a_turnDue a_turnsMade a_turnsTaken a_pushedOut a_accepted a_lastWords a_usedList a_usedCount a_knownList a_knownCount a_storePublic a_storeNumber a_storeKey a_storeCount a_state a_agreed a_agreedCount a_publics a_chain a_store lim G A R J
  rcases qf_ep v1 with ⟨w, hw, rfl⟩ | ⟨h0, h1⟩
  · obtain ⟨ns, nr, tm, tt, sc, ex, pp, ⟨b1, b2, b3, b4, b5, b6, b7⟩, ⟨w1, w2, w3, w4, w5, w6, w7, w8, w9, w10, w11⟩, hP, hR, hS, hC, hU, hK, hT⟩ := R w hw
    have hs : sc ≤ 12 := by have := G.2.2.1; omega
    rcases pk_ix v2 (n := sc) (by omega) with e | e | ⟨i, hi, rfl⟩
    · exact qx_std_i hw hs w5 (Or.inl e) (qy_std_i hw hs w5 (Or.inl e) ⟨rfl, J⟩)
    · exact qx_std_i hw hs w5 (Or.inr e) (qy_std_i hw hs w5 (Or.inr e) ⟨rfl, J⟩)
    · rcases pk_ix v3 (n := 3) (by decide) with e | e | ⟨c, hc, rfl⟩
      · exact qx_std_c hw hs w5 hi (Or.inl e) (qy_std_c hw (Or.inl e) ⟨rfl, J⟩)
      · exact qx_std_c hw hs w5 hi (Or.inr e) (qy_std_c hw (Or.inr e) ⟨rfl, J⟩)
      · obtain ⟨t1, t2, t3⟩ := hT i hi
        refine qx_std hw hs w5 hi hc (fun e => ?_) (fun e => ?_) (fun e => ?_)
        · subst e; exact qy_std (c := 0) hw hs w5 hi hc ⟨t1, J⟩
        · subst e; exact qy_std (c := 1) hw hs w5 hi hc ⟨t2, J⟩
        · subst e; exact qy_std (c := 2) hw hs w5 hi hc ⟨t3, J⟩
  · exact qx_std_e h0 h1 (qy_std_e h0 h1 ⟨rfl, J⟩)
theorem i_vc_knows {k : Nat} {u : SX} {v : SY} (I : i_Rel k u v) (hk : k + 4 ≤ 2052) (v1 : Int32) (v2 : Int32) : wpX_knows (fun r => wpY_knows (fun r' => r' = r ∧ i_Rel (k + 4) u v) v v1 v2) u v1 v2 := by
  have J := i_up I
  revert J
  refine qr_el (P := fun u v => i_Rel (k + 4) u v → wpX_knows (fun r => wpY_knows (fun r' => r' = r ∧ i_Rel (k + 4) u v) v v1 v2) u v1 v2) I ?_
  intro f_skipLimit f_storeLimit f_shared a_pool a_filled a_root a_sendChain a_recvChain a_hasSend a_hasRecv a_ownExponent a_ownPublic a_peerPublic a_sentCount a_recvNext a_prevLength a_turnDue a_turnsMade a_turnsTaken a_pushedOut a_accepted a_lastWords a_usedList a_usedCount a_knownList a_knownCount a_storePublic a_storeNumber a_storeKey a_storeCount a_state a_agreed a_agreedCount a_publics a_chain a_store lim G A R J
  rcases qf_ep v1 with ⟨w, hw, rfl⟩ | ⟨h0, h1⟩
  · obtain ⟨ns, nr, tm, tt, sc, ex, pp, ⟨b1, b2, b3, b4, b5, b6, b7⟩, ⟨w1, w2, w3, w4, w5, w6, w7, w8, w9, w10, w11⟩, hP, hR, hS, hC, hU, hK, hT⟩ := R w hw
    have D := hK.1 v2
    exact qx_knows hw (by omega) w9 (fun C => qy_kn hw (fun _ => ⟨rfl, J⟩) (fun n => absurd (D.mp C) n)) (fun C => qy_kn hw (fun q => absurd (D.mpr q) C) (fun _ => ⟨rfl, J⟩))
  · exact qx_kn_e h0 h1 (qy_kn_e h0 h1 ⟨rfl, J⟩)
theorem i_vc_used {k : Nat} {u : SX} {v : SY} (I : i_Rel k u v) (hk : k + 4 ≤ 2052) (v1 : Int32) (v2 : Int32) : wpX_used (fun r => wpY_used (fun r' => r' = r ∧ i_Rel (k + 4) u v) v v1 v2) u v1 v2 := by
  have J := i_up I
  revert J
  refine qr_el (P := fun u v => i_Rel (k + 4) u v → wpX_used (fun r => wpY_used (fun r' => r' = r ∧ i_Rel (k + 4) u v) v v1 v2) u v1 v2) I ?_
  intro f_skipLimit f_storeLimit f_shared a_pool a_filled a_root a_sendChain a_recvChain a_hasSend a_hasRecv a_ownExponent a_ownPublic a_peerPublic a_sentCount a_recvNext a_prevLength a_turnDue a_turnsMade a_turnsTaken a_pushedOut a_accepted a_lastWords a_usedList a_usedCount a_knownList a_knownCount a_storePublic a_storeNumber a_storeKey a_storeCount a_state a_agreed a_agreedCount a_publics a_chain a_store lim G A R J
  rcases qf_ep v1 with ⟨w, hw, rfl⟩ | ⟨h0, h1⟩
  · obtain ⟨ns, nr, tm, tt, sc, ex, pp, ⟨b1, b2, b3, b4, b5, b6, b7⟩, ⟨w1, w2, w3, w4, w5, w6, w7, w8, w9, w10, w11⟩, hP, hR, hS, hC, hU, hK, hT⟩ := R w hw
    have D := hU.1 v2
    exact qx_used hw (by omega) w8 (fun C => qy_us hw (fun _ => ⟨rfl, J⟩) (fun n => absurd (D.mp C) n)) (fun C => qy_us hw (fun q => absurd (D.mpr q) C) (fun _ => ⟨rfl, J⟩))
  · exact qx_us_e h0 h1 (qy_us_e h0 h1 ⟨rfl, J⟩)
end
section
/-! copy, alter, drop -/
def qf_cp (p : Nat → Int32) (s t : Nat) : Nat → Nat → Int32
  | 0 => p
  | i + 1 => upd (qf_cp p s t i) (t * 6 + i) (qf_cp p s t i (s * 6 + i))
theorem qf_cp5 (p : Nat → Int32) (s t q : Nat) : ∀ i, i ≤ 5 → qf_cp p s t i (q * 6 + 5) = p (q * 6 + 5)
  | 0, _ => rfl
  | i + 1, h => (pk_un (by omega)).trans (qf_cp5 p s t q i (by omega))
theorem qf_cp6 (p : Nat → Int32) (s t q : Nat) : qf_cp p s t 6 (q * 6 + 5) = p (q * 6 + 5) ∨ qf_cp p s t 6 (q * 6 + 5) = p (s * 6 + 5) := by
  show upd (qf_cp p s t 5) (t * 6 + 5) (qf_cp p s t 5 (s * 6 + 5)) (q * 6 + 5) = _ ∨ upd (qf_cp p s t 5) (t * 6 + 5) (qf_cp p s t 5 (s * 6 + 5)) (q * 6 + 5) = _
  by_cases e : q = t
  · rw [e, pk_us, qf_cp5 p s t s 5 (by omega)]
    exact Or.inr rfl
  · rw [pk_un (by omega), qf_cp5 p s t q 5 (by omega)]
    exact Or.inl rfl
section
variable {f_skipLimit f_storeLimit : Int32} {a_pool a_filled a_root a_sendChain a_recvChain a_hasSend a_hasRecv a_ownExponent a_ownPublic a_peerPublic a_sentCount a_recvNext a_prevLength a_turnDue a_turnsMade a_turnsTaken a_pushedOut a_accepted a_lastWords a_usedList a_usedCount a_knownList a_knownCount a_storePublic a_storeNumber a_storeKey a_storeCount : Nat → Int32}
theorem qx_cp24 {post : Int32 → SX → Prop} {s t : Nat} (hs : s < 16) (ht : t < 16) (hp : post (nI t) (f_skipLimit, f_storeLimit, qf_cp a_pool s t 6, upd a_filled t 1, a_root, a_sendChain, a_recvChain, a_hasSend, a_hasRecv, a_ownExponent, a_ownPublic, a_peerPublic, a_sentCount, a_recvNext, a_prevLength, a_turnDue, a_turnsMade, a_turnsTaken, a_pushedOut, a_accepted, a_lastWords, a_usedList, a_usedCount, a_knownList, a_knownCount, a_storePublic, a_storeNumber, a_storeKey, a_storeCount)) : ∀ d i, i + d = 6 → ∀ n, d < n → wX_copy_24 post (nI s) (nI t) f_skipLimit f_storeLimit n (nI i) (qf_cp a_pool s t i) a_filled a_root a_sendChain a_recvChain a_hasSend a_hasRecv a_ownExponent a_ownPublic a_peerPublic a_sentCount a_recvNext a_prevLength a_turnDue a_turnsMade a_turnsTaken a_pushedOut a_accepted a_lastWords a_usedList a_usedCount a_knownList a_knownCount a_storePublic a_storeNumber a_storeKey a_storeCount := by
  intro d
  induction d with
  | zero =>
    intro i hi n hn
    obtain ⟨m, rfl⟩ : ∃ m, n = m + 1 := ⟨n - 1, by omega⟩
    obtain rfl : i = 6 := by omega
    refine br_t (nI_le (a := 6) (b := 6) (by omega) (by decide)) (And.intro (vp_in_nI ht (by decide)) ?_)
    rw [nI_clamp (by omega)]
    exact nm_e hp
  | succ d ih =>
    intro i hi n hn
    obtain ⟨m, rfl⟩ : ∃ m, n = m + 1 := ⟨n - 1, by omega⟩
    refine br_f (nI_ge (b := 6) (by omega) (by decide)) ?_
    rw [qf_m6, qf_m6, nI_add, nI_add, nI_clamp (n := s * 6 + i) (by omega), nI_clamp (n := t * 6 + i) (by omega)]
    exact And.intro (vp_in_nI (by omega) (by decide)) (And.intro (vp_in_nI (by omega) (by decide)) (nm_e (nm_r (nI_1 i) (ih (i + 1) (by omega) m (by omega)))))
theorem qx_copy {post : Int32 → SX → Prop} {x : Int32} {s t : Nat} (H : qr_hold a_filled x s) (ht : t < 16) (hz : a_filled t = 0) (hj : ∀ j, j < t → ¬ a_filled j = 0) (hp : post (nI t) (f_skipLimit, f_storeLimit, qf_cp a_pool s t 6, upd a_filled t 1, a_root, a_sendChain, a_recvChain, a_hasSend, a_hasRecv, a_ownExponent, a_ownPublic, a_peerPublic, a_sentCount, a_recvNext, a_prevLength, a_turnDue, a_turnsMade, a_turnsTaken, a_pushedOut, a_accepted, a_lastWords, a_usedList, a_usedCount, a_knownList, a_knownCount, a_storePublic, a_storeNumber, a_storeKey, a_storeCount)) : wpX_copy post (f_skipLimit, f_storeLimit, a_pool, a_filled, a_root, a_sendChain, a_recvChain, a_hasSend, a_hasRecv, a_ownExponent, a_ownPublic, a_peerPublic, a_sentCount, a_recvNext, a_prevLength, a_turnDue, a_turnsMade, a_turnsTaken, a_pushedOut, a_accepted, a_lastWords, a_usedList, a_usedCount, a_knownList, a_knownCount, a_storePublic, a_storeNumber, a_storeKey, a_storeCount) x := by
  unfold wpX_copy
  dsimp only
  refine qx_hold H (br_f (by decide) (qx_slotS ht hz hj (br_t (nI_pos' (by omega)) (Exists.intro 7 ?_))))
  obtain ⟨hs, rfl, _⟩ := H
  exact qx_cp24 hs ht hp 6 0 (by omega) 7 (by omega)
theorem qx_copy_f {post : Int32 → SX → Prop} {x : Int32} {s : Nat} (H : qr_hold a_filled x s) (hj : ∀ j, j < 16 → ¬ a_filled j = 0) (hp : post (-12) (f_skipLimit, f_storeLimit, a_pool, a_filled, a_root, a_sendChain, a_recvChain, a_hasSend, a_hasRecv, a_ownExponent, a_ownPublic, a_peerPublic, a_sentCount, a_recvNext, a_prevLength, a_turnDue, a_turnsMade, a_turnsTaken, a_pushedOut, a_accepted, a_lastWords, a_usedList, a_usedCount, a_knownList, a_knownCount, a_storePublic, a_storeNumber, a_storeKey, a_storeCount)) : wpX_copy post (f_skipLimit, f_storeLimit, a_pool, a_filled, a_root, a_sendChain, a_recvChain, a_hasSend, a_hasRecv, a_ownExponent, a_ownPublic, a_peerPublic, a_sentCount, a_recvNext, a_prevLength, a_turnDue, a_turnsMade, a_turnsTaken, a_pushedOut, a_accepted, a_lastWords, a_usedList, a_usedCount, a_knownList, a_knownCount, a_storePublic, a_storeNumber, a_storeKey, a_storeCount) x := by
  unfold wpX_copy
  dsimp only
  exact qx_hold H (br_f (by decide) (qx_slotN hj (br_f (by decide) hp)))
theorem qx_copy_e {post : Int32 → SX → Prop} {x : Int32} (H : ∀ s, ¬ qr_hold a_filled x s) (hp : post (-1) (f_skipLimit, f_storeLimit, a_pool, a_filled, a_root, a_sendChain, a_recvChain, a_hasSend, a_hasRecv, a_ownExponent, a_ownPublic, a_peerPublic, a_sentCount, a_recvNext, a_prevLength, a_turnDue, a_turnsMade, a_turnsTaken, a_pushedOut, a_accepted, a_lastWords, a_usedList, a_usedCount, a_knownList, a_knownCount, a_storePublic, a_storeNumber, a_storeKey, a_storeCount)) : wpX_copy post (f_skipLimit, f_storeLimit, a_pool, a_filled, a_root, a_sendChain, a_recvChain, a_hasSend, a_hasRecv, a_ownExponent, a_ownPublic, a_peerPublic, a_sentCount, a_recvNext, a_prevLength, a_turnDue, a_turnsMade, a_turnsTaken, a_pushedOut, a_accepted, a_lastWords, a_usedList, a_usedCount, a_knownList, a_knownCount, a_storePublic, a_storeNumber, a_storeKey, a_storeCount) x := by
  unfold wpX_copy
  dsimp only
  exact qx_nhold H (br_t rfl hp)
theorem qx_alter {post : Int32 → SX → Prop} {x m : Int32} {s f : Nat} (H : qr_hold a_filled x s) (hf : f < 5) (hp : post 1 (f_skipLimit, f_storeLimit, upd a_pool (s * 6 + f) (a_pool (s * 6 + f) ^^^ m), a_filled, a_root, a_sendChain, a_recvChain, a_hasSend, a_hasRecv, a_ownExponent, a_ownPublic, a_peerPublic, a_sentCount, a_recvNext, a_prevLength, a_turnDue, a_turnsMade, a_turnsTaken, a_pushedOut, a_accepted, a_lastWords, a_usedList, a_usedCount, a_knownList, a_knownCount, a_storePublic, a_storeNumber, a_storeKey, a_storeCount)) : wpX_alter post (f_skipLimit, f_storeLimit, a_pool, a_filled, a_root, a_sendChain, a_recvChain, a_hasSend, a_hasRecv, a_ownExponent, a_ownPublic, a_peerPublic, a_sentCount, a_recvNext, a_prevLength, a_turnDue, a_turnsMade, a_turnsTaken, a_pushedOut, a_accepted, a_lastWords, a_usedList, a_usedCount, a_knownList, a_knownCount, a_storePublic, a_storeNumber, a_storeKey, a_storeCount) x (nI f) m := by
  unfold wpX_alter
  dsimp only
  refine qx_hold H (br_f (by decide) (br_f (nI_pos (by omega)) (br_t (nI_le (b := 4) (by omega) (by decide)) ?_)))
  obtain ⟨hs, rfl, _⟩ := H
  have h96 : vp_in (nI (s * 6 + f)) 96 := vp_in_nI (by omega) (by decide)
  rw [qf_m6, nI_add, nI_clamp (by omega)]
  exact And.intro h96 (And.intro h96 (nm_e hp))
theorem qx_alter_n {post : Int32 → SX → Prop} {x y m : Int32} {s : Nat} (H : qr_hold a_filled x s) (e : y < 0 ∨ nI 5 ≤ y) (hp : post (-13) (f_skipLimit, f_storeLimit, a_pool, a_filled, a_root, a_sendChain, a_recvChain, a_hasSend, a_hasRecv, a_ownExponent, a_ownPublic, a_peerPublic, a_sentCount, a_recvNext, a_prevLength, a_turnDue, a_turnsMade, a_turnsTaken, a_pushedOut, a_accepted, a_lastWords, a_usedList, a_usedCount, a_knownList, a_knownCount, a_storePublic, a_storeNumber, a_storeKey, a_storeCount)) : wpX_alter post (f_skipLimit, f_storeLimit, a_pool, a_filled, a_root, a_sendChain, a_recvChain, a_hasSend, a_hasRecv, a_ownExponent, a_ownPublic, a_peerPublic, a_sentCount, a_recvNext, a_prevLength, a_turnDue, a_turnsMade, a_turnsTaken, a_pushedOut, a_accepted, a_lastWords, a_usedList, a_usedCount, a_knownList, a_knownCount, a_storePublic, a_storeNumber, a_storeKey, a_storeCount) x y m := by
  unfold wpX_alter
  dsimp only
  refine qx_hold H (br_f (by decide) (br_c (fun _ => hp) (fun h0 => br_f ?_ hp)))
  rcases e with e | e
  · exact absurd e h0
  · exact (qf_gt (n := 4) (by omega) e).1
theorem qx_alter_e {post : Int32 → SX → Prop} {x y m : Int32} (H : ∀ s, ¬ qr_hold a_filled x s) (hp : post (-1) (f_skipLimit, f_storeLimit, a_pool, a_filled, a_root, a_sendChain, a_recvChain, a_hasSend, a_hasRecv, a_ownExponent, a_ownPublic, a_peerPublic, a_sentCount, a_recvNext, a_prevLength, a_turnDue, a_turnsMade, a_turnsTaken, a_pushedOut, a_accepted, a_lastWords, a_usedList, a_usedCount, a_knownList, a_knownCount, a_storePublic, a_storeNumber, a_storeKey, a_storeCount)) : wpX_alter post (f_skipLimit, f_storeLimit, a_pool, a_filled, a_root, a_sendChain, a_recvChain, a_hasSend, a_hasRecv, a_ownExponent, a_ownPublic, a_peerPublic, a_sentCount, a_recvNext, a_prevLength, a_turnDue, a_turnsMade, a_turnsTaken, a_pushedOut, a_accepted, a_lastWords, a_usedList, a_usedCount, a_knownList, a_knownCount, a_storePublic, a_storeNumber, a_storeKey, a_storeCount) x y m := by
  unfold wpX_alter
  dsimp only
  exact qx_nhold H (br_t rfl hp)
theorem qx_drop {post : Int32 → SX → Prop} {x : Int32} {s : Nat} (H : qr_hold a_filled x s) (hp : post 1 (f_skipLimit, f_storeLimit, a_pool, upd a_filled s 0, a_root, a_sendChain, a_recvChain, a_hasSend, a_hasRecv, a_ownExponent, a_ownPublic, a_peerPublic, a_sentCount, a_recvNext, a_prevLength, a_turnDue, a_turnsMade, a_turnsTaken, a_pushedOut, a_accepted, a_lastWords, a_usedList, a_usedCount, a_knownList, a_knownCount, a_storePublic, a_storeNumber, a_storeKey, a_storeCount)) : wpX_drop post (f_skipLimit, f_storeLimit, a_pool, a_filled, a_root, a_sendChain, a_recvChain, a_hasSend, a_hasRecv, a_ownExponent, a_ownPublic, a_peerPublic, a_sentCount, a_recvNext, a_prevLength, a_turnDue, a_turnsMade, a_turnsTaken, a_pushedOut, a_accepted, a_lastWords, a_usedList, a_usedCount, a_knownList, a_knownCount, a_storePublic, a_storeNumber, a_storeKey, a_storeCount) x := by
  unfold wpX_drop
  dsimp only
  refine qx_hold H (br_f (by decide) ?_)
  obtain ⟨hs, rfl, _⟩ := H
  rw [nI_clamp (by omega)]
  exact And.intro (vp_in_nI hs (by decide)) (nm_e hp)
theorem qx_drop_e {post : Int32 → SX → Prop} {x : Int32} (H : ∀ s, ¬ qr_hold a_filled x s) (hp : post (-1) (f_skipLimit, f_storeLimit, a_pool, a_filled, a_root, a_sendChain, a_recvChain, a_hasSend, a_hasRecv, a_ownExponent, a_ownPublic, a_peerPublic, a_sentCount, a_recvNext, a_prevLength, a_turnDue, a_turnsMade, a_turnsTaken, a_pushedOut, a_accepted, a_lastWords, a_usedList, a_usedCount, a_knownList, a_knownCount, a_storePublic, a_storeNumber, a_storeKey, a_storeCount)) : wpX_drop post (f_skipLimit, f_storeLimit, a_pool, a_filled, a_root, a_sendChain, a_recvChain, a_hasSend, a_hasRecv, a_ownExponent, a_ownPublic, a_peerPublic, a_sentCount, a_recvNext, a_prevLength, a_turnDue, a_turnsMade, a_turnsTaken, a_pushedOut, a_accepted, a_lastWords, a_usedList, a_usedCount, a_knownList, a_knownCount, a_storePublic, a_storeNumber, a_storeKey, a_storeCount) x := by
  unfold wpX_drop
  dsimp only
  exact qx_nhold H (br_t rfl hp)
end
section
variable {f_shared f_skipLimit f_storeLimit : Int32} {a_pool a_full a_state a_ownExponent a_word a_agreed a_agreedCount a_publics a_chain a_store a_size : Nat → Int32}
theorem qy_cp24 {post : Int32 → SY → Prop} {s t : Nat} (hs : s < 16) (ht : t < 16) (hp : post (nI t) (f_shared, f_skipLimit, f_storeLimit, qf_cp a_pool s t 6, upd a_full t 1, a_state, a_ownExponent, a_word, a_agreed, a_agreedCount, a_publics, a_chain, a_store, a_size)) : ∀ d i, i + d = 6 → ∀ n, d < n → wY_copy_24 post (nI s) (nI t) f_shared f_skipLimit f_storeLimit n (nI i) (qf_cp a_pool s t i) a_full a_state a_ownExponent a_word a_agreed a_agreedCount a_publics a_chain a_store a_size := by
  intro d
  induction d with
  | zero =>
    intro i hi n hn
    obtain ⟨m, rfl⟩ : ∃ m, n = m + 1 := ⟨n - 1, by omega⟩
    obtain rfl : i = 6 := by omega
    refine br_t (nI_le (a := 6) (b := 6) (by omega) (by decide)) (And.intro (vp_in_nI ht (by decide)) ?_)
    rw [nI_clamp (by omega)]
    exact nm_e hp
  | succ d ih =>
    intro i hi n hn
    obtain ⟨m, rfl⟩ : ∃ m, n = m + 1 := ⟨n - 1, by omega⟩
    refine br_f (nI_ge (b := 6) (by omega) (by decide)) ?_
    rw [qf_m6, qf_m6, nI_add, nI_add, nI_clamp (n := s * 6 + i) (by omega), nI_clamp (n := t * 6 + i) (by omega)]
    exact And.intro (vp_in_nI (by omega) (by decide)) (And.intro (vp_in_nI (by omega) (by decide)) (nm_e (nm_r (nI_1 i) (ih (i + 1) (by omega) m (by omega)))))
theorem qy_copy {post : Int32 → SY → Prop} {x : Int32} {s t : Nat} (H : qr_hold a_full x s) (ht : t < 16) (hz : a_full t = 0) (hj : ∀ j, j < t → ¬ a_full j = 0) (hp : post (nI t) (f_shared, f_skipLimit, f_storeLimit, qf_cp a_pool s t 6, upd a_full t 1, a_state, a_ownExponent, a_word, a_agreed, a_agreedCount, a_publics, a_chain, a_store, a_size)) : wpY_copy post (f_shared, f_skipLimit, f_storeLimit, a_pool, a_full, a_state, a_ownExponent, a_word, a_agreed, a_agreedCount, a_publics, a_chain, a_store, a_size) x := by
  unfold wpY_copy
  dsimp only
  refine qy_hold H (br_f (by decide) (qy_slotS ht hz hj (br_t (nI_pos' (by omega)) (Exists.intro 7 ?_))))
  obtain ⟨hs, rfl, _⟩ := H
  exact qy_cp24 hs ht hp 6 0 (by omega) 7 (by omega)
theorem qy_copy_f {post : Int32 → SY → Prop} {x : Int32} {s : Nat} (H : qr_hold a_full x s) (hj : ∀ j, j < 16 → ¬ a_full j = 0) (hp : post (-12) (f_shared, f_skipLimit, f_storeLimit, a_pool, a_full, a_state, a_ownExponent, a_word, a_agreed, a_agreedCount, a_publics, a_chain, a_store, a_size)) : wpY_copy post (f_shared, f_skipLimit, f_storeLimit, a_pool, a_full, a_state, a_ownExponent, a_word, a_agreed, a_agreedCount, a_publics, a_chain, a_store, a_size) x := by
  unfold wpY_copy
  dsimp only
  exact qy_hold H (br_f (by decide) (qy_slotN hj (br_f (by decide) hp)))
theorem qy_copy_e {post : Int32 → SY → Prop} {x : Int32} (H : ∀ s, ¬ qr_hold a_full x s) (hp : post (-1) (f_shared, f_skipLimit, f_storeLimit, a_pool, a_full, a_state, a_ownExponent, a_word, a_agreed, a_agreedCount, a_publics, a_chain, a_store, a_size)) : wpY_copy post (f_shared, f_skipLimit, f_storeLimit, a_pool, a_full, a_state, a_ownExponent, a_word, a_agreed, a_agreedCount, a_publics, a_chain, a_store, a_size) x := by
  unfold wpY_copy
  dsimp only
  exact qy_nhold H (br_t rfl hp)
theorem qy_alter {post : Int32 → SY → Prop} {x m : Int32} {s f : Nat} (H : qr_hold a_full x s) (hf : f < 5) (hp : post 1 (f_shared, f_skipLimit, f_storeLimit, upd a_pool (s * 6 + f) (a_pool (s * 6 + f) ^^^ m), a_full, a_state, a_ownExponent, a_word, a_agreed, a_agreedCount, a_publics, a_chain, a_store, a_size)) : wpY_alter post (f_shared, f_skipLimit, f_storeLimit, a_pool, a_full, a_state, a_ownExponent, a_word, a_agreed, a_agreedCount, a_publics, a_chain, a_store, a_size) x (nI f) m := by
  unfold wpY_alter
  dsimp only
  refine qy_hold H (br_f (by decide) (br_f (nI_pos (by omega)) (br_t (nI_le (b := 4) (by omega) (by decide)) ?_)))
  obtain ⟨hs, rfl, _⟩ := H
  have h96 : vp_in (nI (s * 6 + f)) 96 := vp_in_nI (by omega) (by decide)
  rw [qf_m6, nI_add, nI_clamp (by omega)]
  exact And.intro h96 (And.intro h96 (nm_e hp))
theorem qy_alter_n {post : Int32 → SY → Prop} {x y m : Int32} {s : Nat} (H : qr_hold a_full x s) (e : y < 0 ∨ nI 5 ≤ y) (hp : post (-13) (f_shared, f_skipLimit, f_storeLimit, a_pool, a_full, a_state, a_ownExponent, a_word, a_agreed, a_agreedCount, a_publics, a_chain, a_store, a_size)) : wpY_alter post (f_shared, f_skipLimit, f_storeLimit, a_pool, a_full, a_state, a_ownExponent, a_word, a_agreed, a_agreedCount, a_publics, a_chain, a_store, a_size) x y m := by
  unfold wpY_alter
  dsimp only
  refine qy_hold H (br_f (by decide) (br_c (fun _ => hp) (fun h0 => br_f ?_ hp)))
  rcases e with e | e
  · exact absurd e h0
  · exact (qf_gt (n := 4) (by omega) e).1
theorem qy_alter_e {post : Int32 → SY → Prop} {x y m : Int32} (H : ∀ s, ¬ qr_hold a_full x s) (hp : post (-1) (f_shared, f_skipLimit, f_storeLimit, a_pool, a_full, a_state, a_ownExponent, a_word, a_agreed, a_agreedCount, a_publics, a_chain, a_store, a_size)) : wpY_alter post (f_shared, f_skipLimit, f_storeLimit, a_pool, a_full, a_state, a_ownExponent, a_word, a_agreed, a_agreedCount, a_publics, a_chain, a_store, a_size) x y m := by
  unfold wpY_alter
  dsimp only
  exact qy_nhold H (br_t rfl hp)
theorem qy_drop {post : Int32 → SY → Prop} {x : Int32} {s : Nat} (H : qr_hold a_full x s) (hp : post 1 (f_shared, f_skipLimit, f_storeLimit, a_pool, upd a_full s 0, a_state, a_ownExponent, a_word, a_agreed, a_agreedCount, a_publics, a_chain, a_store, a_size)) : wpY_drop post (f_shared, f_skipLimit, f_storeLimit, a_pool, a_full, a_state, a_ownExponent, a_word, a_agreed, a_agreedCount, a_publics, a_chain, a_store, a_size) x := by
  unfold wpY_drop
  dsimp only
  refine qy_hold H (br_f (by decide) ?_)
  obtain ⟨hs, rfl, _⟩ := H
  rw [nI_clamp (by omega)]
  exact And.intro (vp_in_nI hs (by decide)) (nm_e hp)
theorem qy_drop_e {post : Int32 → SY → Prop} {x : Int32} (H : ∀ s, ¬ qr_hold a_full x s) (hp : post (-1) (f_shared, f_skipLimit, f_storeLimit, a_pool, a_full, a_state, a_ownExponent, a_word, a_agreed, a_agreedCount, a_publics, a_chain, a_store, a_size)) : wpY_drop post (f_shared, f_skipLimit, f_storeLimit, a_pool, a_full, a_state, a_ownExponent, a_word, a_agreed, a_agreedCount, a_publics, a_chain, a_store, a_size) x := by
  unfold wpY_drop
  dsimp only
  exact qy_nhold H (br_t rfl hp)
end
theorem qr_Gp {lim : Nat} {sk sl : Int32} {p p' : Nat → Int32} (G : qr_G lim sk sl p) (h : ∀ q, q < 16 → ∃ q', q' < 16 ∧ p' (q * 6 + 5) = p (q' * 6 + 5)) : qr_G lim sk sl p' := by
  obtain ⟨g1, g2, g3, g4, g5⟩ := G
  refine ⟨g1, g2, g3, g4, fun q hq => ?_⟩
  obtain ⟨q', hq', e⟩ := h q hq
  rw [e]
  exact g5 q' hq'
theorem i_vc_copy {k : Nat} {u : SX} {v : SY} (I : i_Rel k u v) (hk : k + 4 ≤ 2052) (v1 : Int32) : wpX_copy (fun r u' => wpY_copy (fun r' v' => r' = r ∧ i_Rel (k + 4) u' v') v v1) u v1 := by
  refine qr_el (P := fun u v => wpX_copy (fun r u' => wpY_copy (fun r' v' => r' = r ∧ i_Rel (k + 4) u' v') v v1) u v1) I ?_
  intro f_skipLimit f_storeLimit f_shared a_pool a_filled a_root a_sendChain a_recvChain a_hasSend a_hasRecv a_ownExponent a_ownPublic a_peerPublic a_sentCount a_recvNext a_prevLength a_turnDue a_turnsMade a_turnsTaken a_pushedOut a_accepted a_lastWords a_usedList a_usedCount a_knownList a_knownCount a_storePublic a_storeNumber a_storeKey a_storeCount a_state a_agreed a_agreedCount a_publics a_chain a_store lim G A R
  by_cases H : ∃ s, qr_hold a_filled v1 s
  · obtain ⟨s, Hs⟩ := H
    rcases qr_slot a_filled 16 with ⟨t, ht, hz, hj⟩ | hj
    · refine qx_copy Hs ht hz hj (qy_copy Hs ht hz hj ⟨rfl, qr_in (qr_Gp G (fun q hq => ?_)) A R⟩)
      rcases qf_cp6 a_pool s t q with e | e
      · exact ⟨q, hq, e⟩
      · exact ⟨s, Hs.1, e⟩
    · exact qx_copy_f Hs hj (qy_copy_f Hs hj ⟨rfl, qr_in G A R⟩)
  · have H' : ∀ s, ¬ qr_hold a_filled v1 s := fun s h => H ⟨s, h⟩
    exact qx_copy_e H' (qy_copy_e H' ⟨rfl, qr_in G A R⟩)
theorem i_vc_alter {k : Nat} {u : SX} {v : SY} (I : i_Rel k u v) (hk : k + 4 ≤ 2052) (v1 : Int32) (v2 : Int32) (v3 : Int32) : wpX_alter (fun r u' => wpY_alter (fun r' v' => r' = r ∧ i_Rel (k + 4) u' v') v v1 v2 v3) u v1 v2 v3 := by
  refine qr_el (P := fun u v => wpX_alter (fun r u' => wpY_alter (fun r' v' => r' = r ∧ i_Rel (k + 4) u' v') v v1 v2 v3) u v1 v2 v3) I ?_
  intro f_skipLimit f_storeLimit f_shared a_pool a_filled a_root a_sendChain a_recvChain a_hasSend a_hasRecv a_ownExponent a_ownPublic a_peerPublic a_sentCount a_recvNext a_prevLength a_turnDue a_turnsMade a_turnsTaken a_pushedOut a_accepted a_lastWords a_usedList a_usedCount a_knownList a_knownCount a_storePublic a_storeNumber a_storeKey a_storeCount a_state a_agreed a_agreedCount a_publics a_chain a_store lim G A R
  by_cases H : ∃ s, qr_hold a_filled v1 s
  · obtain ⟨s, Hs⟩ := H
    rcases pk_ix v2 (n := 5) (by decide) with e | e | ⟨f, hf, rfl⟩
    · exact qx_alter_n Hs (Or.inl e) (qy_alter_n Hs (Or.inl e) ⟨rfl, qr_in G A R⟩)
    · exact qx_alter_n Hs (Or.inr e) (qy_alter_n Hs (Or.inr e) ⟨rfl, qr_in G A R⟩)
    · exact qx_alter Hs hf (qy_alter Hs hf ⟨rfl, qr_in (qr_Gp G (fun q hq => ⟨q, hq, pk_un (by omega)⟩)) A R⟩)
  · have H' : ∀ s, ¬ qr_hold a_filled v1 s := fun s h => H ⟨s, h⟩
    exact qx_alter_e H' (qy_alter_e H' ⟨rfl, qr_in G A R⟩)
theorem i_vc_drop {k : Nat} {u : SX} {v : SY} (I : i_Rel k u v) (hk : k + 4 ≤ 2052) (v1 : Int32) : wpX_drop (fun r u' => wpY_drop (fun r' v' => r' = r ∧ i_Rel (k + 4) u' v') v v1) u v1 := by
  refine qr_el (P := fun u v => wpX_drop (fun r u' => wpY_drop (fun r' v' => r' = r ∧ i_Rel (k + 4) u' v') v v1) u v1) I ?_
  intro f_skipLimit f_storeLimit f_shared a_pool a_filled a_root a_sendChain a_recvChain a_hasSend a_hasRecv a_ownExponent a_ownPublic a_peerPublic a_sentCount a_recvNext a_prevLength a_turnDue a_turnsMade a_turnsTaken a_pushedOut a_accepted a_lastWords a_usedList a_usedCount a_knownList a_knownCount a_storePublic a_storeNumber a_storeKey a_storeCount a_state a_agreed a_agreedCount a_publics a_chain a_store lim G A R
  by_cases H : ∃ s, qr_hold a_filled v1 s
  · obtain ⟨s, Hs⟩ := H
    exact qx_drop Hs (qy_drop Hs ⟨rfl, qr_in G A R⟩)
  · have H' : ∀ s, ¬ qr_hold a_filled v1 s := fun s h => H ⟨s, h⟩
    exact qx_drop_e H' (qy_drop_e H' ⟨rfl, qr_in G A R⟩)
end
section
/-! lists that grow, the constructors -/
section
variable {f_skipLimit f_storeLimit : Int32} {a_pool a_filled a_root a_sendChain a_recvChain a_hasSend a_hasRecv a_ownExponent a_ownPublic a_peerPublic a_sentCount a_recvNext a_prevLength a_turnDue a_turnsMade a_turnsTaken a_pushedOut a_accepted a_lastWords a_usedList a_usedCount a_knownList a_knownCount a_storePublic a_storeNumber a_storeKey a_storeCount : Nat → Int32}
theorem qx_addKnown {post : SX → Prop} {w c : Nat} {v : Int32} (hw : w < 2) (ec : a_knownCount w = nI c) (hc : c < 9) (hp : post (f_skipLimit, f_storeLimit, a_pool, a_filled, a_root, a_sendChain, a_recvChain, a_hasSend, a_hasRecv, a_ownExponent, a_ownPublic, a_peerPublic, a_sentCount, a_recvNext, a_prevLength, a_turnDue, a_turnsMade, a_turnsTaken, a_pushedOut, a_accepted, a_lastWords, a_usedList, a_usedCount, upd a_knownList (w * 9 + c) v, upd a_knownCount w (nI (c + 1)), a_storePublic, a_storeNumber, a_storeKey, a_storeCount)) : wpX_addKnown post (f_skipLimit, f_storeLimit, a_pool, a_filled, a_root, a_sendChain, a_recvChain, a_hasSend, a_hasRecv, a_ownExponent, a_ownPublic, a_peerPublic, a_sentCount, a_recvNext, a_prevLength, a_turnDue, a_turnsMade, a_turnsTaken, a_pushedOut, a_accepted, a_lastWords, a_usedList, a_usedCount, a_knownList, a_knownCount, a_storePublic, a_storeNumber, a_storeKey, a_storeCount) (nI w) v := by
  have hin : vp_in (nI w) 2 := vp_in_nI hw (by decide)
  refine And.intro hin ?_
  rw [nI_clamp (n := w) (by omega), ec, qf_m9, nI_add, nI_clamp (by omega), qf_a1]
  exact br_f (nI_ge (b := 9) hc (by decide)) (And.intro hin (And.intro (vp_in_nI (by omega) (by decide)) (nm_e (And.intro hin (And.intro hin (nm_e hp))))))
theorem qx_addUsed {post : SX → Prop} {w c : Nat} {v : Int32} (hw : w < 2) (ec : a_usedCount w = nI c) (hc : c < 9) (hp : post (f_skipLimit, f_storeLimit, a_pool, a_filled, a_root, a_sendChain, a_recvChain, a_hasSend, a_hasRecv, a_ownExponent, a_ownPublic, a_peerPublic, a_sentCount, a_recvNext, a_prevLength, a_turnDue, a_turnsMade, a_turnsTaken, a_pushedOut, a_accepted, a_lastWords, upd a_usedList (w * 9 + c) v, upd a_usedCount w (nI (c + 1)), a_knownList, a_knownCount, a_storePublic, a_storeNumber, a_storeKey, a_storeCount)) : wpX_addUsed post (f_skipLimit, f_storeLimit, a_pool, a_filled, a_root, a_sendChain, a_recvChain, a_hasSend, a_hasRecv, a_ownExponent, a_ownPublic, a_peerPublic, a_sentCount, a_recvNext, a_prevLength, a_turnDue, a_turnsMade, a_turnsTaken, a_pushedOut, a_accepted, a_lastWords, a_usedList, a_usedCount, a_knownList, a_knownCount, a_storePublic, a_storeNumber, a_storeKey, a_storeCount) (nI w) v := by
  have hin : vp_in (nI w) 2 := vp_in_nI hw (by decide)
  refine And.intro hin ?_
  rw [nI_clamp (n := w) (by omega), ec, qf_m9, nI_add, nI_clamp (by omega), qf_a1]
  exact br_f (nI_ge (b := 9) hc (by decide)) (And.intro hin (And.intro (vp_in_nI (by omega) (by decide)) (nm_e (And.intro hin (And.intro hin (nm_e hp))))))
end
def qf_z : Nat → Int32 := fun _ => 0
theorem qx_init {post : SX → Prop} {k0 k1 k2 k3 : Int32} {x : Nat} (hx : x ≤ 1023) (ex : qf_clamp k1 1 1023 = nI x) (hp : post (qf_clamp k2 0 8, qf_clamp k3 1 12, qf_z, qf_z, upd (upd qf_z 0 (qf_mix (qf_clamp k0 0 65535) 7)) 1 (qf_mix (qf_clamp k0 0 65535) 7), qf_z, qf_z, qf_z, qf_z, upd qf_z 1 (nI x), upd qf_z 1 (nI (7 ^ x % 2147483647)), upd qf_z 0 (nI (7 ^ x % 2147483647)), qf_z, qf_z, qf_z, upd qf_z 0 1, qf_z, qf_z, qf_z, qf_z, qf_z, upd qf_z (1 * 9 + 0) (nI (7 ^ x % 2147483647)), upd qf_z 1 (nI (0 + 1)), upd qf_z (0 * 9 + 0) (nI (7 ^ x % 2147483647)), upd qf_z 0 (nI (0 + 1)), qf_z, qf_z, qf_z, qf_z)) : wpX_init post k0 k1 k2 k3 := by
  unfold wpX_init
  refine qx_clamp (qx_clamp (qx_clamp (qx_clamp (qx_mix ?_))))
  rw [ex]
  refine qx_pow (b := 7) (by omega) (by omega) (nm_e (nm_e (nm_e (nm_e ?_))))
  refine qx_addKnown (w := 0) (c := 0) (by omega) rfl (by omega) ?_
  dsimp only
  refine nm_e (nm_e ?_)
  refine qx_addUsed (w := 1) (c := 0) (by omega) rfl (by omega) ?_
  dsimp only
  exact hp
theorem qy_init {post : SY → Prop} {k0 k1 k2 k3 : Int32} {x : Nat} (hx : x ≤ 1023) (ex : qf_clamp k1 1 1023 = nI x) (hp : post (qf_clamp k0 0 65535, qf_clamp k2 0 8, qf_clamp k3 1 12, qf_z, qf_z, upd (upd (upd qf_z 5 1) 1 (nI (7 ^ x % 2147483647))) 10 (nI (7 ^ x % 2147483647)), upd qf_z 1 (nI x), qf_z, qf_z, qf_z, upd (upd qf_z 34 (nI (7 ^ x % 2147483647))) 17 (nI (7 ^ x % 2147483647)), qf_z, qf_z, qf_z)) : wpY_init post k0 k1 k2 k3 := by
  unfold wpY_init
  refine qy_clamp (qy_clamp (qy_clamp (qy_clamp (nm_e ?_))))
  rw [ex, pk_us]
  refine qy_pow (b := 7) (by omega) (by omega) (nm_e (nm_e (nm_e (nm_e (nm_e ?_)))))
  exact hp
theorem qr_set_0 {w l ac : Nat} {L pb : Nat → Int32} (h : ∀ i, i < 17 → pb (l * 17 + i) = 0) : qr_set w l 0 ac L pb := by
  refine ⟨fun v => ⟨?_, ?_⟩, fun i _ b => h i b⟩
  · rintro ⟨i, hi, _⟩
    omega
  · rintro ⟨z, j, hj, e⟩
    exact absurd (e.symm.trans (h j hj)) z
theorem qr_set_1 {w l ac : Nat} {L pb : Nat → Int32} {g : Int32} (hg : g ≠ 0) (hL : L (w * 9) = g) (h0 : pb (l * 17) = g) (h : ∀ i, 0 < i → i < 17 → pb (l * 17 + i) = 0) : qr_set w l 1 ac L pb := by
  refine ⟨fun v => ⟨?_, ?_⟩, fun i a b => h i (by omega) b⟩
  · rintro ⟨i, hi, e⟩
    obtain rfl : i = 0 := by omega
    have e2 : g = v := hL.symm.trans e
    rw [← e2]
    exact ⟨hg, 0, by omega, h0⟩
  · rintro ⟨z, j, hj, e⟩
    by_cases q : j = 0
    · subst q
      exact ⟨0, by omega, hL.trans (h0.symm.trans e)⟩
    · exact absurd (e.symm.trans (h j (by omega) hj)) z
theorem qr_R0 {lim x : Nat} {sh g : Int32} {p : Nat} (eg : g = nI p) (hp : p < 2147483647) (hg : g ≠ 0) (hx : x ≤ 1023) : qr_R lim sh (upd (upd qf_z 0 (qf_mix sh 7)) 1 (qf_mix sh 7)) qf_z qf_z qf_z qf_z (upd qf_z 1 (nI x)) (upd qf_z 1 g) (upd qf_z 0 g) qf_z qf_z qf_z (upd qf_z 0 1) qf_z qf_z qf_z (upd qf_z (1 * 9 + 0) g) (upd qf_z 1 (nI (0 + 1))) (upd qf_z (0 * 9 + 0) g) (upd qf_z 0 (nI (0 + 1))) qf_z qf_z qf_z qf_z (upd (upd (upd qf_z 5 1) 1 g) 10 g) qf_z qf_z (upd (upd qf_z 34 g) 17 g) qf_z qf_z := by
  intro w hw
  have ew : w = 0 ∨ w = 1 := by omega
  rcases ew with rfl | rfl
  · refine ⟨0, 0, 0, 0, 0, 0, p, ⟨by omega, by omega, by omega, by omega, by omega, by omega, hp⟩, ⟨rfl, rfl, rfl, rfl, rfl, rfl, eg, rfl, rfl, rfl, Or.inr rfl⟩, ⟨rfl, rfl, rfl, rfl, rfl, rfl, rfl, rfl, rfl⟩, rfl, Or.inl ⟨rfl, rfl⟩, Or.inl ⟨rfl, rfl⟩, ?_, ?_, fun i hi => by omega⟩
    · refine qr_set_0 (fun i hi => ?_)
      rw [pk_un (by omega), pk_un (by omega)]
      rfl
    · refine qr_set_1 hg rfl rfl (fun i h0 hi => ?_)
      rw [pk_un (by omega), pk_un (by omega)]
      rfl
  · refine ⟨0, 0, 0, 0, 0, x, 0, ⟨by omega, by omega, by omega, by omega, by omega, hx, by omega⟩, ⟨rfl, rfl, rfl, rfl, rfl, rfl, rfl, rfl, rfl, rfl, Or.inl rfl⟩, ⟨rfl, rfl, rfl, rfl, rfl, rfl, rfl, rfl, rfl⟩, rfl, Or.inl ⟨rfl, rfl⟩, Or.inl ⟨rfl, rfl⟩, ?_, ?_, fun i hi => by omega⟩
    · refine qr_set_1 hg rfl rfl (fun i h0 hi => ?_)
      rw [pk_un (by omega), pk_un (by omega)]
      rfl
    · refine qr_set_0 (fun i hi => ?_)
      rw [pk_un (by omega), pk_un (by omega)]
      rfl
theorem i_vc0 (k0 : Int32) (k1 : Int32) (k2 : Int32) (k3 : Int32) : wpX_init (fun u => wpY_init (fun v => i_Rel 4 u v) k0 k1 k2 k3) k0 k1 k2 k3 := by
  obtain ⟨x, _, hx, ex⟩ : ∃ j : Nat, 1 ≤ j ∧ j ≤ 1023 ∧ qf_clamp k1 1 1023 = nI j := qf_clamp_r k1 (by omega) (by omega)
  obtain ⟨n, _, hn, en⟩ : ∃ j : Nat, 0 ≤ j ∧ j ≤ 8 ∧ qf_clamp k2 0 8 = nI j := qf_clamp_r k2 (by omega) (by omega)
  obtain ⟨lim, hl1, hl2, el⟩ : ∃ j : Nat, 1 ≤ j ∧ j ≤ 12 ∧ qf_clamp k3 1 12 = nI j := qf_clamp_r k3 (by omega) (by omega)
  refine qx_init hx ex (qy_init hx ex (qr_in (lim := lim) ⟨⟨n, hn, en⟩, hl1, hl2, el, fun s hs => ⟨0, by omega, rfl⟩⟩ (fun w hw => ?_) (qr_R0 rfl (qf_pl 7 x) (qf_7n x) hx)))
  rw [pk_un (by omega), pk_un (by omega), pk_un (by omega)]
  rfl
end
section
/-! send: the component -/
def qf_wr5 (p : Nat → Int32) (s : Nat) (o pn n c t : Int32) : Nat → Int32 := upd (upd (upd (upd (upd p (s * 6) o) (s * 6 + 1) pn) (s * 6 + 2) n) (s * 6 + 3) c) (s * 6 + 5) t
def qf_wr (p : Nat → Int32) (s : Nat) (o pn n c t k : Int32) : Nat → Int32 := upd (qf_wr5 p s o pn n c t) (s * 6 + 4) (qf_tag k (qf_wr5 p s o pn n c t) s)
theorem qf_wr_5 {p : Nat → Int32} {s q : Nat} {o pn n c t k : Int32} : qf_wr p s o pn n c t k (q * 6 + 5) = if q = s then t else p (q * 6 + 5) := by
  unfold qf_wr
  rw [pk_un (by omega)]
  unfold qf_wr5
  by_cases e : q = s
  · rw [if_pos e, e, pk_us]
  · rw [if_neg e]
    simp (disch := omega) only [pk_un]
section
variable {f_skipLimit f_storeLimit : Int32} {a_pool a_filled a_root a_sendChain a_recvChain a_hasSend a_hasRecv a_ownExponent a_ownPublic a_peerPublic a_sentCount a_recvNext a_prevLength a_turnDue a_turnsMade a_turnsTaken a_pushedOut a_accepted a_lastWords a_usedList a_usedCount a_knownList a_knownCount a_storePublic a_storeNumber a_storeKey a_storeCount : Nat → Int32}
theorem qx_seed {post : Int32 → Prop} {w b x : Nat} (hw : w < 2) (hb : b < 2147483647) (hx : x < 1024) (h : post (qf_mix (a_root w) (nI (b ^ x % 2147483647)))) : wpX_chainSeed post (f_skipLimit, f_storeLimit, a_pool, a_filled, a_root, a_sendChain, a_recvChain, a_hasSend, a_hasRecv, a_ownExponent, a_ownPublic, a_peerPublic, a_sentCount, a_recvNext, a_prevLength, a_turnDue, a_turnsMade, a_turnsTaken, a_pushedOut, a_accepted, a_lastWords, a_usedList, a_usedCount, a_knownList, a_knownCount, a_storePublic, a_storeNumber, a_storeKey, a_storeCount) (nI w) (nI b) (nI x) := by
  have hin : vp_in (nI w) 2 := vp_in_nI hw (by decide)
  unfold wpX_chainSeed
  dsimp only
  rw [nI_clamp (n := w) (by omega)]
  exact qx_pow hb hx (And.intro hin (qx_mix h))
theorem qx_makeTurn {post : SX → Prop} {w x uc tm pp : Nat} (hw : w < 2) (hx : x ≤ 1023) (euc : a_usedCount w = nI uc) (huc : uc < 9) (etm : a_turnsMade w = nI tm) (epp : a_peerPublic w = nI pp) (hpp : pp < 2147483647) (hp : post (f_skipLimit, f_storeLimit, a_pool, a_filled, upd a_root w (qf_mix (qf_mix (a_root w) (nI (pp ^ x % 2147483647))) 1), upd a_sendChain w (qf_mix (qf_mix (a_root w) (nI (pp ^ x % 2147483647))) 2), a_recvChain, upd a_hasSend w 1, a_hasRecv, upd a_ownExponent w (nI x), upd a_ownPublic w (nI (7 ^ x % 2147483647)), a_peerPublic, upd a_sentCount w 0, a_recvNext, upd a_prevLength w (a_sentCount w), upd a_turnDue w 0, upd a_turnsMade w (nI (tm + 1)), a_turnsTaken, a_pushedOut, a_accepted, a_lastWords, upd a_usedList (w * 9 + uc) (nI (7 ^ x % 2147483647)), upd a_usedCount w (nI (uc + 1)), a_knownList, a_knownCount, a_storePublic, a_storeNumber, a_storeKey, a_storeCount)) : wpX_makeTurn post (f_skipLimit, f_storeLimit, a_pool, a_filled, a_root, a_sendChain, a_recvChain, a_hasSend, a_hasRecv, a_ownExponent, a_ownPublic, a_peerPublic, a_sentCount, a_recvNext, a_prevLength, a_turnDue, a_turnsMade, a_turnsTaken, a_pushedOut, a_accepted, a_lastWords, a_usedList, a_usedCount, a_knownList, a_knownCount, a_storePublic, a_storeNumber, a_storeKey, a_storeCount) (nI w) (nI x) := by
  have hin : vp_in (nI w) 2 := vp_in_nI hw (by decide)
  have ew : (nI w).toNatClampNeg = w := nI_clamp (by omega)
  unfold wpX_makeTurn
  dsimp only
  rw [ew]
  refine And.intro hin (And.intro hin (nm_e (And.intro hin (nm_e (qx_pow (b := 7) (by omega) (by omega) (And.intro hin (nm_e (And.intro hin (nm_e (qx_addUsed hw euc huc ?_))))))))))
  dsimp only
  rw [epp, etm]
  exact And.intro hin (qx_seed hw hpp (by omega) (qx_mix (And.intro hin (nm_e (qx_mix (And.intro hin (nm_e (And.intro hin (nm_e (And.intro hin (And.intro hin (nm_r (by rw [qf_a1]) (And.intro hin (nm_e hp))))))))))))))
theorem qx_wm {post : SX → Prop} {w s : Nat} {word : Int32} (hw : w < 2) (hs : s < 16) (hp : post (f_skipLimit, f_storeLimit, qf_wr a_pool s (a_ownPublic w) (a_prevLength w) (a_sentCount w) (word ^^^ qf_mix (qf_mix (a_sendChain w) 3) 5) (1 - nI w) (qf_mix (a_sendChain w) 3), upd a_filled s 1, a_root, upd a_sendChain w (qf_mix (a_sendChain w) 4), a_recvChain, a_hasSend, a_hasRecv, a_ownExponent, a_ownPublic, a_peerPublic, upd a_sentCount w (a_sentCount w + 1), a_recvNext, a_prevLength, a_turnDue, a_turnsMade, a_turnsTaken, a_pushedOut, a_accepted, a_lastWords, a_usedList, a_usedCount, a_knownList, a_knownCount, a_storePublic, a_storeNumber, a_storeKey, a_storeCount)) : wpX_writeMessage post (f_skipLimit, f_storeLimit, a_pool, a_filled, a_root, a_sendChain, a_recvChain, a_hasSend, a_hasRecv, a_ownExponent, a_ownPublic, a_peerPublic, a_sentCount, a_recvNext, a_prevLength, a_turnDue, a_turnsMade, a_turnsTaken, a_pushedOut, a_accepted, a_lastWords, a_usedList, a_usedCount, a_knownList, a_knownCount, a_storePublic, a_storeNumber, a_storeKey, a_storeCount) (nI w) word (nI s) := by
  have hin : vp_in (nI w) 2 := vp_in_nI hw (by decide)
  have ew : (nI w).toNatClampNeg = w := nI_clamp (by omega)
  have h0 : vp_in (nI (s * 6)) 96 := vp_in_nI (by omega) (by decide)
  have h1 : vp_in (nI (s * 6 + 1)) 96 := vp_in_nI (by omega) (by decide)
  have h2 : vp_in (nI (s * 6 + 2)) 96 := vp_in_nI (by omega) (by decide)
  have h3 : vp_in (nI (s * 6 + 3)) 96 := vp_in_nI (by omega) (by decide)
  have h4 : vp_in (nI (s * 6 + 4)) 96 := vp_in_nI (by omega) (by decide)
  have h5 : vp_in (nI (s * 6 + 5)) 96 := vp_in_nI (by omega) (by decide)
  have h16 : vp_in (nI s) 16 := vp_in_nI hs (by decide)
  unfold wpX_writeMessage
  dsimp only
  rw [ew]
  refine And.intro hin (qx_mix (nm_r (qf_m6 s) ?_))
  rw [qf_a1 (s * 6), qf_a2, qf_a3, qf_a4, qf_a5, nI_clamp (n := s * 6) (by omega), nI_clamp (n := s * 6 + 1) (by omega), nI_clamp (n := s * 6 + 2) (by omega), nI_clamp (n := s * 6 + 3) (by omega), nI_clamp (n := s * 6 + 4) (by omega), nI_clamp (n := s * 6 + 5) (by omega), nI_clamp (n := s) (by omega)]
  exact And.intro hin (And.intro h0 (nm_e (And.intro hin (And.intro h1 (nm_e (And.intro hin (And.intro h2 (nm_e (qx_mix (And.intro h3 (nm_e (And.intro h5 (nm_e (qx_tag hs (And.intro h4 (nm_e (And.intro h16 (nm_e (And.intro hin (qx_mix (And.intro hin (nm_e (And.intro hin (And.intro hin (nm_e hp)))))))))))))))))))))))))
theorem qx_send_e {post : Int32 → SX → Prop} {y word x : Int32} (h0 : ¬ y = 0) (h1 : ¬ y = 1) (hp : post (-8) (f_skipLimit, f_storeLimit, a_pool, a_filled, a_root, a_sendChain, a_recvChain, a_hasSend, a_hasRecv, a_ownExponent, a_ownPublic, a_peerPublic, a_sentCount, a_recvNext, a_prevLength, a_turnDue, a_turnsMade, a_turnsTaken, a_pushedOut, a_accepted, a_lastWords, a_usedList, a_usedCount, a_knownList, a_knownCount, a_storePublic, a_storeNumber, a_storeKey, a_storeCount)) : wpX_send post (f_skipLimit, f_storeLimit, a_pool, a_filled, a_root, a_sendChain, a_recvChain, a_hasSend, a_hasRecv, a_ownExponent, a_ownPublic, a_peerPublic, a_sentCount, a_recvNext, a_prevLength, a_turnDue, a_turnsMade, a_turnsTaken, a_pushedOut, a_accepted, a_lastWords, a_usedList, a_usedCount, a_knownList, a_knownCount, a_storePublic, a_storeNumber, a_storeKey, a_storeCount) y word x := by
  unfold wpX_send
  dsimp only
  exact qx_nep h0 h1 (br_t rfl hp)
/-- no turn is due -/
theorem qx_send0 {post : Int32 → SX → Prop} {w ns : Nat} {word x : Int32} (hw : w < 2) (ht : a_turnDue w = 0) (hn : ns ≤ 12) (en : a_sentCount w = nI ns) (H0 : a_hasSend w = 0 → post (-9) (f_skipLimit, f_storeLimit, a_pool, a_filled, a_root, a_sendChain, a_recvChain, a_hasSend, a_hasRecv, a_ownExponent, a_ownPublic, a_peerPublic, a_sentCount, a_recvNext, a_prevLength, a_turnDue, a_turnsMade, a_turnsTaken, a_pushedOut, a_accepted, a_lastWords, a_usedList, a_usedCount, a_knownList, a_knownCount, a_storePublic, a_storeNumber, a_storeKey, a_storeCount)) (H1 : ¬ a_hasSend w = 0 → ns = 12 → post (-11) (f_skipLimit, f_storeLimit, a_pool, a_filled, a_root, a_sendChain, a_recvChain, a_hasSend, a_hasRecv, a_ownExponent, a_ownPublic, a_peerPublic, a_sentCount, a_recvNext, a_prevLength, a_turnDue, a_turnsMade, a_turnsTaken, a_pushedOut, a_accepted, a_lastWords, a_usedList, a_usedCount, a_knownList, a_knownCount, a_storePublic, a_storeNumber, a_storeKey, a_storeCount)) (H2 : ¬ a_hasSend w = 0 → ns < 12 → wX_send_34 post (nI w) word x 1 f_skipLimit f_storeLimit a_pool a_filled a_root a_sendChain a_recvChain a_hasSend a_hasRecv a_ownExponent a_ownPublic a_peerPublic a_sentCount a_recvNext a_prevLength a_turnDue a_turnsMade a_turnsTaken a_pushedOut a_accepted a_lastWords a_usedList a_usedCount a_knownList a_knownCount a_storePublic a_storeNumber a_storeKey a_storeCount) : wpX_send post (f_skipLimit, f_storeLimit, a_pool, a_filled, a_root, a_sendChain, a_recvChain, a_hasSend, a_hasRecv, a_ownExponent, a_ownPublic, a_peerPublic, a_sentCount, a_recvNext, a_prevLength, a_turnDue, a_turnsMade, a_turnsTaken, a_pushedOut, a_accepted, a_lastWords, a_usedList, a_usedCount, a_knownList, a_knownCount, a_storePublic, a_storeNumber, a_storeKey, a_storeCount) (nI w) word x := by
  have hin : vp_in (nI w) 2 := vp_in_nI hw (by decide)
  have ew : (nI w).toNatClampNeg = w := nI_clamp (by omega)
  unfold wpX_send
  dsimp only
  refine qx_ep hw (br_f (by decide) (And.intro hin ?_))
  rw [ew]
  refine br_t ht ?_
  unfold wpX_judgeSendingChain
  dsimp only
  rw [ew, en]
  refine And.intro hin (br_c (fun h => br_f (by decide) (H0 h)) (fun h => And.intro hin (pk_lt ns 12 (fun q => H2 h q) (fun q => br_f (by decide) (H1 h (by omega))))))
/-- a turn is due -/
theorem qx_send1 {post : Int32 → SX → Prop} {w tm uc : Nat} {word x : Int32} (hw : w < 2) (ht : a_turnDue w = 1) (hm : tm ≤ 8) (em : a_turnsMade w = nI tm) (hc : uc ≤ 9) (ec : a_usedCount w = nI uc) (H0 : tm = 8 → post (-7) (f_skipLimit, f_storeLimit, a_pool, a_filled, a_root, a_sendChain, a_recvChain, a_hasSend, a_hasRecv, a_ownExponent, a_ownPublic, a_peerPublic, a_sentCount, a_recvNext, a_prevLength, a_turnDue, a_turnsMade, a_turnsTaken, a_pushedOut, a_accepted, a_lastWords, a_usedList, a_usedCount, a_knownList, a_knownCount, a_storePublic, a_storeNumber, a_storeKey, a_storeCount)) (H1 : tm < 8 → (x < 1 ∨ ¬ x ≤ 1023) → post (-10) (f_skipLimit, f_storeLimit, a_pool, a_filled, a_root, a_sendChain, a_recvChain, a_hasSend, a_hasRecv, a_ownExponent, a_ownPublic, a_peerPublic, a_sentCount, a_recvNext, a_prevLength, a_turnDue, a_turnsMade, a_turnsTaken, a_pushedOut, a_accepted, a_lastWords, a_usedList, a_usedCount, a_knownList, a_knownCount, a_storePublic, a_storeNumber, a_storeKey, a_storeCount)) (H2 : tm < 8 → ∀ n, 1 ≤ n → n ≤ 1023 → x = nI n → (∃ j, j < uc ∧ a_usedList (w * 9 + j) = nI (7 ^ n % 2147483647)) → post (-10) (f_skipLimit, f_storeLimit, a_pool, a_filled, a_root, a_sendChain, a_recvChain, a_hasSend, a_hasRecv, a_ownExponent, a_ownPublic, a_peerPublic, a_sentCount, a_recvNext, a_prevLength, a_turnDue, a_turnsMade, a_turnsTaken, a_pushedOut, a_accepted, a_lastWords, a_usedList, a_usedCount, a_knownList, a_knownCount, a_storePublic, a_storeNumber, a_storeKey, a_storeCount)) (H3 : tm < 8 → ∀ n, 1 ≤ n → n ≤ 1023 → x = nI n → ¬ (∃ j, j < uc ∧ a_usedList (w * 9 + j) = nI (7 ^ n % 2147483647)) → wX_send_34 post (nI w) word x 1 f_skipLimit f_storeLimit a_pool a_filled a_root a_sendChain a_recvChain a_hasSend a_hasRecv a_ownExponent a_ownPublic a_peerPublic a_sentCount a_recvNext a_prevLength a_turnDue a_turnsMade a_turnsTaken a_pushedOut a_accepted a_lastWords a_usedList a_usedCount a_knownList a_knownCount a_storePublic a_storeNumber a_storeKey a_storeCount) : wpX_send post (f_skipLimit, f_storeLimit, a_pool, a_filled, a_root, a_sendChain, a_recvChain, a_hasSend, a_hasRecv, a_ownExponent, a_ownPublic, a_peerPublic, a_sentCount, a_recvNext, a_prevLength, a_turnDue, a_turnsMade, a_turnsTaken, a_pushedOut, a_accepted, a_lastWords, a_usedList, a_usedCount, a_knownList, a_knownCount, a_storePublic, a_storeNumber, a_storeKey, a_storeCount) (nI w) word x := by
  have hin : vp_in (nI w) 2 := vp_in_nI hw (by decide)
  have ew : (nI w).toNatClampNeg = w := nI_clamp (by omega)
  unfold wpX_send
  dsimp only
  refine qx_ep hw (br_f (by decide) (And.intro hin ?_))
  rw [ew]
  refine br_f (by rw [ht]; decide) ?_
  unfold wpX_judgeOwnTurn
  dsimp only
  rw [ew, em]
  refine And.intro hin (pk_lt tm 8 (fun q => br_c (fun h => br_f (by decide) (H1 q (Or.inl h))) (fun h => br_c (fun h2 => ?_) (fun h2 => br_f (by decide) (H1 q (Or.inr h2))))) (fun q => br_f (by decide) (H0 (by omega))))
  obtain ⟨n, hn1, hn2, hn3⟩ := qf_rng (x := x) 1 1023 h (Int32.not_lt.mpr h2) (by omega) (by omega)
  have H2' := H2 q n hn1 hn2 hn3
  have H3' := H3 q n hn1 hn2 hn3
  subst hn3
  exact qx_pow (b := 7) (by omega) (by omega) (qx_used hw hc ec (fun C => br_f (by decide) (br_f (by decide) (H2' C))) (fun C => br_t rfl (H3' C)))
theorem qx_send34n {post : Int32 → SX → Prop} {w : Nat} {word x : Int32} (hj : ∀ j, j < 16 → ¬ a_filled j = 0) (hp : post (-12) (f_skipLimit, f_storeLimit, a_pool, a_filled, a_root, a_sendChain, a_recvChain, a_hasSend, a_hasRecv, a_ownExponent, a_ownPublic, a_peerPublic, a_sentCount, a_recvNext, a_prevLength, a_turnDue, a_turnsMade, a_turnsTaken, a_pushedOut, a_accepted, a_lastWords, a_usedList, a_usedCount, a_knownList, a_knownCount, a_storePublic, a_storeNumber, a_storeKey, a_storeCount)) : wX_send_34 post (nI w) word x 1 f_skipLimit f_storeLimit a_pool a_filled a_root a_sendChain a_recvChain a_hasSend a_hasRecv a_ownExponent a_ownPublic a_peerPublic a_sentCount a_recvNext a_prevLength a_turnDue a_turnsMade a_turnsTaken a_pushedOut a_accepted a_lastWords a_usedList a_usedCount a_knownList a_knownCount a_storePublic a_storeNumber a_storeKey a_storeCount := by
  unfold wX_send_34
  exact br_t rfl (qx_slotN hj (br_f (by decide) hp))
theorem qx_send34a {post : Int32 → SX → Prop} {w s : Nat} {word x : Int32} (hw : w < 2) (hs : s < 16) (hz : a_filled s = 0) (hj : ∀ j, j < s → ¬ a_filled j = 0) (ht : a_turnDue w = 0) (hp : wX_send_74 post (nI w) word (nI s) f_skipLimit f_storeLimit a_pool a_filled a_root a_sendChain a_recvChain a_hasSend a_hasRecv a_ownExponent a_ownPublic a_peerPublic a_sentCount a_recvNext a_prevLength a_turnDue a_turnsMade a_turnsTaken a_pushedOut a_accepted a_lastWords a_usedList a_usedCount a_knownList a_knownCount a_storePublic a_storeNumber a_storeKey a_storeCount) : wX_send_34 post (nI w) word x 1 f_skipLimit f_storeLimit a_pool a_filled a_root a_sendChain a_recvChain a_hasSend a_hasRecv a_ownExponent a_ownPublic a_peerPublic a_sentCount a_recvNext a_prevLength a_turnDue a_turnsMade a_turnsTaken a_pushedOut a_accepted a_lastWords a_usedList a_usedCount a_knownList a_knownCount a_storePublic a_storeNumber a_storeKey a_storeCount := by
  have hin : vp_in (nI w) 2 := vp_in_nI hw (by decide)
  unfold wX_send_34
  refine br_t rfl (qx_slotS hs hz hj (br_t (nI_pos' (by omega)) (And.intro hin ?_)))
  rw [nI_clamp (n := w) (by omega)]
  exact br_t ht hp
theorem qx_send34b {post : Int32 → SX → Prop} {w s x uc tm pp : Nat} {word : Int32} (hw : w < 2) (hs : s < 16) (hz : a_filled s = 0) (hj : ∀ j, j < s → ¬ a_filled j = 0) (ht : a_turnDue w = 1) (hx : x ≤ 1023) (euc : a_usedCount w = nI uc) (huc : uc < 9) (etm : a_turnsMade w = nI tm) (epp : a_peerPublic w = nI pp) (hpp : pp < 2147483647) (hp : wX_send_74 post (nI w) word (nI s) f_skipLimit f_storeLimit a_pool a_filled (upd a_root w (qf_mix (qf_mix (a_root w) (nI (pp ^ x % 2147483647))) 1)) (upd a_sendChain w (qf_mix (qf_mix (a_root w) (nI (pp ^ x % 2147483647))) 2)) a_recvChain (upd a_hasSend w 1) a_hasRecv (upd a_ownExponent w (nI x)) (upd a_ownPublic w (nI (7 ^ x % 2147483647))) a_peerPublic (upd a_sentCount w 0) a_recvNext (upd a_prevLength w (a_sentCount w)) (upd a_turnDue w 0) (upd a_turnsMade w (nI (tm + 1))) a_turnsTaken a_pushedOut a_accepted a_lastWords (upd a_usedList (w * 9 + uc) (nI (7 ^ x % 2147483647))) (upd a_usedCount w (nI (uc + 1))) a_knownList a_knownCount a_storePublic a_storeNumber a_storeKey a_storeCount) : wX_send_34 post (nI w) word (nI x) 1 f_skipLimit f_storeLimit a_pool a_filled a_root a_sendChain a_recvChain a_hasSend a_hasRecv a_ownExponent a_ownPublic a_peerPublic a_sentCount a_recvNext a_prevLength a_turnDue a_turnsMade a_turnsTaken a_pushedOut a_accepted a_lastWords a_usedList a_usedCount a_knownList a_knownCount a_storePublic a_storeNumber a_storeKey a_storeCount := by
  have hin : vp_in (nI w) 2 := vp_in_nI hw (by decide)
  unfold wX_send_34
  refine br_t rfl (qx_slotS hs hz hj (br_t (nI_pos' (by omega)) (And.intro hin ?_)))
  rw [nI_clamp (n := w) (by omega)]
  exact br_f (by rw [ht]; decide) (qx_makeTurn hw hx euc huc etm epp hpp hp)
end
end
section
/-! send: the reference -/
section
variable {f_shared f_skipLimit f_storeLimit : Int32} {a_pool a_full a_state a_ownExponent a_word a_agreed a_agreedCount a_publics a_chain a_store a_size : Nat → Int32}
theorem qy_243 {post : Int32 → SY → Prop} {w s j ns : Nat} {word : Int32} (hw : w < 2) (hs : s < 16) (hj : j < 16) (ec : a_chain w = nI (j + 1)) (hn : ns ≤ 12) (en : a_state (w * 10 + 2) = nI ns) (hp : post (nI s) (f_shared, f_skipLimit, f_storeLimit, qf_wr a_pool s (a_state (w * 10)) (a_state (w * 10 + 4)) (nI ns) (word ^^^ qf_mix (qf_key (qf_start f_shared a_agreed w j) ns) 5) (1 - nI w) (qf_key (qf_start f_shared a_agreed w j) ns), upd a_full s 1, upd a_state (w * 10 + 2) (nI (ns + 1)), a_ownExponent, a_word, a_agreed, a_agreedCount, a_publics, a_chain, a_store, a_size)) : wY_send_243 post (nI w) word (nI (w * 10)) (nI s) f_shared f_skipLimit f_storeLimit a_pool a_full a_state a_ownExponent a_word a_agreed a_agreedCount a_publics a_chain a_store a_size := by
  have hin : vp_in (nI w) 4 := vp_in_nI (by omega) (by decide)
  have h0 : vp_in (nI (s * 6)) 96 := vp_in_nI (by omega) (by decide)
  have h1 : vp_in (nI (s * 6 + 1)) 96 := vp_in_nI (by omega) (by decide)
  have h2 : vp_in (nI (s * 6 + 2)) 96 := vp_in_nI (by omega) (by decide)
  have h3 : vp_in (nI (s * 6 + 3)) 96 := vp_in_nI (by omega) (by decide)
  have h4 : vp_in (nI (s * 6 + 4)) 96 := vp_in_nI (by omega) (by decide)
  have h5 : vp_in (nI (s * 6 + 5)) 96 := vp_in_nI (by omega) (by decide)
  have h16 : vp_in (nI s) 16 := vp_in_nI hs (by decide)
  have s0 : vp_in (nI (w * 10)) 20 := vp_in_nI (by omega) (by decide)
  have s2 : vp_in (nI (w * 10 + 2)) 20 := vp_in_nI (by omega) (by decide)
  have s4 : vp_in (nI (w * 10 + 4)) 20 := vp_in_nI (by omega) (by decide)
  unfold wY_send_243
  rw [nI_clamp (n := w) (by omega), ec]
  refine And.intro hin (qy_start hw hj ?_)
  rw [qf_a2 (w * 10), qf_a0 (w * 10), qf_a4 (w * 10), nI_clamp (n := w * 10) (by omega), nI_clamp (n := w * 10 + 2) (by omega), nI_clamp (n := w * 10 + 4) (by omega), en]
  refine And.intro s2 (qy_key hn (qy_mix (nm_r (qf_m6 s) ?_)))
  rw [qf_a1 (s * 6), qf_a2 (s * 6), qf_a3, qf_a4 (s * 6), qf_a5, nI_clamp (n := s * 6) (by omega), nI_clamp (n := s * 6 + 1) (by omega), nI_clamp (n := s * 6 + 2) (by omega), nI_clamp (n := s * 6 + 3) (by omega), nI_clamp (n := s * 6 + 4) (by omega), nI_clamp (n := s * 6 + 5) (by omega), nI_clamp (n := s) (by omega)]
  exact And.intro h16 (nm_e (And.intro s0 (And.intro h0 (nm_e (And.intro s4 (And.intro h1 (nm_e (And.intro s2 (And.intro h2 (nm_e (And.intro h3 (nm_e (And.intro h5 (nm_e (qy_tag hs (And.intro h4 (nm_e (And.intro s2 (And.intro s2 (nm_r (by rw [qf_a1]) hp))))))))))))))))))))
theorem qy_send_e {post : Int32 → SY → Prop} {y word x : Int32} (h0 : ¬ y = 0) (h1 : ¬ y = 1) (hp : post (-8) (f_shared, f_skipLimit, f_storeLimit, a_pool, a_full, a_state, a_ownExponent, a_word, a_agreed, a_agreedCount, a_publics, a_chain, a_store, a_size)) : wpY_send post (f_shared, f_skipLimit, f_storeLimit, a_pool, a_full, a_state, a_ownExponent, a_word, a_agreed, a_agreedCount, a_publics, a_chain, a_store, a_size) y word x := by
  unfold wpY_send
  dsimp only
  exact qy_nep h0 h1 (br_t rfl hp)
theorem qy_send0 {post : Int32 → SY → Prop} {w ns : Nat} {word x : Int32} (hw : w < 2) (ht : a_state (w * 10 + 5) = 0) (hn : ns ≤ 12) (en : a_state (w * 10 + 2) = nI ns) (H0 : a_chain w = 0 → post (-9) (f_shared, f_skipLimit, f_storeLimit, a_pool, a_full, a_state, a_ownExponent, a_word, a_agreed, a_agreedCount, a_publics, a_chain, a_store, a_size)) (H1 : ¬ a_chain w = 0 → ns = 12 → post (-11) (f_shared, f_skipLimit, f_storeLimit, a_pool, a_full, a_state, a_ownExponent, a_word, a_agreed, a_agreedCount, a_publics, a_chain, a_store, a_size)) (H2 : ¬ a_chain w = 0 → ns < 12 → wY_send_163 post (nI w) word x (nI (w * 10)) 0 (a_state (w * 10)) f_shared f_skipLimit f_storeLimit a_pool a_full a_state a_ownExponent a_word a_agreed a_agreedCount a_publics a_chain a_store a_size) : wpY_send post (f_shared, f_skipLimit, f_storeLimit, a_pool, a_full, a_state, a_ownExponent, a_word, a_agreed, a_agreedCount, a_publics, a_chain, a_store, a_size) (nI w) word x := by
  have hin : vp_in (nI w) 4 := vp_in_nI (by omega) (by decide)
  have s0 : vp_in (nI (w * 10)) 20 := vp_in_nI (by omega) (by decide)
  have s2 : vp_in (nI (w * 10 + 2)) 20 := vp_in_nI (by omega) (by decide)
  have s5 : vp_in (nI (w * 10 + 5)) 20 := vp_in_nI (by omega) (by decide)
  unfold wpY_send
  dsimp only
  refine qy_ep hw (br_f (by decide) (nm_r (qf_m10 w) ?_))
  rw [qf_a5, nI_clamp (by omega)]
  refine And.intro s5 (br_f (by rw [ht]; decide) ?_)
  unfold wY_send_35
  rw [nI_clamp (n := w) (by omega)]
  refine br_t rfl (And.intro hin (br_c H0 (fun h => ?_)))
  unfold wY_send_54 wY_send_77 wY_send_97
  rw [qf_a0, nI_clamp (n := w * 10) (by omega)]
  refine br_t rfl (br_t rfl (br_t rfl (And.intro s0 ?_)))
  unfold wY_send_121 wY_send_141
  rw [qf_a2, nI_clamp (n := w * 10 + 2) (by omega), en]
  exact br_t rfl (br_t rfl (And.intro s2 (pk_eq ns 12 (fun q => H1 h q) (fun q => H2 h (by omega)))))
theorem qy_send1 {post : Int32 → SY → Prop} {w tm : Nat} {word x : Int32} (hw : w < 2) (ht : a_state (w * 10 + 5) = 1) (hm : tm ≤ 8) (em : a_state (w * 10 + 6) = nI tm) (H0 : tm = 8 → post (-7) (f_shared, f_skipLimit, f_storeLimit, a_pool, a_full, a_state, a_ownExponent, a_word, a_agreed, a_agreedCount, a_publics, a_chain, a_store, a_size)) (H1 : tm < 8 → (x < 1 ∨ ¬ x ≤ 1023) → post (-10) (f_shared, f_skipLimit, f_storeLimit, a_pool, a_full, a_state, a_ownExponent, a_word, a_agreed, a_agreedCount, a_publics, a_chain, a_store, a_size)) (H2 : tm < 8 → ∀ n, 1 ≤ n → n ≤ 1023 → x = nI n → (nI (7 ^ n % 2147483647) ≠ 0 ∧ ∃ j, j < 17 ∧ a_publics (w * 17 + j) = nI (7 ^ n % 2147483647)) → post (-10) (f_shared, f_skipLimit, f_storeLimit, a_pool, a_full, a_state, a_ownExponent, a_word, a_agreed, a_agreedCount, a_publics, a_chain, a_store, a_size)) (H3 : tm < 8 → ∀ n, 1 ≤ n → n ≤ 1023 → x = nI n → ¬ (nI (7 ^ n % 2147483647) ≠ 0 ∧ ∃ j, j < 17 ∧ a_publics (w * 17 + j) = nI (7 ^ n % 2147483647)) → wY_send_163 post (nI w) word x (nI (w * 10)) 1 (nI (7 ^ n % 2147483647)) f_shared f_skipLimit f_storeLimit a_pool a_full a_state a_ownExponent a_word a_agreed a_agreedCount a_publics a_chain a_store a_size) : wpY_send post (f_shared, f_skipLimit, f_storeLimit, a_pool, a_full, a_state, a_ownExponent, a_word, a_agreed, a_agreedCount, a_publics, a_chain, a_store, a_size) (nI w) word x := by
  have s5 : vp_in (nI (w * 10 + 5)) 20 := vp_in_nI (by omega) (by decide)
  have s6 : vp_in (nI (w * 10 + 6)) 20 := vp_in_nI (by omega) (by decide)
  unfold wpY_send
  dsimp only
  refine qy_ep hw (br_f (by decide) (nm_r (qf_m10 w) ?_))
  rw [qf_a5, nI_clamp (by omega)]
  refine And.intro s5 (br_t ht ?_)
  unfold wY_send_35
  refine br_f (by decide) ?_
  unfold wY_send_54
  rw [qf_a6, nI_clamp (n := w * 10 + 6) (by omega), em]
  refine br_f (by decide) (And.intro s6 (pk_eq tm 8 (fun q => H0 q) (fun q => ?_)))
  have q' : tm < 8 := by omega
  unfold wY_send_77
  refine br_f (by decide) (br_c (fun h => H1 q' (Or.inl h)) (fun h => br_c (fun h2 => ?_) (fun h2 => H1 q' (Or.inr h2))))
  obtain ⟨n, hn1, hn2, hn3⟩ := qf_rng (x := x) 1 1023 h (Int32.not_lt.mpr h2) (by omega) (by omega)
  have H2' := H2 q' n hn1 hn2 hn3
  have H3' := H3 q' n hn1 hn2 hn3
  subst hn3
  unfold wY_send_97
  refine br_f (by decide) (qy_pow (b := 7) (by omega) (by omega) ?_)
  unfold wY_send_121 wY_send_141
  exact br_f (by decide) (qy_isIn (by omega) (fun C => br_f (by decide) (H2' C)) (fun C => br_t rfl (br_f (by decide) (H3' C))))
theorem qy_163n {post : Int32 → SY → Prop} {w : Nat} {word x x4 x5 x6 : Int32} (hj : ∀ j, j < 16 → ¬ a_full j = 0) (hp : post (-12) (f_shared, f_skipLimit, f_storeLimit, a_pool, a_full, a_state, a_ownExponent, a_word, a_agreed, a_agreedCount, a_publics, a_chain, a_store, a_size)) : wY_send_163 post (nI w) word x x4 x5 x6 f_shared f_skipLimit f_storeLimit a_pool a_full a_state a_ownExponent a_word a_agreed a_agreedCount a_publics a_chain a_store a_size := by
  unfold wY_send_163
  exact qy_slotN hj (br_f (by decide) hp)
theorem qy_163a {post : Int32 → SY → Prop} {w s : Nat} {word x x6 : Int32} (hs : s < 16) (hz : a_full s = 0) (hj : ∀ j, j < s → ¬ a_full j = 0) (hp : wY_send_243 post (nI w) word (nI (w * 10)) (nI s) f_shared f_skipLimit f_storeLimit a_pool a_full a_state a_ownExponent a_word a_agreed a_agreedCount a_publics a_chain a_store a_size) : wY_send_163 post (nI w) word x (nI (w * 10)) 0 x6 f_shared f_skipLimit f_storeLimit a_pool a_full a_state a_ownExponent a_word a_agreed a_agreedCount a_publics a_chain a_store a_size := by
  unfold wY_send_163
  exact qy_slotS hs hz hj (br_t (nI_pos' (by omega)) (br_t rfl hp))
theorem qy_163b {post : Int32 → SY → Prop} {w s x ac pp : Nat} {word pub : Int32} (hw : w < 2) (hs : s < 16) (hz : a_full s = 0) (hj : ∀ j, j < s → ¬ a_full j = 0) (hx : x ≤ 1023) (ea : a_agreedCount w = nI ac) (hac : ac < 16) (epp : a_state (w * 10 + 1) = nI pp) (hpp : pp < 2147483647) (hp : wY_send_243 post (nI w) word (nI (w * 10)) (nI s) f_shared f_skipLimit f_storeLimit a_pool a_full (upd (upd (upd (upd (upd a_state (w * 10 + 4) (a_state (w * 10 + 2))) (w * 10 + 2) 0) (w * 10) pub) (w * 10 + 6) (a_state (w * 10 + 6) + 1)) (w * 10 + 5) 0) (upd a_ownExponent w (nI x)) a_word (upd a_agreed (w * 16 + ac) (nI (pp ^ x % 2147483647))) (upd a_agreedCount w (nI (ac + 1))) (upd a_publics (w * 17 + (ac + 1)) pub) (upd a_chain w (nI (ac + 1))) a_store a_size) : wY_send_163 post (nI w) word (nI x) (nI (w * 10)) 1 pub f_shared f_skipLimit f_storeLimit a_pool a_full a_state a_ownExponent a_word a_agreed a_agreedCount a_publics a_chain a_store a_size := by
  have hin : vp_in (nI w) 2 := vp_in_nI hw (by decide)
  have s1 : vp_in (nI (w * 10 + 1)) 20 := vp_in_nI (by omega) (by decide)
  have s2 : vp_in (nI (w * 10 + 2)) 20 := vp_in_nI (by omega) (by decide)
  have s4 : vp_in (nI (w * 10 + 4)) 20 := vp_in_nI (by omega) (by decide)
  unfold wY_send_163
  refine qy_slotS hs hz hj (br_t (nI_pos' (by omega)) (br_f (by decide) ?_))
  rw [qf_a1 (w * 10), qf_a2 (w * 10), qf_a4 (w * 10), nI_clamp (n := w * 10 + 1) (by omega), nI_clamp (n := w * 10 + 2) (by omega), nI_clamp (n := w * 10 + 4) (by omega), nI_clamp (n := w) (by omega)]
  refine And.intro s2 (And.intro s4 (nm_e (And.intro s2 (nm_e (And.intro hin (nm_e (And.intro s1 ?_)))))))
  rw [pk_un (by omega), pk_un (by omega), epp]
  refine qy_pow hpp (by omega) (qy_open0 hw ea hac ?_)
  dsimp only
  rw [pk_un (j := w * 10 + 6) (k := w * 10 + 2) (by omega), pk_un (j := w * 10 + 6) (k := w * 10 + 4) (by omega)]
  exact hp
end
end
section
/-! send -/
theorem qf_1w {w : Nat} (hw : w < 2) : (1 : Int32) - nI w = nI (1 - w) := by
  have e : w = 0 ∨ w = 1 := by omega
  rcases e with rfl | rfl <;> decide
theorem qf_badx {x : Int32} {n : Nat} (h : x < 1 ∨ ¬ x ≤ 1023) (h1 : 1 ≤ n) (h2 : n ≤ 1023) (e : x = nI n) : False := by
  subst e
  rcases h with h | h
  · exact nI_nlt (b := 1) h1 (by omega) h
  · exact h (nI_le (b := 1023) h2 (by omega))
section
variable {f_skipLimit f_storeLimit : Int32} {a_pool a_filled a_accepted a_lastWords : Nat → Int32} {f_shared : Int32} {a_root a_sendChain a_recvChain a_hasSend a_hasRecv a_ownExponent a_ownPublic a_peerPublic a_sentCount a_recvNext a_prevLength a_turnDue a_turnsMade a_turnsTaken a_pushedOut a_usedList a_usedCount a_knownList a_knownCount a_storePublic a_storeNumber a_storeKey a_storeCount a_state a_agreed a_agreedCount a_publics a_chain a_store : Nat → Int32}
theorem qj_wm {k lim w s ns nr tm tt sc ex pp : Nat} {wd : Int32} (G : qr_G lim f_skipLimit f_storeLimit a_pool) (A : qr_A a_accepted a_state) (hw : w < 2) (R : qr_R lim f_shared a_root a_sendChain a_recvChain a_hasSend a_hasRecv a_ownExponent a_ownPublic a_peerPublic a_sentCount a_recvNext a_prevLength a_turnDue a_turnsMade a_turnsTaken a_pushedOut a_usedList a_usedCount a_knownList a_knownCount a_storePublic a_storeNumber a_storeKey a_storeCount a_state a_agreed a_agreedCount a_publics a_chain a_store) (F : qr_F lim w ns nr tm tt sc ex pp f_shared a_root a_sendChain a_recvChain a_hasSend a_hasRecv a_ownExponent a_ownPublic a_peerPublic a_sentCount a_recvNext a_prevLength a_turnDue a_turnsMade a_turnsTaken a_pushedOut a_usedList a_usedCount a_knownList a_knownCount a_storePublic a_storeNumber a_storeKey a_storeCount a_state a_agreed a_agreedCount a_publics a_chain a_store) (hs : s < 16) (hn : ns < 12) (hh : ¬ a_hasSend w = 0) :
    ∃ u' v', i_Rel k u' v' ∧ (∀ post : Int32 → SX → Prop, post (nI s) u' → wX_send_74 post (nI w) wd (nI s) f_skipLimit f_storeLimit a_pool a_filled a_root a_sendChain a_recvChain a_hasSend a_hasRecv a_ownExponent a_ownPublic a_peerPublic a_sentCount a_recvNext a_prevLength a_turnDue a_turnsMade a_turnsTaken a_pushedOut a_accepted a_lastWords a_usedList a_usedCount a_knownList a_knownCount a_storePublic a_storeNumber a_storeKey a_storeCount) ∧ (∀ post : Int32 → SY → Prop, post (nI s) v' → wY_send_243 post (nI w) wd (nI (w * 10)) (nI s) f_shared f_skipLimit f_storeLimit a_pool a_filled a_state a_ownExponent a_lastWords a_agreed a_agreedCount a_publics a_chain a_store a_storeCount) := by
  have hl : lim ≤ 12 := G.2.2.1
  have R2 := qo_msg hl hw R F hn
  obtain ⟨⟨b1, b2, b3, b4, b5, b6, b7⟩, ⟨w1, w2, w3, w4, w5, w6, w7, w8, w9, w10, w11⟩, ⟨p0, p1, p2, p3, p4, p5, p6, p7, p8⟩, hR, hS, hC, hU, hK, hT⟩ := F
  rcases hS with ⟨h1, h2⟩ | ⟨j, hj, h1, h2, h3⟩
  · exact absurd h1 hh
  have ek : qf_mix (a_sendChain w) 3 = qf_key (qf_start f_shared a_agreed w j) ns := by rw [h3]; rfl
  refine ⟨(f_skipLimit, f_storeLimit, qf_wr a_pool s (a_ownPublic w) (a_prevLength w) (nI ns) (wd ^^^ qf_mix (qf_key (qf_start f_shared a_agreed w j) ns) 5) (1 - nI w) (qf_key (qf_start f_shared a_agreed w j) ns), upd a_filled s 1, a_root, upd a_sendChain w (qf_mix (a_sendChain w) 4), a_recvChain, a_hasSend, a_hasRecv, a_ownExponent, a_ownPublic, a_peerPublic, upd a_sentCount w (nI (ns + 1)), a_recvNext, a_prevLength, a_turnDue, a_turnsMade, a_turnsTaken, a_pushedOut, a_accepted, a_lastWords, a_usedList, a_usedCount, a_knownList, a_knownCount, a_storePublic, a_storeNumber, a_storeKey, a_storeCount), (f_shared, f_skipLimit, f_storeLimit, qf_wr a_pool s (a_ownPublic w) (a_prevLength w) (nI ns) (wd ^^^ qf_mix (qf_key (qf_start f_shared a_agreed w j) ns) 5) (1 - nI w) (qf_key (qf_start f_shared a_agreed w j) ns), upd a_filled s 1, upd a_state (w * 10 + 2) (nI (ns + 1)), a_ownExponent, a_lastWords, a_agreed, a_agreedCount, a_publics, a_chain, a_store, a_storeCount), qr_in (lim := lim) ?_ ?_ R2, fun post h => ?_, fun post h => ?_⟩
  · obtain ⟨g1, g2, g3, g4, g5⟩ := G
    refine ⟨g1, g2, g3, g4, fun q hq => ?_⟩
    rw [qf_wr_5]
    by_cases e : q = s
    · rw [if_pos e, qf_1w hw]
      exact ⟨1 - w, by omega, rfl⟩
    · rw [if_neg e]
      exact g5 q hq
  · intro w' hw'
    rw [pk_un (by omega)]
    exact A w' hw'
  · unfold wX_send_74
    refine qx_wm hw hs ?_
    dsimp only
    rw [ek, w1, qf_a1]
    exact h
  · refine qy_243 hw hs (by omega) h2 (by omega) (p2.trans w1) ?_
    rw [p0, p4]
    exact h
end
theorem i_vc_send {k : Nat} {u : SX} {v : SY} (I : i_Rel k u v) (hk : k + 4 ≤ 2052) (v1 : Int32) (v2 : Int32) (v3 : Int32) : wpX_send (fun r u' => wpY_send (fun r' v' => r' = r ∧ i_Rel (k + 4) u' v') v v1 v2 v3) u v1 v2 v3 := by
  refine qr_el (P := fun u v => wpX_send (fun r u' => wpY_send (fun r' v' => r' = r ∧ i_Rel (k + 4) u' v') v v1 v2 v3) u v1 v2 v3) I ?_
  intro f_skipLimit f_storeLimit f_shared a_pool a_filled a_root a_sendChain a_recvChain a_hasSend a_hasRecv a_ownExponent a_ownPublic a_peerPublic a_sentCount a_recvNext a_prevLength a_turnDue a_turnsMade a_turnsTaken a_pushedOut a_accepted a_lastWords a_usedList a_usedCount a_knownList a_knownCount a_storePublic a_storeNumber a_storeKey a_storeCount a_state a_agreed a_agreedCount a_publics a_chain a_store lim G A R
  have J : i_Rel (k + 4) (f_skipLimit, f_storeLimit, a_pool, a_filled, a_root, a_sendChain, a_recvChain, a_hasSend, a_hasRecv, a_ownExponent, a_ownPublic, a_peerPublic, a_sentCount, a_recvNext, a_prevLength, a_turnDue, a_turnsMade, a_turnsTaken, a_pushedOut, a_accepted, a_lastWords, a_usedList, a_usedCount, a_knownList, a_knownCount, a_storePublic, a_storeNumber, a_storeKey, a_storeCount) (f_shared, f_skipLimit, f_storeLimit, a_pool, a_filled, a_state, a_ownExponent, a_lastWords, a_agreed, a_agreedCount, a_publics, a_chain, a_store, a_storeCount) := qr_in G A R
  have hl : lim ≤ 12 := G.2.2.1
  rcases qf_ep v1 with ⟨w, hw, rfl⟩ | ⟨h0, h1⟩
  · obtain ⟨ns, nr, tm, tt, sc, ex, pp, F⟩ := R w hw
    have F0 := F
    obtain ⟨⟨b1, b2, b3, b4, b5, b6, b7⟩, ⟨w1, w2, w3, w4, w5, w6, w7, w8, w9, w10, w11⟩, ⟨p0, p1, p2, p3, p4, p5, p6, p7, p8⟩, hR, hS, hC, hU, hK, hT⟩ := F
    rcases w11 with e | e
    · refine qx_send0 hw e b1 w1 (fun h => ?_) (fun h hn => ?_) (fun h hn => ?_)
      · have hc : a_chain w = 0 := by
          rcases hS with ⟨_, h2⟩ | ⟨j, hj, h1, _⟩
          · exact h2
          · rw [h1] at h; exact absurd h (by decide)
        exact qy_send0 hw (p5.trans e) b1 (p2.trans w1) (fun _ => ⟨rfl, J⟩) (fun c _ => absurd hc c) (fun c _ => absurd hc c)
      · have hc : ¬ a_chain w = 0 := by
          rcases hS with ⟨h1, _⟩ | ⟨j, hj, _, h2, _⟩
          · exact absurd h1 h
          · rw [h2]; exact nI_ne0 (by omega) (by omega)
        exact qy_send0 hw (p5.trans e) b1 (p2.trans w1) (fun c => absurd c hc) (fun _ _ => ⟨rfl, J⟩) (fun _ q => absurd q (by omega))
      · have hc : ¬ a_chain w = 0 := by
          rcases hS with ⟨h1, _⟩ | ⟨j, hj, _, h2, _⟩
          · exact absurd h1 h
          · rw [h2]; exact nI_ne0 (by omega) (by omega)
        rcases qr_slot a_filled 16 with ⟨s, hs, hz, hj⟩ | hj
        · obtain ⟨u', v', I', hX, hY⟩ := qj_wm (k := k + 4) (wd := v2) (a_filled := a_filled) (a_lastWords := a_lastWords) G A hw R F0 hs hn h
          exact qx_send34a hw hs hz hj e (hX _ (qy_send0 hw (p5.trans e) b1 (p2.trans w1) (fun c => absurd c hc) (fun _ q => absurd hn (by omega)) (fun _ _ => qy_163a hs hz hj (hY _ ⟨rfl, I'⟩))))
        · exact qx_send34n hj (qy_send0 hw (p5.trans e) b1 (p2.trans w1) (fun c => absurd c hc) (fun _ q => absurd hn (by omega)) (fun _ _ => qy_163n hj ⟨rfl, J⟩))
    · refine qx_send1 hw e b3 w3 (by omega) w8 (fun q => ?_) (fun q h => ?_) (fun q n hn1 hn2 en C => ?_) (fun q n hn1 hn2 en C => ?_)
      · exact qy_send1 hw (p5.trans e) b3 (p6.trans w3) (fun _ => ⟨rfl, J⟩) (fun q2 => absurd q2 (by omega)) (fun q2 => absurd q2 (by omega)) (fun q2 => absurd q2 (by omega))
      · exact qy_send1 hw (p5.trans e) b3 (p6.trans w3) (fun q2 => absurd q2 (by omega)) (fun _ _ => ⟨rfl, J⟩) (fun _ n a b c => (qf_badx h a b c).elim) (fun _ n a b c => (qf_badx h a b c).elim)
      · subst en
        refine qy_send1 hw (p5.trans e) b3 (p6.trans w3) (fun q2 => absurd q2 (by omega)) (fun _ h => (qf_badx h hn1 hn2 rfl).elim) (fun _ _ _ _ _ _ => ⟨rfl, J⟩) (fun _ n' a b c D => ?_)
        obtain rfl : n = n' := (nI_eq (by omega) (by omega)).mp c
        exact absurd ((hU.1 _).mp C) D
      · subst en
        rcases qr_slot a_filled 16 with ⟨s, hs, hz, hj⟩ | hj
        · have R2 := qo_own (d := nI (pp ^ n % 2147483647)) hl hw R F0 q hn2 (qf_7n n)
          obtain ⟨ns2, nr2, tm2, tt2, sc2, ex2, pp2, F2⟩ := R2 w hw
          have e2 : ns2 = 0 := by
            have z : upd a_sentCount w 0 w = nI ns2 := F2.2.1.1
            rw [pk_us] at z
            have B : ns2 ≤ 12 := F2.1.1
            exact ((nI_eq (a := 0) (by omega) (by omega)).mp z).symm
          have A2 : qr_A a_accepted (upd (upd (upd (upd (upd a_state (w * 10 + 4) (a_state (w * 10 + 2))) (w * 10 + 2) 0) (w * 10) (nI (7 ^ n % 2147483647))) (w * 10 + 6) (a_state (w * 10 + 6) + 1)) (w * 10 + 5) 0) := by
            intro w' hw'
            rw [pk_un (by omega), pk_un (by omega), pk_un (by omega), pk_un (by omega), pk_un (by omega)]
            exact A w' hw'
          obtain ⟨u', v', I', hX, hY⟩ := qj_wm (k := k + 4) (wd := v2) (a_filled := a_filled) (a_lastWords := a_lastWords) G A2 hw R2 F2 hs (by omega) (by rw [pk_us]; decide)
          refine qx_send34b hw hs hz hj e hn2 w8 (by omega) w3 w7 b7 (hX _ ?_)
          refine qy_send1 hw (p5.trans e) b3 (p6.trans w3) (fun q2 => absurd q2 (by omega)) (fun _ h => (qf_badx h hn1 hn2 rfl).elim) (fun _ n' a b c D => ?_) (fun _ n' a b c D => ?_)
          · obtain rfl : n = n' := (nI_eq (by omega) (by omega)).mp c
            exact absurd ((hU.1 _).mpr D) C
          · obtain rfl : n = n' := (nI_eq (by omega) (by omega)).mp c
            exact qy_163b hw hs hz hj hn2 w10 (by omega) (p1.trans w7) b7 (hY _ ⟨rfl, I'⟩)
        · refine qx_send34n hj ?_
          refine qy_send1 hw (p5.trans e) b3 (p6.trans w3) (fun q2 => absurd q2 (by omega)) (fun _ h => (qf_badx h hn1 hn2 rfl).elim) (fun _ n' a b c D => ?_) (fun _ n' a b c D => ?_)
          · obtain rfl : n = n' := (nI_eq (by omega) (by omega)).mp c
            exact absurd ((hU.1 _).mpr D) C
          · exact qy_163n hj ⟨rfl, J⟩
  · exact qx_send_e h0 h1 (qy_send_e h0 h1 ⟨rfl, J⟩)
end
section
/-! judge: the component -/
def qr_bad (pub pn n : Int32) : Prop := pub < 1 ∨ 2147483646 < pub ∨ pn < 0 ∨ 12 < pn ∨ n < 0 ∨ ¬ n ≤ 11
theorem qr_good {pub pn n : Int32} (h : ¬ qr_bad pub pn n) : (∃ a, 1 ≤ a ∧ a < 2147483647 ∧ pub = nI a) ∧ (∃ b, b ≤ 12 ∧ pn = nI b) ∧ (∃ c, c ≤ 11 ∧ n = nI c) := by
  unfold qr_bad at h
  refine ⟨?_, ?_, ?_⟩
  · obtain ⟨j, h1, h2, h3⟩ := qf_rng (x := pub) 1 2147483646 (fun z => h (Or.inl z)) (fun z => h (Or.inr (Or.inl z))) (by omega) (by omega)
    exact ⟨j, h1, by omega, h3⟩
  · obtain ⟨j, h1, h2, h3⟩ := qf_rng (x := pn) 0 12 (fun z => h (Or.inr (Or.inr (Or.inl z)))) (fun z => h (Or.inr (Or.inr (Or.inr (Or.inl z))))) (by omega) (by omega)
    exact ⟨j, h2, h3⟩
  · obtain ⟨j, h1, h2, h3⟩ := qf_rng (x := n) 0 11 (fun z => h (Or.inr (Or.inr (Or.inr (Or.inr (Or.inl z)))))) (fun z => h (Or.inr (Or.inr (Or.inr (Or.inr (Or.inr (Int32.not_le.mpr z))))))) (by omega) (by omega)
    exact ⟨j, h2, h3⟩
section
variable {f_skipLimit f_storeLimit : Int32} {a_pool a_filled a_root a_sendChain a_recvChain a_hasSend a_hasRecv a_ownExponent a_ownPublic a_peerPublic a_sentCount a_recvNext a_prevLength a_turnDue a_turnsMade a_turnsTaken a_pushedOut a_accepted a_lastWords a_usedList a_usedCount a_knownList a_knownCount a_storePublic a_storeNumber a_storeKey a_storeCount : Nat → Int32}
theorem qx_header {post : Int32 → Prop} {s : Nat} (hs : s < 16) (h1 : qr_bad (a_pool (s * 6)) (a_pool (s * 6 + 1)) (a_pool (s * 6 + 2)) → post 1) (h0 : ¬ qr_bad (a_pool (s * 6)) (a_pool (s * 6 + 1)) (a_pool (s * 6 + 2)) → post 0) : wpX_hasBadHeader post (f_skipLimit, f_storeLimit, a_pool, a_filled, a_root, a_sendChain, a_recvChain, a_hasSend, a_hasRecv, a_ownExponent, a_ownPublic, a_peerPublic, a_sentCount, a_recvNext, a_prevLength, a_turnDue, a_turnsMade, a_turnsTaken, a_pushedOut, a_accepted, a_lastWords, a_usedList, a_usedCount, a_knownList, a_knownCount, a_storePublic, a_storeNumber, a_storeKey, a_storeCount) (nI s) := by
  have i0 : vp_in (nI (s * 6)) 96 := vp_in_nI (by omega) (by decide)
  have i1 : vp_in (nI (s * 6 + 1)) 96 := vp_in_nI (by omega) (by decide)
  have i2 : vp_in (nI (s * 6 + 2)) 96 := vp_in_nI (by omega) (by decide)
  unfold wpX_hasBadHeader
  dsimp only
  rw [qf_m6, qf_a1, qf_a2, nI_clamp (n := s * 6) (by omega), nI_clamp (n := s * 6 + 1) (by omega), nI_clamp (n := s * 6 + 2) (by omega)]
  refine And.intro i0 (nm_e (And.intro i1 (nm_e (And.intro i2 (nm_e ?_)))))
  refine br_c (fun z => h1 (Or.inl z)) (fun z1 => br_c (fun z => h1 (Or.inr (Or.inl z))) (fun z2 => br_c (fun z => h1 (Or.inr (Or.inr (Or.inl z)))) (fun z3 => br_c (fun z => h1 (Or.inr (Or.inr (Or.inr (Or.inl z))))) (fun z4 => br_c (fun z => h1 (Or.inr (Or.inr (Or.inr (Or.inr (Or.inl z)))))) (fun z5 => br_c (fun z6 => h0 ?_) (fun z => h1 (Or.inr (Or.inr (Or.inr (Or.inr (Or.inr z))))))))))) 
  rintro (z | z | z | z | z | z)
  · exact z1 z
  · exact z2 z
  · exact z3 z
  · exact z4 z
  · exact z5 z
  · exact z z6
theorem qx_judgeTag {post : Int32 → Prop} {s : Nat} {key : Int32} (hs : s < 16) (h1 : a_pool (s * 6 + 4) = qf_tag key a_pool s → post 1) (h0 : ¬ a_pool (s * 6 + 4) = qf_tag key a_pool s → post (-3)) : wpX_judgeTag post (f_skipLimit, f_storeLimit, a_pool, a_filled, a_root, a_sendChain, a_recvChain, a_hasSend, a_hasRecv, a_ownExponent, a_ownPublic, a_peerPublic, a_sentCount, a_recvNext, a_prevLength, a_turnDue, a_turnsMade, a_turnsTaken, a_pushedOut, a_accepted, a_lastWords, a_usedList, a_usedCount, a_knownList, a_knownCount, a_storePublic, a_storeNumber, a_storeKey, a_storeCount) (nI s) key := by
  unfold wpX_judgeTag
  dsimp only
  rw [qf_m6, qf_a4, nI_clamp (by omega)]
  exact qx_tag hs (And.intro (vp_in_nI (by omega) (by decide)) (br_c h1 h0))
theorem qx_inRecv {post : Int32 → Prop} {w : Nat} {pub : Int32} (hw : w < 2) (h1 : ¬ a_hasRecv w = 0 → pub = a_peerPublic w → post 1) (h0 : (a_hasRecv w = 0 ∨ ¬ pub = a_peerPublic w) → post 0) : wpX_inReceivingChain post (f_skipLimit, f_storeLimit, a_pool, a_filled, a_root, a_sendChain, a_recvChain, a_hasSend, a_hasRecv, a_ownExponent, a_ownPublic, a_peerPublic, a_sentCount, a_recvNext, a_prevLength, a_turnDue, a_turnsMade, a_turnsTaken, a_pushedOut, a_accepted, a_lastWords, a_usedList, a_usedCount, a_knownList, a_knownCount, a_storePublic, a_storeNumber, a_storeKey, a_storeCount) (nI w) pub := by
  have hin : vp_in (nI w) 2 := vp_in_nI hw (by decide)
  unfold wpX_inReceivingChain
  dsimp only
  rw [nI_clamp (n := w) (by omega)]
  exact And.intro hin (br_c (fun z => h0 (Or.inl z)) (fun z => And.intro hin (br_c (fun y => h1 z y) (fun y => h0 (Or.inr y)))))
theorem qx_jRecv {post : Int32 → Prop} {w s n nr sk : Nat} (hw : w < 2) (hs : s < 16) (hn : n ≤ 11) (en : a_pool (s * 6 + 2) = nI n) (hr : nr ≤ 12) (er : a_recvNext w = nI nr) (ek : f_skipLimit = nI sk) (hk : sk ≤ 8) (H0 : n < nr → post (-4)) (H1 : nr ≤ n → sk < n - nr → post (-5)) (H2 : nr ≤ n → n - nr ≤ sk → a_pool (s * 6 + 4) = qf_tag (qf_mix (qf_it (a_recvChain w) (n - nr)) 3) a_pool s → post 1) (H3 : nr ≤ n → n - nr ≤ sk → ¬ a_pool (s * 6 + 4) = qf_tag (qf_mix (qf_it (a_recvChain w) (n - nr)) 3) a_pool s → post (-3)) : wpX_judgeReceivingChain post (f_skipLimit, f_storeLimit, a_pool, a_filled, a_root, a_sendChain, a_recvChain, a_hasSend, a_hasRecv, a_ownExponent, a_ownPublic, a_peerPublic, a_sentCount, a_recvNext, a_prevLength, a_turnDue, a_turnsMade, a_turnsTaken, a_pushedOut, a_accepted, a_lastWords, a_usedList, a_usedCount, a_knownList, a_knownCount, a_storePublic, a_storeNumber, a_storeKey, a_storeCount) (nI w) (nI s) := by
  have hin : vp_in (nI w) 2 := vp_in_nI hw (by decide)
  unfold wpX_judgeReceivingChain
  dsimp only
  rw [qf_m6, qf_a2, nI_clamp (n := s * 6 + 2) (by omega), nI_clamp (n := w) (by omega), en, er]
  refine And.intro (vp_in_nI (by omega) (by decide)) (And.intro hin ?_)
  by_cases q : nr ≤ n
  · refine nm_r (pk_sub q) (br_t (nI_pos' (by omega)) ?_)
    by_cases q2 : n - nr ≤ sk
    · exact br_t (by rw [ek]; exact nI_le q2 (by omega)) (And.intro hin (qx_ahead (by omega) (qx_judgeTag hs (H2 q q2) (H3 q q2))))
    · exact br_f (by rw [ek]; exact nI_ge (by omega) (by omega)) (H1 q (by omega))
  · exact nm_e (br_f (Int32.not_le.mpr (pk_sneg (by omega) (by omega))) (H0 (by omega)))
theorem qx_jPeer {post : Int32 → Prop} {w s pn n nr tt kc sk : Nat} (hw : w < 2) (hs : s < 16) (hpn : pn ≤ 12) (epn : a_pool (s * 6 + 1) = nI pn) (hn : n ≤ 11) (en : a_pool (s * 6 + 2) = nI n) (hr : nr ≤ 12) (er : a_recvNext w = nI nr) (ht : tt ≤ 8) (et : a_turnsTaken w = nI tt) (hc : kc ≤ 9) (ec : a_knownCount w = nI kc) (ek : f_skipLimit = nI sk) (hk : sk ≤ 8)
    (H0 : (∃ j, j < kc ∧ a_knownList (w * 9 + j) = a_pool (s * 6)) → post (-4))
    (H1 : ¬ (∃ j, j < kc ∧ a_knownList (w * 9 + j) = a_pool (s * 6)) → ¬ a_turnDue w = 0 → post (-6))
    (H2 : ¬ (∃ j, j < kc ∧ a_knownList (w * 9 + j) = a_pool (s * 6)) → a_turnDue w = 0 → tt = 8 → post (-7))
    (H3 : ¬ (∃ j, j < kc ∧ a_knownList (w * 9 + j) = a_pool (s * 6)) → a_turnDue w = 0 → tt < 8 → ¬ a_hasRecv w = 0 → pn < nr → post (-2))
    (H4 : ¬ (∃ j, j < kc ∧ a_knownList (w * 9 + j) = a_pool (s * 6)) → a_turnDue w = 0 → tt < 8 → ∀ r, (a_hasRecv w = 0 ∧ r = 0) ∨ (¬ a_hasRecv w = 0 ∧ nr ≤ pn ∧ r = pn - nr) → sk < n + r → post (-5))
    (H5 : ¬ (∃ j, j < kc ∧ a_knownList (w * 9 + j) = a_pool (s * 6)) → a_turnDue w = 0 → tt < 8 → ∀ r, (a_hasRecv w = 0 ∧ r = 0) ∨ (¬ a_hasRecv w = 0 ∧ nr ≤ pn ∧ r = pn - nr) → n + r ≤ sk → post 1) : wpX_judgePeerTurn post (f_skipLimit, f_storeLimit, a_pool, a_filled, a_root, a_sendChain, a_recvChain, a_hasSend, a_hasRecv, a_ownExponent, a_ownPublic, a_peerPublic, a_sentCount, a_recvNext, a_prevLength, a_turnDue, a_turnsMade, a_turnsTaken, a_pushedOut, a_accepted, a_lastWords, a_usedList, a_usedCount, a_knownList, a_knownCount, a_storePublic, a_storeNumber, a_storeKey, a_storeCount) (nI w) (nI s) := by
  have hin : vp_in (nI w) 2 := vp_in_nI hw (by decide)
  have h2 : vp_in (nI (s * 6 + 2)) 96 := vp_in_nI (by omega) (by decide)
  unfold wpX_judgePeerTurn wX_judgePeerTurn_77
  dsimp only
  rw [qf_m6, qf_a1, qf_a2, nI_clamp (n := s * 6) (by omega), nI_clamp (n := s * 6 + 1) (by omega), nI_clamp (n := s * 6 + 2) (by omega), nI_clamp (n := w) (by omega), en, epn, er, et]
  refine And.intro (vp_in_nI (by omega) (by decide)) (qx_knows hw hc ec (fun C => br_f (by decide) (H0 C)) (fun C => br_t rfl (And.intro hin (br_c (fun z => And.intro hin (pk_lt tt 8 (fun q => And.intro hin (br_c (fun y => ?_) (fun y => And.intro (vp_in_nI (by omega) (by decide)) (And.intro hin ?_)))) (fun q => H2 C z (by omega)))) (fun z => H1 C z)))))
  · refine br_t (by decide) (And.intro h2 ?_)
    rw [qf_a0]
    exact br_c (fun x => H5 C z q 0 (Or.inl ⟨y, rfl⟩) (by rw [ek, nI_leI (by omega) (by omega)] at x; omega)) (fun x => H4 C z q 0 (Or.inl ⟨y, rfl⟩) (by rw [ek, nI_leI (by omega) (by omega)] at x; omega))
  · by_cases p : nr ≤ pn
    · rw [pk_sub p]
      refine br_t (nI_pos' (by omega)) (And.intro h2 ?_)
      rw [nI_add]
      exact br_c (fun x => H5 C z q (pn - nr) (Or.inr ⟨y, p, rfl⟩) (by rw [ek, nI_leI (by omega) (by omega)] at x; omega)) (fun x => H4 C z q (pn - nr) (Or.inr ⟨y, p, rfl⟩) (by rw [ek, nI_leI (by omega) (by omega)] at x; omega))
    · exact br_f (Int32.not_le.mpr (pk_sneg (by omega) (by omega))) (H3 C z q y (by omega))
theorem qx_judge_e {post : Int32 → Prop} {x : Int32} (H : ∀ s, ¬ qr_hold a_filled x s) (h : post (-1)) : wpX_judge post (f_skipLimit, f_storeLimit, a_pool, a_filled, a_root, a_sendChain, a_recvChain, a_hasSend, a_hasRecv, a_ownExponent, a_ownPublic, a_peerPublic, a_sentCount, a_recvNext, a_prevLength, a_turnDue, a_turnsMade, a_turnsTaken, a_pushedOut, a_accepted, a_lastWords, a_usedList, a_usedCount, a_knownList, a_knownCount, a_storePublic, a_storeNumber, a_storeKey, a_storeCount) x := by
  unfold wpX_judge
  dsimp only
  exact qx_nhold H (br_t rfl h)
theorem qx_judge_b {post : Int32 → Prop} {x : Int32} {s : Nat} (H : qr_hold a_filled x s) (B : qr_bad (a_pool (s * 6)) (a_pool (s * 6 + 1)) (a_pool (s * 6 + 2))) (h : post (-2)) : wpX_judge post (f_skipLimit, f_storeLimit, a_pool, a_filled, a_root, a_sendChain, a_recvChain, a_hasSend, a_hasRecv, a_ownExponent, a_ownPublic, a_peerPublic, a_sentCount, a_recvNext, a_prevLength, a_turnDue, a_turnsMade, a_turnsTaken, a_pushedOut, a_accepted, a_lastWords, a_usedList, a_usedCount, a_knownList, a_knownCount, a_storePublic, a_storeNumber, a_storeKey, a_storeCount) x := by
  unfold wpX_judge
  dsimp only
  refine qx_hold H (br_f (by decide) ?_)
  obtain ⟨hs, rfl, _⟩ := H
  exact qx_header hs (fun _ => br_f (by decide) h) (fun z => absurd B z)
/-- behind the header -/
theorem qx_judge_h {post : Int32 → Prop} {x : Int32} {s w sc : Nat} (H : qr_hold a_filled x s) (B : ¬ qr_bad (a_pool (s * 6)) (a_pool (s * 6 + 1)) (a_pool (s * 6 + 2))) (hw : w < 2) (ew : a_pool (s * 6 + 5) = nI w) (hc : sc ≤ 12) (es : a_storeCount w = nI sc)
    (HS : ∀ e, qr_fd w sc a_storePublic a_storeNumber (a_pool (s * 6)) (a_pool (s * 6 + 2)) e → wpX_judgeTag post (f_skipLimit, f_storeLimit, a_pool, a_filled, a_root, a_sendChain, a_recvChain, a_hasSend, a_hasRecv, a_ownExponent, a_ownPublic, a_peerPublic, a_sentCount, a_recvNext, a_prevLength, a_turnDue, a_turnsMade, a_turnsTaken, a_pushedOut, a_accepted, a_lastWords, a_usedList, a_usedCount, a_knownList, a_knownCount, a_storePublic, a_storeNumber, a_storeKey, a_storeCount) (nI s) (a_storeKey (w * 12 + e)))
    (HR : qr_nf w sc a_storePublic a_storeNumber (a_pool (s * 6)) (a_pool (s * 6 + 2)) → ¬ a_hasRecv w = 0 → a_pool (s * 6) = a_peerPublic w → wpX_judgeReceivingChain post (f_skipLimit, f_storeLimit, a_pool, a_filled, a_root, a_sendChain, a_recvChain, a_hasSend, a_hasRecv, a_ownExponent, a_ownPublic, a_peerPublic, a_sentCount, a_recvNext, a_prevLength, a_turnDue, a_turnsMade, a_turnsTaken, a_pushedOut, a_accepted, a_lastWords, a_usedList, a_usedCount, a_knownList, a_knownCount, a_storePublic, a_storeNumber, a_storeKey, a_storeCount) (nI w) (nI s))
    (HN : qr_nf w sc a_storePublic a_storeNumber (a_pool (s * 6)) (a_pool (s * 6 + 2)) → (a_hasRecv w = 0 ∨ ¬ a_pool (s * 6) = a_peerPublic w) → wpX_judgeNewChain post (f_skipLimit, f_storeLimit, a_pool, a_filled, a_root, a_sendChain, a_recvChain, a_hasSend, a_hasRecv, a_ownExponent, a_ownPublic, a_peerPublic, a_sentCount, a_recvNext, a_prevLength, a_turnDue, a_turnsMade, a_turnsTaken, a_pushedOut, a_accepted, a_lastWords, a_usedList, a_usedCount, a_knownList, a_knownCount, a_storePublic, a_storeNumber, a_storeKey, a_storeCount) (nI w) (nI s)) : wpX_judge post (f_skipLimit, f_storeLimit, a_pool, a_filled, a_root, a_sendChain, a_recvChain, a_hasSend, a_hasRecv, a_ownExponent, a_ownPublic, a_peerPublic, a_sentCount, a_recvNext, a_prevLength, a_turnDue, a_turnsMade, a_turnsTaken, a_pushedOut, a_accepted, a_lastWords, a_usedList, a_usedCount, a_knownList, a_knownCount, a_storePublic, a_storeNumber, a_storeKey, a_storeCount) x := by
  unfold wpX_judge
  dsimp only
  refine qx_hold H (br_f (by decide) ?_)
  obtain ⟨hs, rfl, _⟩ := H
  refine qx_header hs (fun z => absurd z B) (fun _ => br_t rfl ?_)
  rw [qf_m6, qf_a5, qf_a2, nI_clamp (n := s * 6) (by omega), nI_clamp (n := s * 6 + 5) (by omega), nI_clamp (n := s * 6 + 2) (by omega), ew]
  refine And.intro (vp_in_nI (by omega) (by decide)) (nm_e (And.intro (vp_in_nI (by omega) (by decide)) (nm_e (And.intro (vp_in_nI (by omega) (by decide)) (nm_e ?_)))))
  rcases qr_fd_or w a_storePublic a_storeNumber (a_pool (s * 6)) (a_pool (s * 6 + 2)) sc with ⟨e, he⟩ | hn
  · refine qx_findS hw hc es he (br_f (nI_pos (by have := he.1; omega)) ?_)
    have := he.1
    rw [nI_clamp (by omega)]
    exact And.intro (vp_in_nI (by omega) (by decide)) (HS e he)
  · exact qx_findN hw hc es hn (br_t (by decide) (qx_inRecv hw (fun a b => br_f (by decide) (HR hn a b)) (fun a => br_t rfl (HN hn a))))
/-- a new chain: the refusal, or the key -/
theorem qx_jNew {post : Int32 → Prop} {w s pb n ex : Nat} {r : Int32} (hw : w < 2) (hs : s < 16) (hb : pb < 2147483647) (eb : a_pool (s * 6) = nI pb) (hn : n ≤ 11) (en : a_pool (s * 6 + 2) = nI n) (hx : ex ≤ 1023) (ee : a_ownExponent w = nI ex) (HP : ∀ q : Int32 → Prop, q r → wpX_judgePeerTurn q (f_skipLimit, f_storeLimit, a_pool, a_filled, a_root, a_sendChain, a_recvChain, a_hasSend, a_hasRecv, a_ownExponent, a_ownPublic, a_peerPublic, a_sentCount, a_recvNext, a_prevLength, a_turnDue, a_turnsMade, a_turnsTaken, a_pushedOut, a_accepted, a_lastWords, a_usedList, a_usedCount, a_knownList, a_knownCount, a_storePublic, a_storeNumber, a_storeKey, a_storeCount) (nI w) (nI s)) (H0 : ¬ r = 1 → post r) (H1 : r = 1 → a_pool (s * 6 + 4) = qf_tag (qf_key (qf_mix (a_root w) (nI (pb ^ ex % 2147483647))) n) a_pool s → post 1) (H2 : r = 1 → ¬ a_pool (s * 6 + 4) = qf_tag (qf_key (qf_mix (a_root w) (nI (pb ^ ex % 2147483647))) n) a_pool s → post (-3)) : wpX_judgeNewChain post (f_skipLimit, f_storeLimit, a_pool, a_filled, a_root, a_sendChain, a_recvChain, a_hasSend, a_hasRecv, a_ownExponent, a_ownPublic, a_peerPublic, a_sentCount, a_recvNext, a_prevLength, a_turnDue, a_turnsMade, a_turnsTaken, a_pushedOut, a_accepted, a_lastWords, a_usedList, a_usedCount, a_knownList, a_knownCount, a_storePublic, a_storeNumber, a_storeKey, a_storeCount) (nI w) (nI s) := by
  have hin : vp_in (nI w) 2 := vp_in_nI hw (by decide)
  have ei : qf_it (qf_mix (qf_mix (a_root w) (nI (pb ^ ex % 2147483647))) 2) n = qf_link (qf_mix (a_root w) (nI (pb ^ ex % 2147483647))) n := by
    have := qf_it_link (qf_mix (a_root w) (nI (pb ^ ex % 2147483647))) 0 n
    rw [Nat.zero_add] at this
    exact this
  unfold wpX_judgeNewChain
  dsimp only
  refine HP _ (br_c (fun z => ?_) (fun z => H0 z))
  rw [qf_m6, qf_a2, nI_clamp (n := s * 6) (by omega), nI_clamp (n := s * 6 + 2) (by omega), nI_clamp (n := w) (by omega), eb, en, ee]
  refine And.intro (vp_in_nI (by omega) (by decide)) (And.intro hin (qx_seed hw hb (by omega) (qx_mix (And.intro (vp_in_nI (by omega) (by decide)) (qx_ahead (by omega) ?_)))))
  rw [ei]
  exact qx_judgeTag hs (H1 z) (H2 z)
end
end
section
/-! judge: the reference -/
section
variable {f_shared f_skipLimit f_storeLimit : Int32} {a_pool a_full a_state a_ownExponent a_word a_agreed a_agreedCount a_publics a_chain a_store a_size : Nat → Int32} {a_storePublic a_storeNumber a_storeKey : Nat → Int32}
theorem qy_kf {post : Int32 → Prop} {s w : Nat} {r : Int32} (hs : s < 16) (hw : w < 2) (ew : a_pool (s * 6 + 5) = nI w) (HF : ∀ q : Int32 → Prop, q r → wpY_find q (f_shared, f_skipLimit, f_storeLimit, a_pool, a_full, a_state, a_ownExponent, a_word, a_agreed, a_agreedCount, a_publics, a_chain, a_store, a_size) (nI w) (a_pool (s * 6)) (a_pool (s * 6 + 2)))
    (HS : ¬ r < 0 → vp_in (((nI w * 36) + (r * 3)) + 2) 72 ∧ post (a_store (((nI w * 36) + (r * 3)) + 2).toNatClampNeg))
    (HR : r < 0 → ¬ a_chain (2 + w) ≤ 0 → a_pool (s * 6) = a_state (w * 10 + 1) → wpY_start (fun r_90 => wpY_key (fun r_105 => post r_105) (f_shared, f_skipLimit, f_storeLimit, a_pool, a_full, a_state, a_ownExponent, a_word, a_agreed, a_agreedCount, a_publics, a_chain, a_store, a_size) r_90 (a_pool (s * 6 + 2))) (f_shared, f_skipLimit, f_storeLimit, a_pool, a_full, a_state, a_ownExponent, a_word, a_agreed, a_agreedCount, a_publics, a_chain, a_store, a_size) (nI w) (a_chain (2 + w)))
    (HN : r < 0 → (a_chain (2 + w) ≤ 0 ∨ ¬ a_pool (s * 6) = a_state (w * 10 + 1)) → wY_keyFor_121 post (a_pool (s * 6)) (a_pool (s * 6 + 2)) (nI w) f_shared f_skipLimit f_storeLimit a_pool a_full a_state a_ownExponent a_word a_agreed a_agreedCount a_publics a_chain a_store a_size) : wpY_keyFor post (f_shared, f_skipLimit, f_storeLimit, a_pool, a_full, a_state, a_ownExponent, a_word, a_agreed, a_agreedCount, a_publics, a_chain, a_store, a_size) (nI s) := by
  have i4 : vp_in (nI (2 + w)) 4 := vp_in_nI (by omega) (by decide)
  unfold wpY_keyFor
  dsimp only
  rw [qf_m6, qf_a5, qf_a2, nI_clamp (n := s * 6) (by omega), nI_clamp (n := s * 6 + 5) (by omega), nI_clamp (n := s * 6 + 2) (by omega), ew]
  refine And.intro (vp_in_nI (by omega) (by decide)) (nm_e (And.intro (vp_in_nI (by omega) (by decide)) (nm_e (And.intro (vp_in_nI (by omega) (by decide)) (nm_e ?_)))))
  rw [qf_2p, qf_m10, qf_a1, nI_clamp (n := 2 + w) (by omega), nI_clamp (n := w * 10 + 1) (by omega)]
  exact HF _ (br_c (fun z => And.intro i4 (br_c (fun y => HN z (Or.inl y)) (fun y => And.intro (vp_in_nI (by omega) (by decide)) (br_c (fun x => And.intro i4 (HR z y x)) (fun x => HN z (Or.inr x)))))) HS)
theorem qy_kfS {post : Int32 → Prop} {s w sc e : Nat} (hs : s < 16) (hw : w < 2) (ew : a_pool (s * 6 + 5) = nI w) (hc : sc ≤ 12) (es : a_size w = nI sc) (T : qr_st w sc a_storePublic a_storeNumber a_storeKey a_store) (H : qr_fd w sc a_storePublic a_storeNumber (a_pool (s * 6)) (a_pool (s * 6 + 2)) e) (h : post (a_storeKey (w * 12 + e))) : wpY_keyFor post (f_shared, f_skipLimit, f_storeLimit, a_pool, a_full, a_state, a_ownExponent, a_word, a_agreed, a_agreedCount, a_publics, a_chain, a_store, a_size) (nI s) := by
  have he := H.1
  refine qy_kf (r := nI e) hs hw ew (fun q hq => qy_findS hw hc es T H hq) (fun _ => ?_) (fun z => absurd z (nI_pos (by omega))) (fun z => absurd z (nI_pos (by omega)))
  rw [qf_m36, qf_m3, nI_add, qf_a2, nI_clamp (by omega), (T e he).2.2]
  exact And.intro (vp_in_nI (by omega) (by decide)) h
theorem qy_kfR {post : Int32 → Prop} {s w sc j n : Nat} (hs : s < 16) (hw : w < 2) (ew : a_pool (s * 6 + 5) = nI w) (hc : sc ≤ 12) (es : a_size w = nI sc) (T : qr_st w sc a_storePublic a_storeNumber a_storeKey a_store) (H : qr_nf w sc a_storePublic a_storeNumber (a_pool (s * 6)) (a_pool (s * 6 + 2))) (hj : j < 16) (ec : a_chain (2 + w) = nI (j + 1)) (ep : a_pool (s * 6) = a_state (w * 10 + 1)) (hn : n ≤ 12) (en : a_pool (s * 6 + 2) = nI n) (h : post (qf_key (qf_start f_shared a_agreed w j) n)) : wpY_keyFor post (f_shared, f_skipLimit, f_storeLimit, a_pool, a_full, a_state, a_ownExponent, a_word, a_agreed, a_agreedCount, a_publics, a_chain, a_store, a_size) (nI s) := by
  refine qy_kf (r := -1) hs hw ew (fun q hq => qy_findN hw hc es T H hq) (fun z => absurd (by decide) z) (fun _ _ _ => ?_) (fun _ z => ?_)
  · rw [ec, en]
    exact qy_start hw hj (qy_key hn h)
  · rcases z with z | z
    · rw [ec] at z
      exact absurd z (nI_nle (by omega) (by omega))
    · exact absurd ep z
theorem qy_kfN {post : Int32 → Prop} {s w sc n pb ex ac : Nat} (hs : s < 16) (hw : w < 2) (ew : a_pool (s * 6 + 5) = nI w) (hc : sc ≤ 12) (es : a_size w = nI sc) (T : qr_st w sc a_storePublic a_storeNumber a_storeKey a_store) (H : qr_nf w sc a_storePublic a_storeNumber (a_pool (s * 6)) (a_pool (s * 6 + 2))) (hz : a_chain (2 + w) = 0 ∨ ¬ a_pool (s * 6) = a_state (w * 10 + 1)) (hb : pb < 2147483647) (eb : a_pool (s * 6) = nI pb) (hx : ex ≤ 1023) (ee : a_ownExponent w = nI ex) (ha : ac ≤ 16) (ea : a_agreedCount w = nI ac) (hn : n ≤ 12) (en : a_pool (s * 6 + 2) = nI n) (h : post (qf_key (qf_mix (qf_root f_shared a_agreed w ac) (nI (pb ^ ex % 2147483647))) n)) : wpY_keyFor post (f_shared, f_skipLimit, f_storeLimit, a_pool, a_full, a_state, a_ownExponent, a_word, a_agreed, a_agreedCount, a_publics, a_chain, a_store, a_size) (nI s) := by
  have hin : vp_in (nI w) 2 := vp_in_nI hw (by decide)
  refine qy_kf (r := -1) hs hw ew (fun q hq => qy_findN hw hc es T H hq) (fun z => absurd (by decide) z) (fun _ y z => ?_) (fun _ z => ?_)
  · rcases hz with q | q
    · rw [q] at y
      exact absurd (by decide) y
    · exact absurd z q
  · unfold wY_keyFor_121
    rw [nI_clamp (n := w) (by omega), ea, ee, eb, en]
    exact And.intro hin (qy_pow hb (by omega) (And.intro hin (qy_root hw ha (qy_mix (qy_key hn h)))))
theorem qy_286 {post : Int32 → Prop} {s : Nat} {key : Int32} (hs : s < 16) (HK : ∀ q : Int32 → Prop, q key → wpY_keyFor q (f_shared, f_skipLimit, f_storeLimit, a_pool, a_full, a_state, a_ownExponent, a_word, a_agreed, a_agreedCount, a_publics, a_chain, a_store, a_size) (nI s)) (h1 : a_pool (s * 6 + 4) = qf_tag key a_pool s → post 1) (h0 : ¬ a_pool (s * 6 + 4) = qf_tag key a_pool s → post (-3)) : wY_judge_286 post (nI s) (nI (s * 6)) f_shared f_skipLimit f_storeLimit a_pool a_full a_state a_ownExponent a_word a_agreed a_agreedCount a_publics a_chain a_store a_size := by
  unfold wY_judge_286
  rw [qf_a4, nI_clamp (n := s * 6 + 4) (by omega)]
  exact HK _ (qy_tag hs (And.intro (vp_in_nI (by omega) (by decide)) (br_c (fun z => h1 z.symm) (fun z => h0 fun y => z y.symm))))
theorem qy_judge_e {post : Int32 → Prop} {x : Int32} (H : ∀ s, ¬ qr_hold a_full x s) (h : post (-1)) : wpY_judge post (f_shared, f_skipLimit, f_storeLimit, a_pool, a_full, a_state, a_ownExponent, a_word, a_agreed, a_agreedCount, a_publics, a_chain, a_store, a_size) x := by
  unfold wpY_judge
  dsimp only
  exact qy_nhold H (br_t rfl h)
theorem qy_judge_b {post : Int32 → Prop} {x : Int32} {s : Nat} (H : qr_hold a_full x s) (B : qr_bad (a_pool (s * 6)) (a_pool (s * 6 + 1)) (a_pool (s * 6 + 2))) (h : post (-2)) : wpY_judge post (f_shared, f_skipLimit, f_storeLimit, a_pool, a_full, a_state, a_ownExponent, a_word, a_agreed, a_agreedCount, a_publics, a_chain, a_store, a_size) x := by
  unfold wpY_judge
  dsimp only
  refine qy_hold H (br_f (by decide) ?_)
  obtain ⟨hs, rfl, _⟩ := H
  refine nm_r (qf_m6 s) ?_
  rw [qf_a1 (s * 6), qf_a2 (s * 6), qf_a5 (s * 6), nI_clamp (n := s * 6) (by omega), nI_clamp (n := s * 6 + 1) (by omega), nI_clamp (n := s * 6 + 2) (by omega), nI_clamp (n := s * 6 + 5) (by omega)]
  refine And.intro (vp_in_nI (by omega) (by decide)) (nm_e (And.intro (vp_in_nI (by omega) (by decide)) (nm_e (And.intro (vp_in_nI (by omega) (by decide)) (nm_e (And.intro (vp_in_nI (by omega) (by decide)) (nm_e ?_)))))))
  refine br_c (fun _ => h) (fun z1 => br_c (fun _ => h) (fun z2 => br_c (fun _ => h) (fun z3 => br_c (fun _ => h) (fun z4 => br_c (fun _ => h) (fun z5 => br_f (fun z6 => ?_) h)))))
  rcases B with z | z | z | z | z | z
  · exact z1 z
  · exact z2 z
  · exact z3 z
  · exact z4 z
  · exact z5 z
  · exact z z6
theorem qy_judge_h {post : Int32 → Prop} {x r z : Int32} {s w : Nat} (H : qr_hold a_full x s) (B : ¬ qr_bad (a_pool (s * 6)) (a_pool (s * 6 + 1)) (a_pool (s * 6 + 2))) (hw : w < 2) (ew : a_pool (s * 6 + 5) = nI w) (HF : ∀ q : Int32 → Prop, q r → wpY_find q (f_shared, f_skipLimit, f_storeLimit, a_pool, a_full, a_state, a_ownExponent, a_word, a_agreed, a_agreedCount, a_publics, a_chain, a_store, a_size) (nI w) (a_pool (s * 6)) (a_pool (s * 6 + 2))) (hz : (a_chain (2 + w) ≤ 0 ∧ z = 0) ∨ (¬ a_chain (2 + w) ≤ 0 ∧ z = 1)) (h : wY_judge_136 post (nI s) (nI (s * 6)) (a_pool (s * 6)) (a_pool (s * 6 + 1)) (a_pool (s * 6 + 2)) (nI w) r (nI (w * 10)) (a_state (w * 10 + 3)) z f_shared f_skipLimit f_storeLimit a_pool a_full a_state a_ownExponent a_word a_agreed a_agreedCount a_publics a_chain a_store a_size) : wpY_judge post (f_shared, f_skipLimit, f_storeLimit, a_pool, a_full, a_state, a_ownExponent, a_word, a_agreed, a_agreedCount, a_publics, a_chain, a_store, a_size) x := by
  unfold wpY_judge
  dsimp only
  refine qy_hold H (br_f (by decide) ?_)
  obtain ⟨hs, rfl, _⟩ := H
  refine nm_r (qf_m6 s) ?_
  rw [qf_a1 (s * 6), qf_a2 (s * 6), qf_a5 (s * 6), nI_clamp (n := s * 6) (by omega), nI_clamp (n := s * 6 + 1) (by omega), nI_clamp (n := s * 6 + 2) (by omega), nI_clamp (n := s * 6 + 5) (by omega), ew]
  refine And.intro (vp_in_nI (by omega) (by decide)) (nm_e (And.intro (vp_in_nI (by omega) (by decide)) (nm_e (And.intro (vp_in_nI (by omega) (by decide)) (nm_e (And.intro (vp_in_nI (by omega) (by decide)) (nm_e ?_)))))))
  refine br_f (fun y => B (Or.inl y)) (br_f (fun y => B (Or.inr (Or.inl y))) (br_f (fun y => B (Or.inr (Or.inr (Or.inl y)))) (br_f (fun y => B (Or.inr (Or.inr (Or.inr (Or.inl y))))) (br_f (fun y => B (Or.inr (Or.inr (Or.inr (Or.inr (Or.inl y)))))) (br_t (Classical.byContradiction fun y => B (Or.inr (Or.inr (Or.inr (Or.inr (Or.inr y)))))) ?_)))))
  refine HF _ (nm_r (qf_m10 w) ?_)
  rw [qf_a3, qf_2p, nI_clamp (n := w * 10 + 3) (by omega), nI_clamp (n := 2 + w) (by omega)]
  refine And.intro (vp_in_nI (by omega) (by decide)) (nm_e (And.intro (vp_in_nI (by omega) (by decide)) ?_))
  rcases hz with ⟨a, b⟩ | ⟨a, b⟩
  · subst b; exact br_t a h
  · subst b; exact br_f a h
theorem qy_jS {post : Int32 → Prop} {x1 x2 x3 x4 x5 x6 x8 x9 z : Int32} {e : Nat} (he : e < 100) (h : wY_judge_286 post x1 x2 f_shared f_skipLimit f_storeLimit a_pool a_full a_state a_ownExponent a_word a_agreed a_agreedCount a_publics a_chain a_store a_size) : wY_judge_136 post x1 x2 x3 x4 x5 x6 (nI e) x8 x9 z f_shared f_skipLimit f_storeLimit a_pool a_full a_state a_ownExponent a_word a_agreed a_agreedCount a_publics a_chain a_store a_size := by
  unfold wY_judge_136 wY_judge_186
  exact br_t (nI_pos' (by omega)) (br_t (nI_pos' (by omega)) h)
theorem qy_jR {post : Int32 → Prop} {x1 x2 x3 x4 x6 : Int32} {w n nr sk : Nat} (hw : w < 2) (hn : n ≤ 11) (hr : nr ≤ 12) (ek : f_skipLimit = nI sk) (hk : sk ≤ 8) (ep : x3 = a_state (w * 10 + 1)) (H0 : n < nr → post (-4)) (H1 : nr ≤ n → sk < n - nr → post (-5)) (H2 : nr ≤ n → n - nr ≤ sk → wY_judge_286 post x1 x2 f_shared f_skipLimit f_storeLimit a_pool a_full a_state a_ownExponent a_word a_agreed a_agreedCount a_publics a_chain a_store a_size) : wY_judge_136 post x1 x2 x3 x4 (nI n) x6 (-1) (nI (w * 10)) (nI nr) 1 f_shared f_skipLimit f_storeLimit a_pool a_full a_state a_ownExponent a_word a_agreed a_agreedCount a_publics a_chain a_store a_size := by
  unfold wY_judge_136
  rw [qf_a1 (w * 10), nI_clamp (n := w * 10 + 1) (by omega)]
  refine br_f (by decide) (br_f (by decide) (And.intro (vp_in_nI (by omega) (by decide)) (br_t ep (pk_le nr n (fun q => ?_) (fun q => H0 q)))))
  rw [pk_sub q]
  exact br_c (fun y => H2 q (by rw [ek, nI_leI (by omega) (by omega)] at y; exact y)) (fun y => H1 q (by rw [ek, nI_leI (by omega) (by omega)] at y; omega))
theorem qy_jN {post : Int32 → Prop} {x1 x2 x3 z : Int32} {w pn n nr tt sk : Nat} (hw : w < 2) (hpn : pn ≤ 12) (hn : n ≤ 11) (hr : nr ≤ 12) (ek : f_skipLimit = nI sk) (hk : sk ≤ 8) (hz : z = 0 ∨ (z = 1 ∧ ¬ x3 = a_state (w * 10 + 1))) (ht : tt ≤ 8) (et : a_state (w * 10 + 7) = nI tt)
    (H0 : (x3 ≠ 0 ∧ ∃ j, j < 17 ∧ a_publics ((2 + w) * 17 + j) = x3) → post (-4))
    (H1 : ¬ (x3 ≠ 0 ∧ ∃ j, j < 17 ∧ a_publics ((2 + w) * 17 + j) = x3) → a_state (w * 10 + 5) = 1 → post (-6))
    (H2 : ¬ (x3 ≠ 0 ∧ ∃ j, j < 17 ∧ a_publics ((2 + w) * 17 + j) = x3) → ¬ a_state (w * 10 + 5) = 1 → tt = 8 → post (-7))
    (H3 : ¬ (x3 ≠ 0 ∧ ∃ j, j < 17 ∧ a_publics ((2 + w) * 17 + j) = x3) → ¬ a_state (w * 10 + 5) = 1 → tt < 8 → z = 1 → pn < nr → post (-2))
    (H4 : ¬ (x3 ≠ 0 ∧ ∃ j, j < 17 ∧ a_publics ((2 + w) * 17 + j) = x3) → ¬ a_state (w * 10 + 5) = 1 → tt < 8 → ∀ r, (z = 0 ∧ r = 0) ∨ (z = 1 ∧ nr ≤ pn ∧ r = pn - nr) → sk < n + r → post (-5))
    (H5 : ¬ (x3 ≠ 0 ∧ ∃ j, j < 17 ∧ a_publics ((2 + w) * 17 + j) = x3) → ¬ a_state (w * 10 + 5) = 1 → tt < 8 → ∀ r, (z = 0 ∧ r = 0) ∨ (z = 1 ∧ nr ≤ pn ∧ r = pn - nr) → n + r ≤ sk → wY_judge_286 post x1 x2 f_shared f_skipLimit f_storeLimit a_pool a_full a_state a_ownExponent a_word a_agreed a_agreedCount a_publics a_chain a_store a_size) : wY_judge_136 post x1 x2 x3 (nI pn) (nI n) (nI w) (-1) (nI (w * 10)) (nI nr) z f_shared f_skipLimit f_storeLimit a_pool a_full a_state a_ownExponent a_word a_agreed a_agreedCount a_publics a_chain a_store a_size := by
  have K : wY_judge_186 post x1 x2 x3 (nI pn) (nI n) (nI w) (-1) (nI (w * 10)) (nI nr) z f_shared f_skipLimit f_storeLimit a_pool a_full a_state a_ownExponent a_word a_agreed a_agreedCount a_publics a_chain a_store a_size := by
    unfold wY_judge_186 wY_judge_255 wY_judge_269
    rw [qf_2p, qf_a5, qf_a7, nI_clamp (n := w * 10 + 5) (by omega), nI_clamp (n := w * 10 + 7) (by omega), et]
    refine br_f (by decide) (qy_isIn (by omega) (fun C => br_f (by decide) (H0 C)) (fun C => br_t rfl (And.intro (vp_in_nI (by omega) (by decide)) (br_c (fun a => H1 C a) (fun a => And.intro (vp_in_nI (by omega) (by decide)) (pk_eq tt 8 (fun q => H2 C a q) (fun q => ?_)))))))
    have q' : tt < 8 := by omega
    rcases hz with e | ⟨e, _⟩
    · refine br_t e (br_t e ?_)
      rw [qf_a0]
      exact br_c (fun y => H5 C a q' 0 (Or.inl ⟨e, rfl⟩) (by rw [ek, nI_leI (by omega) (by omega)] at y; omega)) (fun y => H4 C a q' 0 (Or.inl ⟨e, rfl⟩) (by rw [ek, nI_leI (by omega) (by omega)] at y; omega))
    · refine br_f (by rw [e]; decide) (pk_le nr pn (fun p => br_f (by rw [e]; decide) ?_) (fun p => H3 C a q' e p))
      rw [pk_sub p, nI_add]
      exact br_c (fun y => H5 C a q' (pn - nr) (Or.inr ⟨e, p, rfl⟩) (by rw [ek, nI_leI (by omega) (by omega)] at y; omega)) (fun y => H4 C a q' (pn - nr) (Or.inr ⟨e, p, rfl⟩) (by rw [ek, nI_leI (by omega) (by omega)] at y; omega))
  unfold wY_judge_136
  rw [qf_a1 (w * 10), nI_clamp (n := w * 10 + 1) (by omega)]
  refine br_f (by decide) ?_
  rcases hz with e | ⟨e, e2⟩
  · exact br_t e K
  · exact br_f (by rw [e]; decide) (And.intro (vp_in_nI (by omega) (by decide)) (br_f e2 K))
end
end
section
/-! judge -/
theorem qr_fd_u {w sc e e' : Nat} {SP SN : Nat → Int32} {pub num : Int32} (h : qr_fd w sc SP SN pub num e) (h' : qr_fd w sc SP SN pub num e') : e = e' := by
  obtain ⟨_, a, b⟩ := h
  obtain ⟨_, a', b'⟩ := h'
  rcases Nat.lt_trichotomy e e' with q | q | q
  · exact absurd a (b' e q)
  · exact q
  · exact absurd a' (b e' q)
theorem qr_fd_nf {w sc e : Nat} {SP SN : Nat → Int32} {pub num : Int32} (h : qr_fd w sc SP SN pub num e) (h' : qr_nf w sc SP SN pub num) : False := h' e h.1 h.2.1
def qr_C (w nr tt sc pn n : Nat) (hr : Int32) (peer : Int32) (SP SN : Nat → Int32) (pub num : Int32) : Prop :=
  (∃ e, qr_fd w sc SP SN pub num e) ∨ (qr_nf w sc SP SN pub num ∧ ¬ hr = 0 ∧ pub = peer ∧ nr ≤ n) ∨ (qr_nf w sc SP SN pub num ∧ (hr = 0 ∨ ¬ pub = peer) ∧ tt < 8 ∧ (¬ hr = 0 → nr ≤ pn))
/-- the message in the slot is accepted -/
def qr_OK (lim : Nat) (x : Int32) (a_pool a_filled : Nat → Int32) (f_shared : Int32) (a_root : Nat → Int32) (a_sendChain : Nat → Int32) (a_recvChain : Nat → Int32) (a_hasSend : Nat → Int32) (a_hasRecv : Nat → Int32) (a_ownExponent : Nat → Int32) (a_ownPublic : Nat → Int32) (a_peerPublic : Nat → Int32) (a_sentCount : Nat → Int32) (a_recvNext : Nat → Int32) (a_prevLength : Nat → Int32) (a_turnDue : Nat → Int32) (a_turnsMade : Nat → Int32) (a_turnsTaken : Nat → Int32) (a_pushedOut : Nat → Int32) (a_usedList : Nat → Int32) (a_usedCount : Nat → Int32) (a_knownList : Nat → Int32) (a_knownCount : Nat → Int32) (a_storePublic : Nat → Int32) (a_storeNumber : Nat → Int32) (a_storeKey : Nat → Int32) (a_storeCount : Nat → Int32) (a_state : Nat → Int32) (a_agreed : Nat → Int32) (a_agreedCount : Nat → Int32) (a_publics : Nat → Int32) (a_chain : Nat → Int32) (a_store : Nat → Int32) : Prop := ∃ s w pb pn n ns nr tm tt sc ex pp : Nat,
  qr_hold a_filled x s ∧ w < 2 ∧ a_pool (s * 6 + 5) = nI w ∧ (1 ≤ pb ∧ pb < 2147483647 ∧ a_pool (s * 6) = nI pb) ∧ (pn ≤ 12 ∧ a_pool (s * 6 + 1) = nI pn) ∧ (n ≤ 11 ∧ a_pool (s * 6 + 2) = nI n) ∧ qr_F lim w ns nr tm tt sc ex pp f_shared a_root a_sendChain a_recvChain a_hasSend a_hasRecv a_ownExponent a_ownPublic a_peerPublic a_sentCount a_recvNext a_prevLength a_turnDue a_turnsMade a_turnsTaken a_pushedOut a_usedList a_usedCount a_knownList a_knownCount a_storePublic a_storeNumber a_storeKey a_storeCount a_state a_agreed a_agreedCount a_publics a_chain a_store ∧ qr_C w nr tt sc pn n (a_hasRecv w) (a_peerPublic w) a_storePublic a_storeNumber (a_pool (s * 6)) (a_pool (s * 6 + 2))
section
variable {f_skipLimit f_storeLimit f_shared : Int32} {a_pool a_filled a_root a_sendChain a_recvChain a_hasSend a_hasRecv a_ownExponent a_ownPublic a_peerPublic a_sentCount a_recvNext a_prevLength a_turnDue a_turnsMade a_turnsTaken a_pushedOut a_accepted a_lastWords a_usedList a_usedCount a_knownList a_knownCount a_storePublic a_storeNumber a_storeKey a_storeCount a_state b_word a_agreed a_agreedCount a_publics a_chain a_store : Nat → Int32}
theorem qj_peer {lim w s pn n ns nr tm tt sc ex pp sk : Nat} (hw : w < 2) (hs : s < 16) (hpn : pn ≤ 12) (epn : a_pool (s * 6 + 1) = nI pn) (hn : n ≤ 11) (en : a_pool (s * 6 + 2) = nI n) (ek : f_skipLimit = nI sk) (hk : sk ≤ 8) (F : qr_F lim w ns nr tm tt sc ex pp f_shared a_root a_sendChain a_recvChain a_hasSend a_hasRecv a_ownExponent a_ownPublic a_peerPublic a_sentCount a_recvNext a_prevLength a_turnDue a_turnsMade a_turnsTaken a_pushedOut a_usedList a_usedCount a_knownList a_knownCount a_storePublic a_storeNumber a_storeKey a_storeCount a_state a_agreed a_agreedCount a_publics a_chain a_store) :
    ∃ r2 : Int32, (∀ q : Int32 → Prop, q r2 → wpX_judgePeerTurn q (f_skipLimit, f_storeLimit, a_pool, a_filled, a_root, a_sendChain, a_recvChain, a_hasSend, a_hasRecv, a_ownExponent, a_ownPublic, a_peerPublic, a_sentCount, a_recvNext, a_prevLength, a_turnDue, a_turnsMade, a_turnsTaken, a_pushedOut, a_accepted, a_lastWords, a_usedList, a_usedCount, a_knownList, a_knownCount, a_storePublic, a_storeNumber, a_storeKey, a_storeCount) (nI w) (nI s)) ∧ (∀ (post : Int32 → Prop) (x1 x2 z : Int32), ((a_hasRecv w = 0 ∧ z = 0) ∨ (¬ a_hasRecv w = 0 ∧ z = 1 ∧ ¬ a_pool (s * 6) = a_state (w * 10 + 1))) → (¬ r2 = 1 → post r2) → (r2 = 1 → wY_judge_286 post x1 x2 f_shared f_skipLimit f_storeLimit a_pool a_filled a_state a_ownExponent b_word a_agreed a_agreedCount a_publics a_chain a_store a_storeCount) → wY_judge_136 post x1 x2 (a_pool (s * 6)) (nI pn) (nI n) (nI w) (-1) (nI (w * 10)) (nI nr) z f_shared f_skipLimit f_storeLimit a_pool a_filled a_state a_ownExponent b_word a_agreed a_agreedCount a_publics a_chain a_store a_storeCount) ∧ (r2 = 1 → tt < 8 ∧ (¬ a_hasRecv w = 0 → nr ≤ pn)) := by
  obtain ⟨⟨b1, b2, b3, b4, b5, b6, b7⟩, ⟨w1, w2, w3, w4, w5, w6, w7, w8, w9, w10, w11⟩, ⟨p0, p1, p2, p3, p4, p5, p6, p7, p8⟩, hR, hS, hC, hU, hK, hT⟩ := F
  have D := hK.1 (a_pool (s * 6))
  have Z : ∀ z : Int32, ((a_hasRecv w = 0 ∧ z = 0) ∨ (¬ a_hasRecv w = 0 ∧ z = 1 ∧ ¬ a_pool (s * 6) = a_state (w * 10 + 1))) → (z = 0 ∨ (z = 1 ∧ ¬ a_pool (s * 6) = a_state (w * 10 + 1))) := by
    intro z h
    rcases h with ⟨_, h⟩ | ⟨_, h⟩
    · exact Or.inl h
    · exact Or.inr h
  have kc : tt + (1 - w) ≤ 9 := by omega
  by_cases C : ∃ j, j < tt + (1 - w) ∧ a_knownList (w * 9 + j) = a_pool (s * 6)
  · refine ⟨-4, fun q h => ?_, fun post x1 x2 z hz h _ => ?_, fun h => absurd h (by decide)⟩
    · exact qx_jPeer hw hs hpn epn hn en b2 w2 b4 w4 kc w9 ek hk (fun _ => h) (fun c => absurd C c) (fun c => absurd C c) (fun c => absurd C c) (fun c => absurd C c) (fun c => absurd C c)
    · exact qy_jN hw hpn hn b2 ek hk (Z z hz) b4 (p7.trans w4) (fun _ => h (by decide)) (fun c => absurd (D.mp C) c) (fun c => absurd (D.mp C) c) (fun c => absurd (D.mp C) c) (fun c => absurd (D.mp C) c) (fun c => absurd (D.mp C) c)
  have CY : ¬ (a_pool (s * 6) ≠ 0 ∧ ∃ j, j < 17 ∧ a_publics ((2 + w) * 17 + j) = a_pool (s * 6)) := fun c => C (D.mpr c)
  rcases w11 with td | td
  · have tdy : ¬ a_state (w * 10 + 5) = 1 := by rw [p5, td]; decide
    by_cases h8 : tt = 8
    · refine ⟨-7, fun q h => ?_, fun post x1 x2 z hz h _ => ?_, fun h => absurd h (by decide)⟩
      · exact qx_jPeer hw hs hpn epn hn en b2 w2 b4 w4 kc w9 ek hk (fun c => absurd c C) (fun _ c => absurd td c) (fun _ _ _ => h) (fun _ _ c => absurd c (by omega)) (fun _ _ c => absurd c (by omega)) (fun _ _ c => absurd c (by omega))
      · exact qy_jN hw hpn hn b2 ek hk (Z z hz) b4 (p7.trans w4) (fun c => absurd c CY) (fun _ c => absurd c tdy) (fun _ _ _ => h (by decide)) (fun _ _ c => absurd c (by omega)) (fun _ _ c => absurd c (by omega)) (fun _ _ c => absurd c (by omega))
    · have t8 : tt < 8 := by omega
      by_cases h4 : ¬ a_hasRecv w = 0 ∧ pn < nr
      · refine ⟨-2, fun q h => ?_, fun post x1 x2 z hz h _ => ?_, fun h => absurd h (by decide)⟩
        · refine qx_jPeer hw hs hpn epn hn en b2 w2 b4 w4 kc w9 ek hk (fun c => absurd c C) (fun _ c => absurd td c) (fun _ _ c => absurd c h8) (fun _ _ _ _ _ => h) (fun _ _ _ r c _ => ?_) (fun _ _ _ r c _ => ?_)
          · rcases c with ⟨c, _⟩ | ⟨_, c, _⟩
            · exact absurd c h4.1
            · have := h4.2; omega
          · rcases c with ⟨c, _⟩ | ⟨_, c, _⟩
            · exact absurd c h4.1
            · have := h4.2; omega
        · have hz1 : z = 1 := by
            rcases hz with ⟨c, _⟩ | ⟨_, c, _⟩
            · exact absurd c h4.1
            · exact c
          refine qy_jN hw hpn hn b2 ek hk (Z z hz) b4 (p7.trans w4) (fun c => absurd c CY) (fun _ c => absurd c tdy) (fun _ _ c => absurd c h8) (fun _ _ _ _ _ => h (by decide)) (fun _ _ _ r c _ => ?_) (fun _ _ _ r c _ => ?_)
          · rcases c with ⟨c, _⟩ | ⟨_, c, _⟩
            · rw [hz1] at c; exact absurd c (by decide)
            · have := h4.2; omega
          · rcases c with ⟨c, _⟩ | ⟨_, c, _⟩
            · rw [hz1] at c; exact absurd c (by decide)
            · have := h4.2; omega
      · have h4' : ¬ a_hasRecv w = 0 → nr ≤ pn := fun c => by
          rcases Nat.lt_or_ge pn nr with q | q
          · exact absurd ⟨c, q⟩ h4
          · exact q
        obtain ⟨rr, U, UY⟩ : ∃ rr, (∀ r, ((a_hasRecv w = 0 ∧ r = 0) ∨ (¬ a_hasRecv w = 0 ∧ nr ≤ pn ∧ r = pn - nr)) → r = rr) ∧ (∀ (z : Int32) (r : Nat), ((a_hasRecv w = 0 ∧ z = 0) ∨ (¬ a_hasRecv w = 0 ∧ z = 1 ∧ ¬ a_pool (s * 6) = a_state (w * 10 + 1))) → ((z = 0 ∧ r = 0) ∨ (z = 1 ∧ nr ≤ pn ∧ r = pn - nr)) → r = rr) := by
          by_cases hh : a_hasRecv w = 0
          · refine ⟨0, fun r c => ?_, fun z r c d => ?_⟩
            · rcases c with ⟨_, c⟩ | ⟨c, _⟩
              · exact c
              · exact absurd hh c
            · rcases c with ⟨_, c⟩ | ⟨c, _⟩
              · subst c
                rcases d with ⟨_, d⟩ | ⟨d, _⟩
                · exact d
                · exact absurd d (by decide)
              · exact absurd hh c
          · refine ⟨pn - nr, fun r c => ?_, fun z r c d => ?_⟩
            · rcases c with ⟨c, _⟩ | ⟨_, _, c⟩
              · exact absurd c hh
              · exact c
            · rcases c with ⟨c, _⟩ | ⟨_, c, _⟩
              · exact absurd c hh
              · subst c
                rcases d with ⟨d, _⟩ | ⟨_, _, d⟩
                · exact absurd d (by decide)
                · exact d
        by_cases h5 : sk < n + rr
        · refine ⟨-5, fun q h => ?_, fun post x1 x2 z hz h _ => ?_, fun h => absurd h (by decide)⟩
          · exact qx_jPeer hw hs hpn epn hn en b2 w2 b4 w4 kc w9 ek hk (fun c => absurd c C) (fun _ c => absurd td c) (fun _ _ c => absurd c h8) (fun _ _ _ c d => absurd ⟨c, d⟩ h4) (fun _ _ _ _ _ _ => h) (fun _ _ _ r c d => by have := U r c; omega)
          · exact qy_jN hw hpn hn b2 ek hk (Z z hz) b4 (p7.trans w4) (fun c => absurd c CY) (fun _ c => absurd c tdy) (fun _ _ c => absurd c h8) (fun _ _ _ c d => by
              rcases hz with ⟨_, e⟩ | ⟨e, _⟩
              · rw [e] at c; exact absurd c (by decide)
              · exact absurd ⟨e, d⟩ h4) (fun _ _ _ _ _ _ => h (by decide)) (fun _ _ _ r c d => by have := UY z r hz c; omega)
        · refine ⟨1, fun q h => ?_, fun post x1 x2 z hz _ h => ?_, fun _ => ⟨t8, h4'⟩⟩
          · exact qx_jPeer hw hs hpn epn hn en b2 w2 b4 w4 kc w9 ek hk (fun c => absurd c C) (fun _ c => absurd td c) (fun _ _ c => absurd c h8) (fun _ _ _ c d => absurd ⟨c, d⟩ h4) (fun _ _ _ r c d => by have := U r c; omega) (fun _ _ _ _ _ _ => h)
          · exact qy_jN hw hpn hn b2 ek hk (Z z hz) b4 (p7.trans w4) (fun c => absurd c CY) (fun _ c => absurd c tdy) (fun _ _ c => absurd c h8) (fun _ _ _ c d => by
              rcases hz with ⟨_, e⟩ | ⟨e, _⟩
              · rw [e] at c; exact absurd c (by decide)
              · exact absurd ⟨e, d⟩ h4) (fun _ _ _ r c d => by have := UY z r hz c; omega) (fun _ _ _ _ _ _ => h rfl)
  · have tdx : ¬ a_turnDue w = 0 := by rw [td]; decide
    refine ⟨-6, fun q h => ?_, fun post x1 x2 z hz h _ => ?_, fun h => absurd h (by decide)⟩
    · exact qx_jPeer hw hs hpn epn hn en b2 w2 b4 w4 kc w9 ek hk (fun c => absurd c C) (fun _ _ => h) (fun _ c => absurd c tdx) (fun _ c => absurd c tdx) (fun _ c => absurd c tdx) (fun _ c => absurd c tdx)
    · exact qy_jN hw hpn hn b2 ek hk (Z z hz) b4 (p7.trans w4) (fun c => absurd c CY) (fun _ _ => h (by decide)) (fun _ c => absurd (p5.trans td) c) (fun _ c => absurd (p5.trans td) c) (fun _ c => absurd (p5.trans td) c) (fun _ c => absurd (p5.trans td) c)
end
end
section
/-! judge, both sides -/
section
variable {f_skipLimit f_storeLimit f_shared : Int32} {a_pool a_filled a_root a_sendChain a_recvChain a_hasSend a_hasRecv a_ownExponent a_ownPublic a_peerPublic a_sentCount a_recvNext a_prevLength a_turnDue a_turnsMade a_turnsTaken a_pushedOut a_accepted a_lastWords a_usedList a_usedCount a_knownList a_knownCount a_storePublic a_storeNumber a_storeKey a_storeCount a_state b_word a_agreed a_agreedCount a_publics a_chain a_store : Nat → Int32}
theorem qj_judge {lim : Nat} {x : Int32} (G : qr_G lim f_skipLimit f_storeLimit a_pool) (R : qr_R lim f_shared a_root a_sendChain a_recvChain a_hasSend a_hasRecv a_ownExponent a_ownPublic a_peerPublic a_sentCount a_recvNext a_prevLength a_turnDue a_turnsMade a_turnsTaken a_pushedOut a_usedList a_usedCount a_knownList a_knownCount a_storePublic a_storeNumber a_storeKey a_storeCount a_state a_agreed a_agreedCount a_publics a_chain a_store) :
    ∃ r : Int32, (∀ post : Int32 → Prop, post r → wpX_judge post (f_skipLimit, f_storeLimit, a_pool, a_filled, a_root, a_sendChain, a_recvChain, a_hasSend, a_hasRecv, a_ownExponent, a_ownPublic, a_peerPublic, a_sentCount, a_recvNext, a_prevLength, a_turnDue, a_turnsMade, a_turnsTaken, a_pushedOut, a_accepted, a_lastWords, a_usedList, a_usedCount, a_knownList, a_knownCount, a_storePublic, a_storeNumber, a_storeKey, a_storeCount) x) ∧ (∀ post : Int32 → Prop, post r → wpY_judge post (f_shared, f_skipLimit, f_storeLimit, a_pool, a_filled, a_state, a_ownExponent, b_word, a_agreed, a_agreedCount, a_publics, a_chain, a_store, a_storeCount) x) ∧ (r = 1 → qr_OK lim x a_pool a_filled f_shared a_root a_sendChain a_recvChain a_hasSend a_hasRecv a_ownExponent a_ownPublic a_peerPublic a_sentCount a_recvNext a_prevLength a_turnDue a_turnsMade a_turnsTaken a_pushedOut a_usedList a_usedCount a_knownList a_knownCount a_storePublic a_storeNumber a_storeKey a_storeCount a_state a_agreed a_agreedCount a_publics a_chain a_store) := by
  by_cases H : ∃ s, qr_hold a_filled x s
  rotate_left
  · have H' : ∀ s, ¬ qr_hold a_filled x s := fun s h => H ⟨s, h⟩
    exact ⟨-1, fun post h => qx_judge_e H' h, fun post h => qy_judge_e H' h, fun z => absurd z (by decide)⟩
  obtain ⟨s, Hs⟩ := H
  have hs : s < 16 := Hs.1
  by_cases B : qr_bad (a_pool (s * 6)) (a_pool (s * 6 + 1)) (a_pool (s * 6 + 2))
  · exact ⟨-2, fun post h => qx_judge_b Hs B h, fun post h => qy_judge_b Hs B h, fun z => absurd z (by decide)⟩
  obtain ⟨⟨pb, hb1, hb2, eb⟩, ⟨pn, hpn, epn⟩, ⟨n, hn, en⟩⟩ := qr_good B
  obtain ⟨⟨sk, hk, ek⟩, hl1, hl, el, hpool⟩ := G
  obtain ⟨w, hw, ew⟩ := hpool s hs
  obtain ⟨ns, nr, tm, tt, sc, ex, pp, F⟩ := R w hw
  have F0 := F
  obtain ⟨⟨b1, b2, b3, b4, b5, b6, b7⟩, ⟨w1, w2, w3, w4, w5, w6, w7, w8, w9, w10, w11⟩, ⟨p0, p1, p2, p3, p4, p5, p6, p7, p8⟩, hR, hS, hC, hU, hK, hT⟩ := F
  have hc : sc ≤ 12 := by omega
  have hac : tm + tt ≤ 16 := by omega
  have OK : qr_C w nr tt sc pn n (a_hasRecv w) (a_peerPublic w) a_storePublic a_storeNumber (a_pool (s * 6)) (a_pool (s * 6 + 2)) → qr_OK lim x a_pool a_filled f_shared a_root a_sendChain a_recvChain a_hasSend a_hasRecv a_ownExponent a_ownPublic a_peerPublic a_sentCount a_recvNext a_prevLength a_turnDue a_turnsMade a_turnsTaken a_pushedOut a_usedList a_usedCount a_knownList a_knownCount a_storePublic a_storeNumber a_storeKey a_storeCount a_state a_agreed a_agreedCount a_publics a_chain a_store := fun c => ⟨s, w, pb, pn, n, ns, nr, tm, tt, sc, ex, pp, Hs, hw, ew, ⟨hb1, hb2, eb⟩, ⟨hpn, epn⟩, ⟨hn, en⟩, F0, c⟩
  rcases qr_fd_or w a_storePublic a_storeNumber (a_pool (s * 6)) (a_pool (s * 6 + 2)) sc with ⟨e, he⟩ | nf
  · -- a stored key
    have hz : ∃ z : Int32, (a_chain (2 + w) ≤ 0 ∧ z = 0) ∨ (¬ a_chain (2 + w) ≤ 0 ∧ z = 1) := by
      by_cases c : a_chain (2 + w) ≤ 0
      · exact ⟨0, Or.inl ⟨c, rfl⟩⟩
      · exact ⟨1, Or.inr ⟨c, rfl⟩⟩
    obtain ⟨z, hz⟩ := hz
    have he1 := he.1
    by_cases t : a_pool (s * 6 + 4) = qf_tag (a_storeKey (w * 12 + e)) a_pool s
    · refine ⟨1, fun post h => ?_, fun post h => ?_, fun _ => OK (Or.inl ⟨e, he⟩)⟩
      · exact qx_judge_h Hs B hw ew hc w5 (fun e' he' => by
          obtain rfl := qr_fd_u he he'
          exact qx_judgeTag hs (fun _ => h) (fun c => absurd t c)) (fun c => (qr_fd_nf he c).elim) (fun c => (qr_fd_nf he c).elim)
      · exact qy_judge_h (r := nI e) Hs B hw ew (fun q hq => qy_findS hw hc w5 hT he hq) hz (qy_jS (by omega) (qy_286 hs (fun q hq => qy_kfS hs hw ew hc w5 hT he hq) (fun _ => h) (fun c => absurd t c)))
    · refine ⟨-3, fun post h => ?_, fun post h => ?_, fun z => absurd z (by decide)⟩
      · exact qx_judge_h Hs B hw ew hc w5 (fun e' he' => by
          obtain rfl := qr_fd_u he he'
          exact qx_judgeTag hs (fun c => absurd c t) (fun _ => h)) (fun c => (qr_fd_nf he c).elim) (fun c => (qr_fd_nf he c).elim)
      · exact qy_judge_h (r := nI e) Hs B hw ew (fun q hq => qy_findS hw hc w5 hT he hq) hz (qy_jS (by omega) (qy_286 hs (fun q hq => qy_kfS hs hw ew hc w5 hT he hq) (fun c => absurd c t) (fun _ => h)))
  · by_cases rc : ¬ a_hasRecv w = 0 ∧ a_pool (s * 6) = a_peerPublic w
    · -- the receiving chain
      obtain ⟨rc1, rc2⟩ := rc
      rcases hC with ⟨h1, _⟩ | ⟨j, hj, h1, h2, h3⟩
      · exact absurd h1 rc1
      have hz : (a_chain (2 + w) ≤ 0 ∧ (1 : Int32) = 0) ∨ (¬ a_chain (2 + w) ≤ 0 ∧ (1 : Int32) = 1) := by
        rw [h2]; exact Or.inr ⟨nI_nle (by omega) (by omega), rfl⟩
      have ep : a_pool (s * 6) = a_state (w * 10 + 1) := rc2.trans p1.symm
      have ekey : nr ≤ n → qf_mix (qf_it (a_recvChain w) (n - nr)) 3 = qf_key (qf_start f_shared a_agreed w j) n := by
        intro q
        rw [h3, qf_it_link, Nat.add_sub_cancel' q]
        rfl
      have KX : ∀ post : Int32 → Prop, wpX_judgeReceivingChain post (f_skipLimit, f_storeLimit, a_pool, a_filled, a_root, a_sendChain, a_recvChain, a_hasSend, a_hasRecv, a_ownExponent, a_ownPublic, a_peerPublic, a_sentCount, a_recvNext, a_prevLength, a_turnDue, a_turnsMade, a_turnsTaken, a_pushedOut, a_accepted, a_lastWords, a_usedList, a_usedCount, a_knownList, a_knownCount, a_storePublic, a_storeNumber, a_storeKey, a_storeCount) (nI w) (nI s) → wpX_judge post (f_skipLimit, f_storeLimit, a_pool, a_filled, a_root, a_sendChain, a_recvChain, a_hasSend, a_hasRecv, a_ownExponent, a_ownPublic, a_peerPublic, a_sentCount, a_recvNext, a_prevLength, a_turnDue, a_turnsMade, a_turnsTaken, a_pushedOut, a_accepted, a_lastWords, a_usedList, a_usedCount, a_knownList, a_knownCount, a_storePublic, a_storeNumber, a_storeKey, a_storeCount) x := fun post h => qx_judge_h Hs B hw ew hc w5 (fun e' he' => (qr_fd_nf he' nf).elim) (fun _ _ _ => h) (fun _ c => by
        rcases c with c | c
        · exact absurd c rc1
        · exact absurd rc2 c)
      have KY : ∀ post : Int32 → Prop, wY_judge_136 post (nI s) (nI (s * 6)) (a_pool (s * 6)) (a_pool (s * 6 + 1)) (nI n) (nI w) (-1) (nI (w * 10)) (nI nr) 1 f_shared f_skipLimit f_storeLimit a_pool a_filled a_state a_ownExponent b_word a_agreed a_agreedCount a_publics a_chain a_store a_storeCount → wpY_judge post (f_shared, f_skipLimit, f_storeLimit, a_pool, a_filled, a_state, a_ownExponent, b_word, a_agreed, a_agreedCount, a_publics, a_chain, a_store, a_storeCount) x := fun post h => qy_judge_h (r := -1) Hs B hw ew (fun q hq => qy_findN hw hc w5 hT nf hq) hz (by rw [en, p3, w2]; exact h)
      by_cases q1 : nr ≤ n
      · by_cases q2 : n - nr ≤ sk
        · by_cases t : a_pool (s * 6 + 4) = qf_tag (qf_key (qf_start f_shared a_agreed w j) n) a_pool s
          · refine ⟨1, fun post h => KX post ?_, fun post h => KY post ?_, fun _ => OK (Or.inr (Or.inl ⟨nf, rc1, rc2, q1⟩))⟩
            · refine qx_jRecv hw hs hn en b2 w2 ek hk (fun c => absurd c (by omega)) (fun _ c => absurd c (by omega)) (fun _ _ _ => h) (fun _ _ c => ?_)
              rw [ekey q1] at c
              exact absurd t c
            · exact qy_jR hw hn b2 ek hk ep (fun c => absurd c (by omega)) (fun _ c => absurd c (by omega)) (fun _ _ => qy_286 hs (fun q hq => qy_kfR hs hw ew hc w5 hT nf (by omega) h2 ep (by omega) en hq) (fun _ => h) (fun c => absurd t c))
          · refine ⟨-3, fun post h => KX post ?_, fun post h => KY post ?_, fun z => absurd z (by decide)⟩
            · refine qx_jRecv hw hs hn en b2 w2 ek hk (fun c => absurd c (by omega)) (fun _ c => absurd c (by omega)) (fun _ _ c => ?_) (fun _ _ _ => h)
              rw [ekey q1] at c
              exact absurd c t
            · exact qy_jR hw hn b2 ek hk ep (fun c => absurd c (by omega)) (fun _ c => absurd c (by omega)) (fun _ _ => qy_286 hs (fun q hq => qy_kfR hs hw ew hc w5 hT nf (by omega) h2 ep (by omega) en hq) (fun c => absurd c t) (fun _ => h))
        · refine ⟨-5, fun post h => KX post ?_, fun post h => KY post ?_, fun z => absurd z (by decide)⟩
          · exact qx_jRecv hw hs hn en b2 w2 ek hk (fun c => absurd c (by omega)) (fun _ _ => h) (fun _ c => absurd c q2) (fun _ c => absurd c q2)
          · exact qy_jR hw hn b2 ek hk ep (fun c => absurd c (by omega)) (fun _ _ => h) (fun _ c => absurd c q2)
      · refine ⟨-4, fun post h => KX post ?_, fun post h => KY post ?_, fun z => absurd z (by decide)⟩
        · exact qx_jRecv hw hs hn en b2 w2 ek hk (fun _ => h) (fun c => absurd c q1) (fun c => absurd c q1) (fun c => absurd c q1)
        · exact qy_jR hw hn b2 ek hk ep (fun _ => h) (fun c => absurd c q1) (fun c => absurd c q1)
    · -- a new chain
      have rn : a_hasRecv w = 0 ∨ ¬ a_pool (s * 6) = a_peerPublic w := by
        by_cases c : a_hasRecv w = 0
        · exact Or.inl c
        · exact Or.inr fun d => rc ⟨c, d⟩
      obtain ⟨z, hz, hz2, hz3⟩ : ∃ z : Int32, ((a_chain (2 + w) ≤ 0 ∧ z = 0) ∨ (¬ a_chain (2 + w) ≤ 0 ∧ z = 1)) ∧ ((a_hasRecv w = 0 ∧ z = 0) ∨ (¬ a_hasRecv w = 0 ∧ z = 1 ∧ ¬ a_pool (s * 6) = a_state (w * 10 + 1))) ∧ (a_chain (2 + w) = 0 ∨ ¬ a_pool (s * 6) = a_state (w * 10 + 1)) := by
        rcases hC with ⟨h1, h2⟩ | ⟨j, hj, h1, h2, h3⟩
        · exact ⟨0, Or.inl ⟨by rw [h2]; decide, rfl⟩, Or.inl ⟨h1, rfl⟩, Or.inl h2⟩
        · have c : ¬ a_hasRecv w = 0 := by rw [h1]; decide
          have d : ¬ a_pool (s * 6) = a_state (w * 10 + 1) := by
            rw [p1]
            rcases rn with q | q
            · exact absurd q c
            · exact q
          exact ⟨1, Or.inr ⟨by rw [h2]; exact nI_nle (by omega) (by omega), rfl⟩, Or.inr ⟨c, rfl, d⟩, Or.inr d⟩
      obtain ⟨r2, PX, PY, P1⟩ := qj_peer (a_filled := a_filled) (a_accepted := a_accepted) (a_lastWords := a_lastWords) (b_word := b_word) (f_storeLimit := f_storeLimit) hw hs hpn epn hn en ek hk F0
      have KX : ∀ post : Int32 → Prop, wpX_judgeNewChain post (f_skipLimit, f_storeLimit, a_pool, a_filled, a_root, a_sendChain, a_recvChain, a_hasSend, a_hasRecv, a_ownExponent, a_ownPublic, a_peerPublic, a_sentCount, a_recvNext, a_prevLength, a_turnDue, a_turnsMade, a_turnsTaken, a_pushedOut, a_accepted, a_lastWords, a_usedList, a_usedCount, a_knownList, a_knownCount, a_storePublic, a_storeNumber, a_storeKey, a_storeCount) (nI w) (nI s) → wpX_judge post (f_skipLimit, f_storeLimit, a_pool, a_filled, a_root, a_sendChain, a_recvChain, a_hasSend, a_hasRecv, a_ownExponent, a_ownPublic, a_peerPublic, a_sentCount, a_recvNext, a_prevLength, a_turnDue, a_turnsMade, a_turnsTaken, a_pushedOut, a_accepted, a_lastWords, a_usedList, a_usedCount, a_knownList, a_knownCount, a_storePublic, a_storeNumber, a_storeKey, a_storeCount) x := fun post h => qx_judge_h Hs B hw ew hc w5 (fun e' he' => (qr_fd_nf he' nf).elim) (fun _ c d => absurd ⟨c, d⟩ rc) (fun _ _ => h)
      have KY : ∀ post : Int32 → Prop, wY_judge_136 post (nI s) (nI (s * 6)) (a_pool (s * 6)) (nI pn) (nI n) (nI w) (-1) (nI (w * 10)) (nI nr) z f_shared f_skipLimit f_storeLimit a_pool a_filled a_state a_ownExponent b_word a_agreed a_agreedCount a_publics a_chain a_store a_storeCount → wpY_judge post (f_shared, f_skipLimit, f_storeLimit, a_pool, a_filled, a_state, a_ownExponent, b_word, a_agreed, a_agreedCount, a_publics, a_chain, a_store, a_storeCount) x := fun post h => qy_judge_h (r := -1) Hs B hw ew (fun q hq => qy_findN hw hc w5 hT nf hq) hz (by rw [en, epn, p3, w2]; exact h)
      have hr2 : ∀ q : Int32 → Prop, q (qf_key (qf_mix (a_root w) (nI (pb ^ ex % 2147483647))) n) → wpY_keyFor q (f_shared, f_skipLimit, f_storeLimit, a_pool, a_filled, a_state, a_ownExponent, b_word, a_agreed, a_agreedCount, a_publics, a_chain, a_store, a_storeCount) (nI s) := fun q hq => by
        rw [hR] at hq
        exact qy_kfN hs hw ew hc w5 hT nf hz3 hb2 eb b6 w6 hac w10 (by omega) en hq
      by_cases e1 : r2 = 1
      · by_cases t : a_pool (s * 6 + 4) = qf_tag (qf_key (qf_mix (a_root w) (nI (pb ^ ex % 2147483647))) n) a_pool s
        · refine ⟨1, fun post h => KX post ?_, fun post h => KY post ?_, fun _ => OK (Or.inr (Or.inr ⟨nf, rn, (P1 e1).1, (P1 e1).2⟩))⟩
          · exact qx_jNew hw hs hb2 eb hn en b6 w6 PX (fun c => absurd e1 c) (fun _ _ => h) (fun _ c => absurd t c)
          · exact PY post _ _ z hz2 (fun c => absurd e1 c) (fun _ => qy_286 hs hr2 (fun _ => h) (fun c => absurd t c))
        · refine ⟨-3, fun post h => KX post ?_, fun post h => KY post ?_, fun z => absurd z (by decide)⟩
          · exact qx_jNew hw hs hb2 eb hn en b6 w6 PX (fun c => absurd e1 c) (fun _ c => absurd c t) (fun _ _ => h)
          · exact PY post _ _ z hz2 (fun c => absurd e1 c) (fun _ => qy_286 hs hr2 (fun c => absurd c t) (fun _ => h))
      · refine ⟨r2, fun post h => KX post ?_, fun post h => KY post ?_, fun z => absurd z e1⟩
        · exact qx_jNew hw hs hb2 eb hn en b6 w6 PX (fun _ => h) (fun c => absurd c e1) (fun c => absurd c e1)
        · exact PY post _ _ z hz2 (fun _ => h) (fun c => absurd c e1)
end
theorem i_vc_judge {k : Nat} {u : SX} {v : SY} (I : i_Rel k u v) (hk : k + 4 ≤ 2052) (v1 : Int32) : wpX_judge (fun r => wpY_judge (fun r' => r' = r ∧ i_Rel (k + 4) u v) v v1) u v1 := by
  have J := i_up I
  revert J
  refine qr_el (P := fun u v => i_Rel (k + 4) u v → wpX_judge (fun r => wpY_judge (fun r' => r' = r ∧ i_Rel (k + 4) u v) v v1) u v1) I ?_
  intro f_skipLimit f_storeLimit f_shared a_pool a_filled a_root a_sendChain a_recvChain a_hasSend a_hasRecv a_ownExponent a_ownPublic a_peerPublic a_sentCount a_recvNext a_prevLength a_turnDue a_turnsMade a_turnsTaken a_pushedOut a_accepted a_lastWords a_usedList a_usedCount a_knownList a_knownCount a_storePublic a_storeNumber a_storeKey a_storeCount a_state a_agreed a_agreedCount a_publics a_chain a_store lim G A R J
  obtain ⟨r, hX, hY, _⟩ := qj_judge (x := v1) (a_filled := a_filled) (a_accepted := a_accepted) (a_lastWords := a_lastWords) (b_word := a_lastWords) G R
  exact hX _ (hY _ ⟨rfl, J⟩)
end
section
/-! the keys that are skipped, in lockstep -/
section
variable {f_skipLimit f_storeLimit f_shared : Int32} {a_pool a_filled a_root a_sendChain a_recvChain a_hasSend a_hasRecv a_ownExponent a_ownPublic a_peerPublic a_sentCount a_recvNext a_prevLength a_turnDue a_turnsMade a_turnsTaken a_pushedOut a_accepted a_lastWords a_usedList a_usedCount a_knownList a_knownCount a_storePublic a_storeNumber a_storeKey a_storeCount a_state b_word a_agreed a_agreedCount a_publics a_chain a_store : Nat → Int32}
theorem qj_loop {lim w en : Nat} {S : Int32} (hl1 : 1 ≤ lim) (hl : lim ≤ 12) (el : f_storeLimit = nI lim) (hw : w < 2) (hen : en ≤ 12) : ∀ d k, k + d = en → ∀ (a_pushedOut a_storePublic a_storeNumber a_storeKey a_storeCount a_state a_store : Nat → Int32), qr_R lim f_shared a_root a_sendChain a_recvChain a_hasSend a_hasRecv a_ownExponent a_ownPublic a_peerPublic a_sentCount a_recvNext a_prevLength a_turnDue a_turnsMade a_turnsTaken a_pushedOut a_usedList a_usedCount a_knownList a_knownCount a_storePublic a_storeNumber a_storeKey a_storeCount a_state a_agreed a_agreedCount a_publics a_chain a_store →
    ∃ a_pushedOut' a_storePublic' a_storeNumber' a_storeKey' a_storeCount' a_state' a_store' : Nat → Int32, qr_R lim f_shared a_root a_sendChain a_recvChain a_hasSend a_hasRecv a_ownExponent a_ownPublic a_peerPublic a_sentCount a_recvNext a_prevLength a_turnDue a_turnsMade a_turnsTaken a_pushedOut' a_usedList a_usedCount a_knownList a_knownCount a_storePublic' a_storeNumber' a_storeKey' a_storeCount' a_state' a_agreed a_agreedCount a_publics a_chain a_store' ∧ (∀ c, c ≠ w * 10 + 8 → a_state' c = a_state c) ∧
      (∀ (post : SX → Prop) (n : Nat), d < n → post (f_skipLimit, f_storeLimit, a_pool, a_filled, a_root, a_sendChain, upd a_recvChain w (qf_link S en), a_hasSend, a_hasRecv, a_ownExponent, a_ownPublic, a_peerPublic, a_sentCount, a_recvNext, a_prevLength, a_turnDue, a_turnsMade, a_turnsTaken, a_pushedOut', a_accepted, a_lastWords, a_usedList, a_usedCount, a_knownList, a_knownCount, a_storePublic', a_storeNumber', a_storeKey', a_storeCount') → wX_storeKeysBefore_15 post (nI w) (nI en) n (qf_link S k) (nI k) f_skipLimit f_storeLimit a_pool a_filled a_root a_sendChain a_recvChain a_hasSend a_hasRecv a_ownExponent a_ownPublic a_peerPublic a_sentCount a_recvNext a_prevLength a_turnDue a_turnsMade a_turnsTaken a_pushedOut a_accepted a_lastWords a_usedList a_usedCount a_knownList a_knownCount a_storePublic a_storeNumber a_storeKey a_storeCount) ∧
      (∀ (post : SY → Prop) (n : Nat), d < n → post (f_shared, f_skipLimit, f_storeLimit, a_pool, a_filled, a_state', a_ownExponent, b_word, a_agreed, a_agreedCount, a_publics, a_chain, a_store', a_storeCount') → wY_skipUpTo_27 post (nI w) (nI en) S n (nI k) f_shared f_skipLimit f_storeLimit a_pool a_filled a_state a_ownExponent b_word a_agreed a_agreedCount a_publics a_chain a_store a_storeCount) := by
  intro d
  induction d with
  | zero =>
    intro k hk a_pushedOut a_storePublic a_storeNumber a_storeKey a_storeCount a_state a_store R
    obtain rfl : k = en := by omega
    refine ⟨a_pushedOut, a_storePublic, a_storeNumber, a_storeKey, a_storeCount, a_state, a_store, R, fun c _ => rfl, fun post n hn h => ?_, fun post n hn h => ?_⟩
    · obtain ⟨m, rfl⟩ : ∃ m, n = m + 1 := ⟨n - 1, by omega⟩
      exact qx_sk0 hw (Nat.le_refl _) (by omega) h
    · obtain ⟨m, rfl⟩ : ∃ m, n = m + 1 := ⟨n - 1, by omega⟩
      exact qy_su0 (Nat.le_refl _) (by omega) h
  | succ d ih =>
    intro k hk a_pushedOut a_storePublic a_storeNumber a_storeKey a_storeCount a_state a_store R
    obtain ⟨ns, nr, tm, tt, sc, ex, pp, F⟩ := R w hw
    have es : a_storeCount w = nI sc := F.2.1.2.2.2.2.1
    have hs : sc ≤ lim := F.1.2.2.2.2.1
    have p1 : a_state (w * 10 + 1) = a_peerPublic w := F.2.2.1.2.1
    by_cases q : sc < lim
    · have R2 := qo_push1 (a := a_peerPublic w) (b := nI k) (c := qf_key S k) hl hw R F q
      obtain ⟨a_pushedOut', a_storePublic', a_storeNumber', a_storeKey', a_storeCount', a_state', a_store', R3, fr, hX, hY⟩ := ih (k + 1) (by omega) _ _ _ _ _ _ _ R2
      refine ⟨a_pushedOut', a_storePublic', a_storeNumber', a_storeKey', a_storeCount', a_state', a_store', R3, fr, fun post n hn h => ?_, fun post n hn h => ?_⟩
      · obtain ⟨m, rfl⟩ : ∃ m, n = m + 1 := ⟨n - 1, by omega⟩
        exact qx_sk1 hw es el hl q (by omega) (by omega) (hX post m (by omega) h)
      · obtain ⟨m, rfl⟩ : ∃ m, n = m + 1 := ⟨n - 1, by omega⟩
        refine qy_su1 hw es el hl q (by omega) (by omega) ?_
        rw [p1]
        exact hY post m (by omega) h
    · have q' : sc = lim := by omega
      have R2 := qo_push2 (a := a_peerPublic w) (b := nI k) (c := qf_key S k) hl hl1 hw R F q'
      obtain ⟨a_pushedOut', a_storePublic', a_storeNumber', a_storeKey', a_storeCount', a_state', a_store', R3, fr, hX, hY⟩ := ih (k + 1) (by omega) _ _ _ _ _ _ _ R2
      refine ⟨a_pushedOut', a_storePublic', a_storeNumber', a_storeKey', a_storeCount', a_state', a_store', R3, fun c hc => (fr c hc).trans (pk_un hc), fun post n hn h => ?_, fun post n hn h => ?_⟩
      · obtain ⟨m, rfl⟩ : ∃ m, n = m + 1 := ⟨n - 1, by omega⟩
        exact qx_sk2 hw es el hl hl1 q' (by omega) (by omega) (hX post m (by omega) h)
      · obtain ⟨m, rfl⟩ : ∃ m, n = m + 1 := ⟨n - 1, by omega⟩
        refine qy_su2 hw es el hl hl1 q' (by omega) (by omega) ?_
        rw [p1]
        exact hY post m (by omega) h
theorem qj_skip {lim w en ns nr tm tt sc ex pp j : Nat} (hl1 : 1 ≤ lim) (hl : lim ≤ 12) (el : f_storeLimit = nI lim) (hw : w < 2) (hen : en ≤ 12) (R : qr_R lim f_shared a_root a_sendChain a_recvChain a_hasSend a_hasRecv a_ownExponent a_ownPublic a_peerPublic a_sentCount a_recvNext a_prevLength a_turnDue a_turnsMade a_turnsTaken a_pushedOut a_usedList a_usedCount a_knownList a_knownCount a_storePublic a_storeNumber a_storeKey a_storeCount a_state a_agreed a_agreedCount a_publics a_chain a_store) (F : qr_F lim w ns nr tm tt sc ex pp f_shared a_root a_sendChain a_recvChain a_hasSend a_hasRecv a_ownExponent a_ownPublic a_peerPublic a_sentCount a_recvNext a_prevLength a_turnDue a_turnsMade a_turnsTaken a_pushedOut a_usedList a_usedCount a_knownList a_knownCount a_storePublic a_storeNumber a_storeKey a_storeCount a_state a_agreed a_agreedCount a_publics a_chain a_store) (hj : j < tm + tt) (h2 : a_chain (2 + w) = nI (j + 1)) (h3 : a_recvChain w = qf_link (qf_start f_shared a_agreed w j) nr) (hr : nr ≤ en) :
    ∃ a_pushedOut' a_storePublic' a_storeNumber' a_storeKey' a_storeCount' a_state' a_store' : Nat → Int32, qr_R lim f_shared a_root a_sendChain a_recvChain a_hasSend a_hasRecv a_ownExponent a_ownPublic a_peerPublic a_sentCount a_recvNext a_prevLength a_turnDue a_turnsMade a_turnsTaken a_pushedOut' a_usedList a_usedCount a_knownList a_knownCount a_storePublic' a_storeNumber' a_storeKey' a_storeCount' a_state' a_agreed a_agreedCount a_publics a_chain a_store' ∧ (∀ c, c ≠ w * 10 + 8 → a_state' c = a_state c) ∧
      (∀ (post : SX → Prop), post (f_skipLimit, f_storeLimit, a_pool, a_filled, a_root, a_sendChain, upd a_recvChain w (qf_link (qf_start f_shared a_agreed w j) en), a_hasSend, a_hasRecv, a_ownExponent, a_ownPublic, a_peerPublic, a_sentCount, a_recvNext, a_prevLength, a_turnDue, a_turnsMade, a_turnsTaken, a_pushedOut', a_accepted, a_lastWords, a_usedList, a_usedCount, a_knownList, a_knownCount, a_storePublic', a_storeNumber', a_storeKey', a_storeCount') → wpX_storeKeysBefore post (f_skipLimit, f_storeLimit, a_pool, a_filled, a_root, a_sendChain, a_recvChain, a_hasSend, a_hasRecv, a_ownExponent, a_ownPublic, a_peerPublic, a_sentCount, a_recvNext, a_prevLength, a_turnDue, a_turnsMade, a_turnsTaken, a_pushedOut, a_accepted, a_lastWords, a_usedList, a_usedCount, a_knownList, a_knownCount, a_storePublic, a_storeNumber, a_storeKey, a_storeCount) (nI w) (nI en)) ∧
      (∀ (post : SY → Prop), post (f_shared, f_skipLimit, f_storeLimit, a_pool, a_filled, a_state', a_ownExponent, b_word, a_agreed, a_agreedCount, a_publics, a_chain, a_store', a_storeCount') → wpY_skipUpTo post (f_shared, f_skipLimit, f_storeLimit, a_pool, a_filled, a_state, a_ownExponent, b_word, a_agreed, a_agreedCount, a_publics, a_chain, a_store, a_storeCount) (nI w) (nI en)) := by
  obtain ⟨a_pushedOut', a_storePublic', a_storeNumber', a_storeKey', a_storeCount', a_state', a_store', R3, fr, hX, hY⟩ := qj_loop (S := qf_start f_shared a_agreed w j) (f_skipLimit := f_skipLimit) (a_pool := a_pool) (a_filled := a_filled) (a_accepted := a_accepted) (a_lastWords := a_lastWords) (b_word := b_word) hl1 hl el hw hen (en - nr) nr (by omega) _ _ _ _ _ _ _ R
  obtain ⟨⟨b1, b2, b3, b4, b5, b6, b7⟩, ⟨w1, w2, w3, w4, w5, w6, w7, w8, w9, w10, w11⟩, ⟨p0, p1, p2, p3, p4, p5, p6, p7, p8⟩, hF⟩ := F
  have hin : vp_in (nI w) 2 := vp_in_nI hw (by decide)
  refine ⟨a_pushedOut', a_storePublic', a_storeNumber', a_storeKey', a_storeCount', a_state', a_store', R3, fr, fun post h => ?_, fun post h => ?_⟩
  · unfold wpX_storeKeysBefore
    dsimp only
    rw [nI_clamp (n := w) (by omega)]
    exact And.intro hin (nm_r h3 (And.intro hin (nm_r w2 (Exists.intro 13 (hX post 13 (by omega) h)))))
  · unfold wpY_skipUpTo
    dsimp only
    rw [qf_2p, qf_m10, qf_a3, nI_clamp (n := 2 + w) (by omega), nI_clamp (n := w * 10 + 3) (by omega), h2]
    exact And.intro (vp_in_nI (by omega) (by decide)) (qy_start hw (by omega) (And.intro (vp_in_nI (by omega) (by decide)) (nm_r (p3.trans w2) (Exists.intro 13 (hY post 13 (by omega) h)))))
/-- the receiving chain moves past the number -/
theorem qj_adv {lim w n ns nr tm tt sc ex pp j : Nat} (hl1 : 1 ≤ lim) (hl : lim ≤ 12) (el : f_storeLimit = nI lim) (hw : w < 2) (hn : n ≤ 11) (R : qr_R lim f_shared a_root a_sendChain a_recvChain a_hasSend a_hasRecv a_ownExponent a_ownPublic a_peerPublic a_sentCount a_recvNext a_prevLength a_turnDue a_turnsMade a_turnsTaken a_pushedOut a_usedList a_usedCount a_knownList a_knownCount a_storePublic a_storeNumber a_storeKey a_storeCount a_state a_agreed a_agreedCount a_publics a_chain a_store) (F : qr_F lim w ns nr tm tt sc ex pp f_shared a_root a_sendChain a_recvChain a_hasSend a_hasRecv a_ownExponent a_ownPublic a_peerPublic a_sentCount a_recvNext a_prevLength a_turnDue a_turnsMade a_turnsTaken a_pushedOut a_usedList a_usedCount a_knownList a_knownCount a_storePublic a_storeNumber a_storeKey a_storeCount a_state a_agreed a_agreedCount a_publics a_chain a_store) (hj : j < tm + tt) (h1 : a_hasRecv w = 1) (h2 : a_chain (2 + w) = nI (j + 1)) (h3 : a_recvChain w = qf_link (qf_start f_shared a_agreed w j) nr) (hr : nr ≤ n) :
    ∃ a_recvChain' a_recvNext' a_pushedOut' a_storePublic' a_storeNumber' a_storeKey' a_storeCount' a_state' a_store' : Nat → Int32, qr_R lim f_shared a_root a_sendChain a_recvChain' a_hasSend a_hasRecv a_ownExponent a_ownPublic a_peerPublic a_sentCount a_recvNext' a_prevLength a_turnDue a_turnsMade a_turnsTaken a_pushedOut' a_usedList a_usedCount a_knownList a_knownCount a_storePublic' a_storeNumber' a_storeKey' a_storeCount' a_state' a_agreed a_agreedCount a_publics a_chain a_store' ∧ (∀ c, c < 2 → a_state' (c * 10 + 9) = a_state (c * 10 + 9)) ∧
      (∀ (post : Int32 → SX → Prop), post (qf_key (qf_start f_shared a_agreed w j) n) (f_skipLimit, f_storeLimit, a_pool, a_filled, a_root, a_sendChain, a_recvChain', a_hasSend, a_hasRecv, a_ownExponent, a_ownPublic, a_peerPublic, a_sentCount, a_recvNext', a_prevLength, a_turnDue, a_turnsMade, a_turnsTaken, a_pushedOut', a_accepted, a_lastWords, a_usedList, a_usedCount, a_knownList, a_knownCount, a_storePublic', a_storeNumber', a_storeKey', a_storeCount') → wpX_advanceReceiving post (f_skipLimit, f_storeLimit, a_pool, a_filled, a_root, a_sendChain, a_recvChain, a_hasSend, a_hasRecv, a_ownExponent, a_ownPublic, a_peerPublic, a_sentCount, a_recvNext, a_prevLength, a_turnDue, a_turnsMade, a_turnsTaken, a_pushedOut, a_accepted, a_lastWords, a_usedList, a_usedCount, a_knownList, a_knownCount, a_storePublic, a_storeNumber, a_storeKey, a_storeCount) (nI w) (nI n)) ∧
      (∀ (post : Int32 → SY → Prop), post 1 (f_shared, f_skipLimit, f_storeLimit, a_pool, a_filled, a_state', a_ownExponent, b_word, a_agreed, a_agreedCount, a_publics, a_chain, a_store', a_storeCount') → wY_deliver_216 post (nI n) (nI w) (nI (w * 10)) f_shared f_skipLimit f_storeLimit a_pool a_filled a_state a_ownExponent b_word a_agreed a_agreedCount a_publics a_chain a_store a_storeCount) := by
  obtain ⟨a_pushedOut', a_storePublic', a_storeNumber', a_storeKey', a_storeCount', a_state', a_store', R3, fr, hX, hY⟩ := qj_skip (f_skipLimit := f_skipLimit) (a_pool := a_pool) (a_filled := a_filled) (a_accepted := a_accepted) (a_lastWords := a_lastWords) (b_word := b_word) hl1 hl el hw (by omega) R F hj h2 h3 hr
  have hin : vp_in (nI w) 2 := vp_in_nI hw (by decide)
  obtain ⟨ns', nr', tm', tt', sc', ex', pp', F3⟩ := R3 w hw
  have hj' : j < tm' + tt' := by
    have a1 : nI tm = nI tm' := F.2.1.2.2.1.symm.trans F3.2.1.2.2.1
    have a2 : nI tt = nI tt' := F.2.1.2.2.2.1.symm.trans F3.2.1.2.2.2.1
    have b1 : tm ≤ 8 := F.1.2.2.1
    have b2 : tt ≤ 8 := F.1.2.2.2.1
    have b3 : tm' ≤ 8 := F3.1.2.2.1
    have b4 : tt' ≤ 8 := F3.1.2.2.2.1
    rw [nI_eq (by omega) (by omega)] at a1 a2
    omega
  have R4 := qo_recv (n := n + 1) hl hw R3 F3 (by omega) hj' h1 h2
  refine ⟨upd a_recvChain w (qf_link (qf_start f_shared a_agreed w j) (n + 1)), upd a_recvNext w (nI (n + 1)), a_pushedOut', a_storePublic', a_storeNumber', a_storeKey', a_storeCount', upd a_state' (w * 10 + 3) (nI (n + 1)), a_store', R4, fun c hc => ?_, fun post h => ?_, fun post h => ?_⟩
  · rw [pk_un (by omega)]
    exact fr _ (by omega)
  · unfold wpX_advanceReceiving
    dsimp only
    refine hX _ ?_
    dsimp only
    rw [nI_clamp (n := w) (by omega), pk_us]
    refine And.intro hin (nm_e (qx_mix (And.intro hin (nm_r (qf_uu _ _ _ _) (And.intro hin (nm_r (by rw [qf_a1]) (qx_mix h)))))))
  · unfold wY_deliver_216
    refine hY _ ?_
    dsimp only
    rw [qf_a3, nI_clamp (by omega)]
    exact And.intro (vp_in_nI (by omega) (by decide)) (nm_r (by rw [qf_a1]) h)
end
end
section
/-! deliver: the component -/
section
variable {f_skipLimit f_storeLimit : Int32} {a_pool a_filled a_root a_sendChain a_recvChain a_hasSend a_hasRecv a_ownExponent a_ownPublic a_peerPublic a_sentCount a_recvNext a_prevLength a_turnDue a_turnsMade a_turnsTaken a_pushedOut a_accepted a_lastWords a_usedList a_usedCount a_knownList a_knownCount a_storePublic a_storeNumber a_storeKey a_storeCount : Nat → Int32} {a_root' a_sendChain' a_recvChain' a_hasSend' a_hasRecv' a_ownExponent' a_ownPublic' a_peerPublic' a_sentCount' a_recvNext' a_prevLength' a_turnDue' a_turnsMade' a_turnsTaken' a_pushedOut' a_usedList' a_usedCount' a_knownList' a_knownCount' a_storePublic' a_storeNumber' a_storeKey' a_storeCount' a_state' a_agreed' a_agreedCount' a_publics' a_chain' a_store' : Nat → Int32}
theorem qx_tt15 {post : SX → Prop} {w pb ex kc tt : Nat} (hw : w < 2) (hb : pb < 2147483647) (hx : ex ≤ 1023) (ee : a_ownExponent w = nI ex) (ec : a_knownCount w = nI kc) (hc : kc < 9) (et : a_turnsTaken w = nI tt) (hp : post (f_skipLimit, f_storeLimit, a_pool, a_filled, upd a_root w (qf_mix (qf_mix (a_root w) (nI (pb ^ ex % 2147483647))) 1), a_sendChain, upd a_recvChain w (qf_mix (qf_mix (a_root w) (nI (pb ^ ex % 2147483647))) 2), a_hasSend, upd a_hasRecv w 1, a_ownExponent, a_ownPublic, upd a_peerPublic w (nI pb), a_sentCount, upd a_recvNext w 0, a_prevLength, upd a_turnDue w 1, a_turnsMade, upd a_turnsTaken w (nI (tt + 1)), a_pushedOut, a_accepted, a_lastWords, a_usedList, a_usedCount, upd a_knownList (w * 9 + kc) (nI pb), upd a_knownCount w (nI (kc + 1)), a_storePublic, a_storeNumber, a_storeKey, a_storeCount)) : wX_takeTurn_15 post (nI w) (nI pb) f_skipLimit f_storeLimit a_pool a_filled a_root a_sendChain a_recvChain a_hasSend a_hasRecv a_ownExponent a_ownPublic a_peerPublic a_sentCount a_recvNext a_prevLength a_turnDue a_turnsMade a_turnsTaken a_pushedOut a_accepted a_lastWords a_usedList a_usedCount a_knownList a_knownCount a_storePublic a_storeNumber a_storeKey a_storeCount := by
  have hin : vp_in (nI w) 2 := vp_in_nI hw (by decide)
  unfold wX_takeTurn_15
  rw [nI_clamp (n := w) (by omega), ee]
  refine And.intro hin (qx_seed hw hb (by omega) (qx_mix (And.intro hin (nm_e (qx_mix (And.intro hin (nm_e (And.intro hin (nm_e (And.intro hin (nm_e (And.intro hin (nm_e (qx_addKnown hw ec hc ?_))))))))))))))
  dsimp only
  rw [et]
  exact And.intro hin (And.intro hin (nm_r (by rw [qf_a1]) (And.intro hin (nm_e hp))))
theorem qx_tkS {post : Int32 → SX → Prop} {w s sc e : Nat} (hw : w < 2) (hs : s < 16) (hc : sc ≤ 12) (es : a_storeCount w = nI sc) (H : qr_fd w sc a_storePublic a_storeNumber (a_pool (s * 6)) (a_pool (s * 6 + 2)) e) (hp : post (a_storeKey (w * 12 + e)) (f_skipLimit, f_storeLimit, a_pool, a_filled, a_root, a_sendChain, a_recvChain, a_hasSend, a_hasRecv, a_ownExponent, a_ownPublic, a_peerPublic, a_sentCount, a_recvNext, a_prevLength, a_turnDue, a_turnsMade, a_turnsTaken, a_pushedOut, a_accepted, a_lastWords, a_usedList, a_usedCount, a_knownList, a_knownCount, qf_sh a_storePublic (w * 12 + e) (w * 12 + (sc - 1)), qf_sh a_storeNumber (w * 12 + e) (w * 12 + (sc - 1)), qf_sh a_storeKey (w * 12 + e) (w * 12 + (sc - 1)), upd a_storeCount w (nI (sc - 1)))) : wpX_takeKey post (f_skipLimit, f_storeLimit, a_pool, a_filled, a_root, a_sendChain, a_recvChain, a_hasSend, a_hasRecv, a_ownExponent, a_ownPublic, a_peerPublic, a_sentCount, a_recvNext, a_prevLength, a_turnDue, a_turnsMade, a_turnsTaken, a_pushedOut, a_accepted, a_lastWords, a_usedList, a_usedCount, a_knownList, a_knownCount, a_storePublic, a_storeNumber, a_storeKey, a_storeCount) (nI w) (nI s) := by
  have he := H.1
  unfold wpX_takeKey
  dsimp only
  rw [qf_m6, qf_a2, nI_clamp (n := s * 6) (by omega), nI_clamp (n := s * 6 + 2) (by omega)]
  refine And.intro (vp_in_nI (by omega) (by decide)) (nm_e (And.intro (vp_in_nI (by omega) (by decide)) (nm_e (qx_findS hw hc es H (br_f (nI_pos (by omega)) ?_)))))
  rw [nI_clamp (by omega)]
  exact And.intro (vp_in_nI (by omega) (by decide)) (nm_e (qx_remove hw hc es he hp))
theorem qx_tkR {post : Int32 → SX → Prop} {w s sc : Nat} (hw : w < 2) (hs : s < 16) (hc : sc ≤ 12) (es : a_storeCount w = nI sc) (H : qr_nf w sc a_storePublic a_storeNumber (a_pool (s * 6)) (a_pool (s * 6 + 2))) (h1 : ¬ a_hasRecv w = 0) (h2 : a_pool (s * 6) = a_peerPublic w) (hp : wX_takeKey_83 post (nI w) (a_pool (s * 6 + 2)) f_skipLimit f_storeLimit a_pool a_filled a_root a_sendChain a_recvChain a_hasSend a_hasRecv a_ownExponent a_ownPublic a_peerPublic a_sentCount a_recvNext a_prevLength a_turnDue a_turnsMade a_turnsTaken a_pushedOut a_accepted a_lastWords a_usedList a_usedCount a_knownList a_knownCount a_storePublic a_storeNumber a_storeKey a_storeCount) : wpX_takeKey post (f_skipLimit, f_storeLimit, a_pool, a_filled, a_root, a_sendChain, a_recvChain, a_hasSend, a_hasRecv, a_ownExponent, a_ownPublic, a_peerPublic, a_sentCount, a_recvNext, a_prevLength, a_turnDue, a_turnsMade, a_turnsTaken, a_pushedOut, a_accepted, a_lastWords, a_usedList, a_usedCount, a_knownList, a_knownCount, a_storePublic, a_storeNumber, a_storeKey, a_storeCount) (nI w) (nI s) := by
  unfold wpX_takeKey
  dsimp only
  rw [qf_m6, qf_a2, nI_clamp (n := s * 6) (by omega), nI_clamp (n := s * 6 + 2) (by omega)]
  exact And.intro (vp_in_nI (by omega) (by decide)) (nm_e (And.intro (vp_in_nI (by omega) (by decide)) (nm_e (qx_findN hw hc es H (br_t (by decide) (qx_inRecv hw (fun _ _ => br_f (by decide) hp) (fun c => by
    rcases c with c | c
    · exact absurd c h1
    · exact absurd h2 c)))))))
theorem qx_tkN {post : Int32 → SX → Prop} {w s sc : Nat} (hw : w < 2) (hs : s < 16) (hc : sc ≤ 12) (es : a_storeCount w = nI sc) (H : qr_nf w sc a_storePublic a_storeNumber (a_pool (s * 6)) (a_pool (s * 6 + 2))) (h1 : a_hasRecv w = 0 ∨ ¬ a_pool (s * 6) = a_peerPublic w) (HT : ∀ q : SX → Prop, q (f_skipLimit, f_storeLimit, a_pool, a_filled, a_root', a_sendChain', a_recvChain', a_hasSend', a_hasRecv', a_ownExponent', a_ownPublic', a_peerPublic', a_sentCount', a_recvNext', a_prevLength', a_turnDue', a_turnsMade', a_turnsTaken', a_pushedOut', a_accepted, a_lastWords, a_usedList', a_usedCount', a_knownList', a_knownCount', a_storePublic', a_storeNumber', a_storeKey', a_storeCount') → wpX_takeTurn q (f_skipLimit, f_storeLimit, a_pool, a_filled, a_root, a_sendChain, a_recvChain, a_hasSend, a_hasRecv, a_ownExponent, a_ownPublic, a_peerPublic, a_sentCount, a_recvNext, a_prevLength, a_turnDue, a_turnsMade, a_turnsTaken, a_pushedOut, a_accepted, a_lastWords, a_usedList, a_usedCount, a_knownList, a_knownCount, a_storePublic, a_storeNumber, a_storeKey, a_storeCount) (nI w) (a_pool (s * 6)) (a_pool (s * 6 + 1))) (hp : wpX_advanceReceiving post (f_skipLimit, f_storeLimit, a_pool, a_filled, a_root', a_sendChain', a_recvChain', a_hasSend', a_hasRecv', a_ownExponent', a_ownPublic', a_peerPublic', a_sentCount', a_recvNext', a_prevLength', a_turnDue', a_turnsMade', a_turnsTaken', a_pushedOut', a_accepted, a_lastWords, a_usedList', a_usedCount', a_knownList', a_knownCount', a_storePublic', a_storeNumber', a_storeKey', a_storeCount') (nI w) (a_pool (s * 6 + 2))) : wpX_takeKey post (f_skipLimit, f_storeLimit, a_pool, a_filled, a_root, a_sendChain, a_recvChain, a_hasSend, a_hasRecv, a_ownExponent, a_ownPublic, a_peerPublic, a_sentCount, a_recvNext, a_prevLength, a_turnDue, a_turnsMade, a_turnsTaken, a_pushedOut, a_accepted, a_lastWords, a_usedList, a_usedCount, a_knownList, a_knownCount, a_storePublic, a_storeNumber, a_storeKey, a_storeCount) (nI w) (nI s) := by
  unfold wpX_takeKey
  dsimp only
  rw [qf_m6, qf_a2, qf_a1, nI_clamp (n := s * 6) (by omega), nI_clamp (n := s * 6 + 2) (by omega), nI_clamp (n := s * 6 + 1) (by omega)]
  refine And.intro (vp_in_nI (by omega) (by decide)) (nm_e (And.intro (vp_in_nI (by omega) (by decide)) (nm_e (qx_findN hw hc es H (br_t (by decide) (qx_inRecv hw (fun a b => ?_) (fun _ => br_t rfl (And.intro (vp_in_nI (by omega) (by decide)) (HT _ ?_)))))))))
  · rcases h1 with c | c
    · exact absurd c a
    · exact absurd b c
  · dsimp only
    unfold wX_takeKey_83
    exact hp
theorem qx_del_n {post : Int32 → SX → Prop} {x r : Int32} (HJ : ∀ q : Int32 → Prop, q r → wpX_judge q (f_skipLimit, f_storeLimit, a_pool, a_filled, a_root, a_sendChain, a_recvChain, a_hasSend, a_hasRecv, a_ownExponent, a_ownPublic, a_peerPublic, a_sentCount, a_recvNext, a_prevLength, a_turnDue, a_turnsMade, a_turnsTaken, a_pushedOut, a_accepted, a_lastWords, a_usedList, a_usedCount, a_knownList, a_knownCount, a_storePublic, a_storeNumber, a_storeKey, a_storeCount) x) (h : ¬ r = 1) (hp : post r (f_skipLimit, f_storeLimit, a_pool, a_filled, a_root, a_sendChain, a_recvChain, a_hasSend, a_hasRecv, a_ownExponent, a_ownPublic, a_peerPublic, a_sentCount, a_recvNext, a_prevLength, a_turnDue, a_turnsMade, a_turnsTaken, a_pushedOut, a_accepted, a_lastWords, a_usedList, a_usedCount, a_knownList, a_knownCount, a_storePublic, a_storeNumber, a_storeKey, a_storeCount)) : wpX_deliver post (f_skipLimit, f_storeLimit, a_pool, a_filled, a_root, a_sendChain, a_recvChain, a_hasSend, a_hasRecv, a_ownExponent, a_ownPublic, a_peerPublic, a_sentCount, a_recvNext, a_prevLength, a_turnDue, a_turnsMade, a_turnsTaken, a_pushedOut, a_accepted, a_lastWords, a_usedList, a_usedCount, a_knownList, a_knownCount, a_storePublic, a_storeNumber, a_storeKey, a_storeCount) x := by
  unfold wpX_deliver
  dsimp only
  exact HJ _ (br_f h hp)
theorem qx_del_1 {post : Int32 → SX → Prop} {s w : Nat} {key : Int32} (hs : s < 16) (hw : w < 2) (ew : a_pool (s * 6 + 5) = nI w) (HJ : ∀ q : Int32 → Prop, q 1 → wpX_judge q (f_skipLimit, f_storeLimit, a_pool, a_filled, a_root, a_sendChain, a_recvChain, a_hasSend, a_hasRecv, a_ownExponent, a_ownPublic, a_peerPublic, a_sentCount, a_recvNext, a_prevLength, a_turnDue, a_turnsMade, a_turnsTaken, a_pushedOut, a_accepted, a_lastWords, a_usedList, a_usedCount, a_knownList, a_knownCount, a_storePublic, a_storeNumber, a_storeKey, a_storeCount) (nI s)) (HT : ∀ q : Int32 → SX → Prop, q key (f_skipLimit, f_storeLimit, a_pool, a_filled, a_root', a_sendChain', a_recvChain', a_hasSend', a_hasRecv', a_ownExponent', a_ownPublic', a_peerPublic', a_sentCount', a_recvNext', a_prevLength', a_turnDue', a_turnsMade', a_turnsTaken', a_pushedOut', a_accepted, a_lastWords, a_usedList', a_usedCount', a_knownList', a_knownCount', a_storePublic', a_storeNumber', a_storeKey', a_storeCount') → wpX_takeKey q (f_skipLimit, f_storeLimit, a_pool, a_filled, a_root, a_sendChain, a_recvChain, a_hasSend, a_hasRecv, a_ownExponent, a_ownPublic, a_peerPublic, a_sentCount, a_recvNext, a_prevLength, a_turnDue, a_turnsMade, a_turnsTaken, a_pushedOut, a_accepted, a_lastWords, a_usedList, a_usedCount, a_knownList, a_knownCount, a_storePublic, a_storeNumber, a_storeKey, a_storeCount) (nI w) (nI s)) (hp : post 1 (f_skipLimit, f_storeLimit, a_pool, a_filled, a_root', a_sendChain', a_recvChain', a_hasSend', a_hasRecv', a_ownExponent', a_ownPublic', a_peerPublic', a_sentCount', a_recvNext', a_prevLength', a_turnDue', a_turnsMade', a_turnsTaken', a_pushedOut', upd a_accepted w (a_accepted w + 1), upd a_lastWords w (a_pool (s * 6 + 3) ^^^ qf_mix key 5), a_usedList', a_usedCount', a_knownList', a_knownCount', a_storePublic', a_storeNumber', a_storeKey', a_storeCount')) : wpX_deliver post (f_skipLimit, f_storeLimit, a_pool, a_filled, a_root, a_sendChain, a_recvChain, a_hasSend, a_hasRecv, a_ownExponent, a_ownPublic, a_peerPublic, a_sentCount, a_recvNext, a_prevLength, a_turnDue, a_turnsMade, a_turnsTaken, a_pushedOut, a_accepted, a_lastWords, a_usedList, a_usedCount, a_knownList, a_knownCount, a_storePublic, a_storeNumber, a_storeKey, a_storeCount) (nI s) := by
  have hin : vp_in (nI w) 2 := vp_in_nI hw (by decide)
  unfold wpX_deliver
  dsimp only
  refine HJ _ (br_t rfl ?_)
  unfold wpX_accept
  dsimp only
  rw [qf_m6, qf_a5, qf_a3, nI_clamp (n := s * 6 + 5) (by omega), nI_clamp (n := s * 6 + 3) (by omega), ew]
  refine And.intro (vp_in_nI (by omega) (by decide)) (nm_e (HT _ ?_))
  dsimp only
  rw [nI_clamp (n := w) (by omega)]
  exact And.intro (vp_in_nI (by omega) (by decide)) (qx_mix (And.intro hin (nm_e (And.intro hin (And.intro hin (nm_e hp))))))
end
end
section
/-! deliver: the reference -/
section
variable {f_shared f_skipLimit f_storeLimit : Int32} {a_pool a_full a_state a_ownExponent a_word a_agreed a_agreedCount a_publics a_chain a_store a_size : Nat → Int32} {a_storePublic a_storeNumber a_storeKey : Nat → Int32}
theorem qy_180 {post : Int32 → SY → Prop} {w pb ex ac n : Nat} (hw : w < 2) (hb : pb < 2147483647) (hx : ex ≤ 1023) (ee : a_ownExponent w = nI ex) (ea : a_agreedCount w = nI ac) (hac : ac < 16) (hp : wY_deliver_216 post (nI n) (nI w) (nI (w * 10)) f_shared f_skipLimit f_storeLimit a_pool a_full (upd (upd (upd (upd a_state (w * 10 + 1) (nI pb)) (w * 10 + 7) (a_state (w * 10 + 7) + 1)) (w * 10 + 5) 1) (w * 10 + 3) 0) a_ownExponent a_word (upd a_agreed (w * 16 + ac) (nI (pb ^ ex % 2147483647))) (upd a_agreedCount w (nI (ac + 1))) (upd a_publics ((2 + w) * 17 + (ac + 1)) (nI pb)) (upd a_chain (2 + w) (nI (ac + 1))) a_store a_size) : wY_deliver_180 post (nI pb) (nI n) (nI w) (nI (w * 10)) f_shared f_skipLimit f_storeLimit a_pool a_full a_state a_ownExponent a_word a_agreed a_agreedCount a_publics a_chain a_store a_size := by
  have hin : vp_in (nI w) 2 := vp_in_nI hw (by decide)
  unfold wY_deliver_180
  rw [nI_clamp (n := w) (by omega), ee]
  refine And.intro hin (qy_pow hb (by omega) (qy_open1 hw ea hac ?_))
  dsimp only
  rw [qf_a3, nI_clamp (by omega)]
  exact And.intro (vp_in_nI (by omega) (by decide)) (nm_e hp)
theorem qy_154a {post : Int32 → SY → Prop} {w : Nat} {x3 x4 x5 x7 : Int32} (hw : w < 2) (hz : a_chain (2 + w) = 0) (hp : wY_deliver_180 post x4 x5 (nI w) x7 f_shared f_skipLimit f_storeLimit a_pool a_full a_state a_ownExponent a_word a_agreed a_agreedCount a_publics a_chain a_store a_size) : wY_deliver_154 post x3 x4 x5 (nI w) x7 f_shared f_skipLimit f_storeLimit a_pool a_full a_state a_ownExponent a_word a_agreed a_agreedCount a_publics a_chain a_store a_size := by
  unfold wY_deliver_154
  rw [qf_2p, nI_clamp (n := 2 + w) (by omega)]
  exact And.intro (vp_in_nI (by omega) (by decide)) (br_t (by rw [hz]; decide) hp)
theorem qy_154b {post : Int32 → SY → Prop} {w s j : Nat} {x4 x5 x7 : Int32} {st2 sto2 sz2 : Nat → Int32} (hw : w < 2) (hs : s < 16) (hj : j < 16) (hz : a_chain (2 + w) = nI (j + 1)) (HS : ∀ q : SY → Prop, q (f_shared, f_skipLimit, f_storeLimit, a_pool, a_full, st2, a_ownExponent, a_word, a_agreed, a_agreedCount, a_publics, a_chain, sto2, sz2) → wpY_skipUpTo q (f_shared, f_skipLimit, f_storeLimit, a_pool, a_full, a_state, a_ownExponent, a_word, a_agreed, a_agreedCount, a_publics, a_chain, a_store, a_size) (nI w) (a_pool (s * 6 + 1))) (hp : wY_deliver_180 post x4 x5 (nI w) x7 f_shared f_skipLimit f_storeLimit a_pool a_full st2 a_ownExponent a_word a_agreed a_agreedCount a_publics a_chain sto2 sz2) : wY_deliver_154 post (nI (s * 6)) x4 x5 (nI w) x7 f_shared f_skipLimit f_storeLimit a_pool a_full a_state a_ownExponent a_word a_agreed a_agreedCount a_publics a_chain a_store a_size := by
  unfold wY_deliver_154
  rw [qf_2p, qf_a1, nI_clamp (n := 2 + w) (by omega), nI_clamp (n := s * 6 + 1) (by omega)]
  exact And.intro (vp_in_nI (by omega) (by decide)) (br_f (by rw [hz]; exact nI_nle (by omega) (by omega)) (And.intro (vp_in_nI (by omega) (by decide)) (HS _ hp)))
theorem qy_del_n {post : Int32 → SY → Prop} {x r : Int32} (HJ : ∀ q : Int32 → Prop, q r → wpY_judge q (f_shared, f_skipLimit, f_storeLimit, a_pool, a_full, a_state, a_ownExponent, a_word, a_agreed, a_agreedCount, a_publics, a_chain, a_store, a_size) x) (h : ¬ r = 1) (hp : post r (f_shared, f_skipLimit, f_storeLimit, a_pool, a_full, a_state, a_ownExponent, a_word, a_agreed, a_agreedCount, a_publics, a_chain, a_store, a_size)) : wpY_deliver post (f_shared, f_skipLimit, f_storeLimit, a_pool, a_full, a_state, a_ownExponent, a_word, a_agreed, a_agreedCount, a_publics, a_chain, a_store, a_size) x := by
  unfold wpY_deliver
  dsimp only
  exact HJ _ (br_f h hp)
theorem qy_del_S {post : Int32 → SY → Prop} {s w sc e : Nat} {key : Int32} (hs : s < 16) (hw : w < 2) (ew : a_pool (s * 6 + 5) = nI w) (HJ : ∀ q : Int32 → Prop, q 1 → wpY_judge q (f_shared, f_skipLimit, f_storeLimit, a_pool, a_full, a_state, a_ownExponent, a_word, a_agreed, a_agreedCount, a_publics, a_chain, a_store, a_size) (nI s)) (HK : ∀ q : Int32 → Prop, q key → wpY_keyFor q (f_shared, f_skipLimit, f_storeLimit, a_pool, a_full, a_state, a_ownExponent, a_word, a_agreed, a_agreedCount, a_publics, a_chain, a_store, a_size) (nI s)) (hc : sc ≤ 12) (es : a_size w = nI sc) (T : qr_st w sc a_storePublic a_storeNumber a_storeKey a_store) (H : qr_fd w sc a_storePublic a_storeNumber (a_pool (s * 6)) (a_pool (s * 6 + 2)) e) (hp : post 1 (f_shared, f_skipLimit, f_storeLimit, a_pool, a_full, upd a_state (w * 10 + 9) (a_state (w * 10 + 9) + 1), a_ownExponent, upd a_word w (a_pool (s * 6 + 3) ^^^ qf_mix key 5), a_agreed, a_agreedCount, a_publics, a_chain, qf_s3 a_store (w * 36 + e * 3) (w * 36 + 33), upd a_size w (nI (sc - 1)))) : wpY_deliver post (f_shared, f_skipLimit, f_storeLimit, a_pool, a_full, a_state, a_ownExponent, a_word, a_agreed, a_agreedCount, a_publics, a_chain, a_store, a_size) (nI s) := by
  have hin : vp_in (nI w) 2 := vp_in_nI hw (by decide)
  have s9 : vp_in (nI (w * 10 + 9)) 20 := vp_in_nI (by omega) (by decide)
  have he := H.1
  unfold wpY_deliver
  dsimp only
  refine HJ _ (br_t rfl (nm_r (qf_m6 s) ?_))
  rw [qf_a2 (s * 6), qf_a3 (s * 6), qf_a5 (s * 6), nI_clamp (n := s * 6) (by omega), nI_clamp (n := s * 6 + 2) (by omega), nI_clamp (n := s * 6 + 3) (by omega), nI_clamp (n := s * 6 + 5) (by omega), ew]
  refine And.intro (vp_in_nI (by omega) (by decide)) (nm_e (And.intro (vp_in_nI (by omega) (by decide)) (nm_e (And.intro (vp_in_nI (by omega) (by decide)) (nm_e (nm_r (qf_m10 w) (HK _ (qy_mix (And.intro (vp_in_nI (by omega) (by decide)) (And.intro hin ?_))))))))))
  rw [qf_a9, nI_clamp (n := w) (by omega), nI_clamp (n := w * 10 + 9) (by omega)]
  refine nm_e (And.intro s9 (And.intro s9 (nm_e (qy_findS hw hc es T H (br_f (nI_pos (by omega)) (qy_remove hw hc es he ?_))))))
  exact hp
theorem qy_del_R {post : Int32 → SY → Prop} {s w sc : Nat} {key : Int32} (hs : s < 16) (hw : w < 2) (ew : a_pool (s * 6 + 5) = nI w) (HJ : ∀ q : Int32 → Prop, q 1 → wpY_judge q (f_shared, f_skipLimit, f_storeLimit, a_pool, a_full, a_state, a_ownExponent, a_word, a_agreed, a_agreedCount, a_publics, a_chain, a_store, a_size) (nI s)) (HK : ∀ q : Int32 → Prop, q key → wpY_keyFor q (f_shared, f_skipLimit, f_storeLimit, a_pool, a_full, a_state, a_ownExponent, a_word, a_agreed, a_agreedCount, a_publics, a_chain, a_store, a_size) (nI s)) (hc : sc ≤ 12) (es : a_size w = nI sc) (T : qr_st w sc a_storePublic a_storeNumber a_storeKey a_store) (H : qr_nf w sc a_storePublic a_storeNumber (a_pool (s * 6)) (a_pool (s * 6 + 2))) (h1 : ¬ a_chain (2 + w) = 0) (h2 : a_pool (s * 6) = a_state (w * 10 + 1)) (hp : wY_deliver_216 post (a_pool (s * 6 + 2)) (nI w) (nI (w * 10)) f_shared f_skipLimit f_storeLimit a_pool a_full (upd a_state (w * 10 + 9) (a_state (w * 10 + 9) + 1)) a_ownExponent (upd a_word w (a_pool (s * 6 + 3) ^^^ qf_mix key 5)) a_agreed a_agreedCount a_publics a_chain a_store a_size) : wpY_deliver post (f_shared, f_skipLimit, f_storeLimit, a_pool, a_full, a_state, a_ownExponent, a_word, a_agreed, a_agreedCount, a_publics, a_chain, a_store, a_size) (nI s) := by
  have hin : vp_in (nI w) 2 := vp_in_nI hw (by decide)
  have s9 : vp_in (nI (w * 10 + 9)) 20 := vp_in_nI (by omega) (by decide)
  unfold wpY_deliver
  dsimp only
  refine HJ _ (br_t rfl (nm_r (qf_m6 s) ?_))
  rw [qf_a2 (s * 6), qf_a3 (s * 6), qf_a5 (s * 6), nI_clamp (n := s * 6) (by omega), nI_clamp (n := s * 6 + 2) (by omega), nI_clamp (n := s * 6 + 3) (by omega), nI_clamp (n := s * 6 + 5) (by omega), ew]
  refine And.intro (vp_in_nI (by omega) (by decide)) (nm_e (And.intro (vp_in_nI (by omega) (by decide)) (nm_e (And.intro (vp_in_nI (by omega) (by decide)) (nm_e (nm_r (qf_m10 w) (HK _ (qy_mix (And.intro (vp_in_nI (by omega) (by decide)) (And.intro hin ?_))))))))))
  rw [qf_a9, qf_2p, qf_a1, nI_clamp (n := w) (by omega), nI_clamp (n := w * 10 + 9) (by omega), nI_clamp (n := 2 + w) (by omega), nI_clamp (n := w * 10 + 1) (by omega)]
  refine nm_e (And.intro s9 (And.intro s9 (nm_e (qy_findN hw hc es T H (br_t (by decide) (And.intro (vp_in_nI (by omega) (by decide)) (br_f h1 (And.intro (vp_in_nI (by omega) (by decide)) (br_t ?_ hp)))))))))
  rw [pk_un (by omega)]
  exact h2
theorem qy_del_N {post : Int32 → SY → Prop} {s w sc : Nat} {key : Int32} (hs : s < 16) (hw : w < 2) (ew : a_pool (s * 6 + 5) = nI w) (HJ : ∀ q : Int32 → Prop, q 1 → wpY_judge q (f_shared, f_skipLimit, f_storeLimit, a_pool, a_full, a_state, a_ownExponent, a_word, a_agreed, a_agreedCount, a_publics, a_chain, a_store, a_size) (nI s)) (HK : ∀ q : Int32 → Prop, q key → wpY_keyFor q (f_shared, f_skipLimit, f_storeLimit, a_pool, a_full, a_state, a_ownExponent, a_word, a_agreed, a_agreedCount, a_publics, a_chain, a_store, a_size) (nI s)) (hc : sc ≤ 12) (es : a_size w = nI sc) (T : qr_st w sc a_storePublic a_storeNumber a_storeKey a_store) (H : qr_nf w sc a_storePublic a_storeNumber (a_pool (s * 6)) (a_pool (s * 6 + 2))) (h1 : a_chain (2 + w) = 0 ∨ ¬ a_pool (s * 6) = a_state (w * 10 + 1)) (hp : wY_deliver_154 post (nI (s * 6)) (a_pool (s * 6)) (a_pool (s * 6 + 2)) (nI w) (nI (w * 10)) f_shared f_skipLimit f_storeLimit a_pool a_full (upd a_state (w * 10 + 9) (a_state (w * 10 + 9) + 1)) a_ownExponent (upd a_word w (a_pool (s * 6 + 3) ^^^ qf_mix key 5)) a_agreed a_agreedCount a_publics a_chain a_store a_size) : wpY_deliver post (f_shared, f_skipLimit, f_storeLimit, a_pool, a_full, a_state, a_ownExponent, a_word, a_agreed, a_agreedCount, a_publics, a_chain, a_store, a_size) (nI s) := by
  have hin : vp_in (nI w) 2 := vp_in_nI hw (by decide)
  have s9 : vp_in (nI (w * 10 + 9)) 20 := vp_in_nI (by omega) (by decide)
  unfold wpY_deliver
  dsimp only
  refine HJ _ (br_t rfl (nm_r (qf_m6 s) ?_))
  rw [qf_a2 (s * 6), qf_a3 (s * 6), qf_a5 (s * 6), nI_clamp (n := s * 6) (by omega), nI_clamp (n := s * 6 + 2) (by omega), nI_clamp (n := s * 6 + 3) (by omega), nI_clamp (n := s * 6 + 5) (by omega), ew]
  refine And.intro (vp_in_nI (by omega) (by decide)) (nm_e (And.intro (vp_in_nI (by omega) (by decide)) (nm_e (And.intro (vp_in_nI (by omega) (by decide)) (nm_e (nm_r (qf_m10 w) (HK _ (qy_mix (And.intro (vp_in_nI (by omega) (by decide)) (And.intro hin ?_))))))))))
  rw [qf_a9, qf_2p, qf_a1, nI_clamp (n := w) (by omega), nI_clamp (n := w * 10 + 9) (by omega), nI_clamp (n := 2 + w) (by omega), nI_clamp (n := w * 10 + 1) (by omega)]
  refine nm_e (And.intro s9 (And.intro s9 (nm_e (qy_findN hw hc es T H (br_t (by decide) (And.intro (vp_in_nI (by omega) (by decide)) (br_c (fun _ => hp) (fun c => And.intro (vp_in_nI (by omega) (by decide)) (br_f ?_ hp)))))))))
  rw [pk_un (by omega)]
  rcases h1 with q | q
  · exact absurd q c
  · exact q
end
end
section
/-! deliver -/
section
variable {f_skipLimit f_storeLimit f_shared : Int32} {a_pool a_filled a_root a_sendChain a_recvChain a_hasSend a_hasRecv a_ownExponent a_ownPublic a_peerPublic a_sentCount a_recvNext a_prevLength a_turnDue a_turnsMade a_turnsTaken a_pushedOut a_accepted a_lastWords a_usedList a_usedCount a_knownList a_knownCount a_storePublic a_storeNumber a_storeKey a_storeCount a_state b_word a_agreed a_agreedCount a_publics a_chain a_store : Nat → Int32}
theorem qo_st9F {lim w ns nr tm tt sc ex pp : Nat} {x : Int32} (F : qr_F lim w ns nr tm tt sc ex pp f_shared a_root a_sendChain a_recvChain a_hasSend a_hasRecv a_ownExponent a_ownPublic a_peerPublic a_sentCount a_recvNext a_prevLength a_turnDue a_turnsMade a_turnsTaken a_pushedOut a_usedList a_usedCount a_knownList a_knownCount a_storePublic a_storeNumber a_storeKey a_storeCount a_state a_agreed a_agreedCount a_publics a_chain a_store) : qr_F lim w ns nr tm tt sc ex pp f_shared a_root a_sendChain a_recvChain a_hasSend a_hasRecv a_ownExponent a_ownPublic a_peerPublic a_sentCount a_recvNext a_prevLength a_turnDue a_turnsMade a_turnsTaken a_pushedOut a_usedList a_usedCount a_knownList a_knownCount a_storePublic a_storeNumber a_storeKey a_storeCount (upd a_state (w * 10 + 9) x) a_agreed a_agreedCount a_publics a_chain a_store := by
  obtain ⟨hB, hV, ⟨p0, p1, p2, p3, p4, p5, p6, p7, p8⟩, hF⟩ := F
  refine ⟨hB, hV, ?_, hF⟩
  refine ⟨?_, ?_, ?_, ?_, ?_, ?_, ?_, ?_, ?_⟩ <;> simp (disch := omega) only [pk_un, p0, p1, p2, p3, p4, p5, p6, p7, p8]
/-- what a new chain does to the old one -/
theorem qj_pre {lim w s pn ns nr tm tt sc ex pp : Nat} (hl1 : 1 ≤ lim) (hl : lim ≤ 12) (el : f_storeLimit = nI lim) (hw : w < 2) (hs : s < 16) (hpn : pn ≤ 12) (epn : a_pool (s * 6 + 1) = nI pn) (R : qr_R lim f_shared a_root a_sendChain a_recvChain a_hasSend a_hasRecv a_ownExponent a_ownPublic a_peerPublic a_sentCount a_recvNext a_prevLength a_turnDue a_turnsMade a_turnsTaken a_pushedOut a_usedList a_usedCount a_knownList a_knownCount a_storePublic a_storeNumber a_storeKey a_storeCount a_state a_agreed a_agreedCount a_publics a_chain a_store) (F : qr_F lim w ns nr tm tt sc ex pp f_shared a_root a_sendChain a_recvChain a_hasSend a_hasRecv a_ownExponent a_ownPublic a_peerPublic a_sentCount a_recvNext a_prevLength a_turnDue a_turnsMade a_turnsTaken a_pushedOut a_usedList a_usedCount a_knownList a_knownCount a_storePublic a_storeNumber a_storeKey a_storeCount a_state a_agreed a_agreedCount a_publics a_chain a_store) (hq : ¬ a_hasRecv w = 0 → nr ≤ pn) :
    ∃ rx a_pushedOut' a_storePublic' a_storeNumber' a_storeKey' a_storeCount' a_state' a_store' : Nat → Int32, qr_R lim f_shared a_root a_sendChain a_recvChain a_hasSend a_hasRecv a_ownExponent a_ownPublic a_peerPublic a_sentCount a_recvNext a_prevLength a_turnDue a_turnsMade a_turnsTaken a_pushedOut' a_usedList a_usedCount a_knownList a_knownCount a_storePublic' a_storeNumber' a_storeKey' a_storeCount' a_state' a_agreed a_agreedCount a_publics a_chain a_store' ∧ (∀ c, c ≠ w * 10 + 8 → a_state' c = a_state c) ∧ (∀ y : Int32, upd rx w y = upd a_recvChain w y) ∧
      (∀ (post : SX → Prop) (x2 : Int32), wX_takeTurn_15 post (nI w) x2 f_skipLimit f_storeLimit a_pool a_filled a_root a_sendChain rx a_hasSend a_hasRecv a_ownExponent a_ownPublic a_peerPublic a_sentCount a_recvNext a_prevLength a_turnDue a_turnsMade a_turnsTaken a_pushedOut' a_accepted a_lastWords a_usedList a_usedCount a_knownList a_knownCount a_storePublic' a_storeNumber' a_storeKey' a_storeCount' → wpX_takeTurn post (f_skipLimit, f_storeLimit, a_pool, a_filled, a_root, a_sendChain, a_recvChain, a_hasSend, a_hasRecv, a_ownExponent, a_ownPublic, a_peerPublic, a_sentCount, a_recvNext, a_prevLength, a_turnDue, a_turnsMade, a_turnsTaken, a_pushedOut, a_accepted, a_lastWords, a_usedList, a_usedCount, a_knownList, a_knownCount, a_storePublic, a_storeNumber, a_storeKey, a_storeCount) (nI w) x2 (nI pn)) ∧
      (∀ (post : Int32 → SY → Prop) (x4 x5 : Int32), wY_deliver_180 post x4 x5 (nI w) (nI (w * 10)) f_shared f_skipLimit f_storeLimit a_pool a_filled a_state' a_ownExponent b_word a_agreed a_agreedCount a_publics a_chain a_store' a_storeCount' → wY_deliver_154 post (nI (s * 6)) x4 x5 (nI w) (nI (w * 10)) f_shared f_skipLimit f_storeLimit a_pool a_filled a_state a_ownExponent b_word a_agreed a_agreedCount a_publics a_chain a_store a_storeCount) := by
  have hin : vp_in (nI w) 2 := vp_in_nI hw (by decide)
  have hC := F.2.2.2.2.2.1
  have hac : tm + tt ≤ 16 := by
    have b3 : tm ≤ 8 := F.1.2.2.1
    have b4 : tt ≤ 8 := F.1.2.2.2.1
    omega
  rcases hC with ⟨h1, h2⟩ | ⟨j, hj, h1, h2, h3⟩
  · refine ⟨a_recvChain, a_pushedOut, a_storePublic, a_storeNumber, a_storeKey, a_storeCount, a_state, a_store, R, fun c _ => rfl, fun y => rfl, fun post x2 h => ?_, fun post x4 x5 h => qy_154a hw h2 h⟩
    unfold wpX_takeTurn
    dsimp only
    rw [nI_clamp (n := w) (by omega)]
    exact And.intro hin (br_t h1 h)
  · have c1 : ¬ a_hasRecv w = 0 := by rw [h1]; decide
    obtain ⟨a_pushedOut', a_storePublic', a_storeNumber', a_storeKey', a_storeCount', a_state', a_store', R3, fr, hX, hY⟩ := qj_skip (f_skipLimit := f_skipLimit) (a_pool := a_pool) (a_filled := a_filled) (a_accepted := a_accepted) (a_lastWords := a_lastWords) (b_word := b_word) hl1 hl el hw hpn R F hj h2 h3 (hq c1)
    refine ⟨upd a_recvChain w (qf_link (qf_start f_shared a_agreed w j) pn), a_pushedOut', a_storePublic', a_storeNumber', a_storeKey', a_storeCount', a_state', a_store', R3, fr, fun y => qf_uu _ _ _ _, fun post x2 h => ?_, fun post x4 x5 h => qy_154b hw hs (by omega) h2 (fun q hq => by rw [epn]; exact hY q hq) h⟩
    unfold wpX_takeTurn
    dsimp only
    rw [nI_clamp (n := w) (by omega)]
    exact And.intro hin (br_f c1 (hX _ h))
end
theorem i_vc_deliver {k : Nat} {u : SX} {v : SY} (I : i_Rel k u v) (hk : k + 4 ≤ 2052) (v1 : Int32) : wpX_deliver (fun r u' => wpY_deliver (fun r' v' => r' = r ∧ i_Rel (k + 4) u' v') v v1) u v1 := by
  refine qr_el (P := fun u v => wpX_deliver (fun r u' => wpY_deliver (fun r' v' => r' = r ∧ i_Rel (k + 4) u' v') v v1) u v1) I ?_
  intro f_skipLimit f_storeLimit f_shared a_pool a_filled a_root a_sendChain a_recvChain a_hasSend a_hasRecv a_ownExponent a_ownPublic a_peerPublic a_sentCount a_recvNext a_prevLength a_turnDue a_turnsMade a_turnsTaken a_pushedOut a_accepted a_lastWords a_usedList a_usedCount a_knownList a_knownCount a_storePublic a_storeNumber a_storeKey a_storeCount a_state a_agreed a_agreedCount a_publics a_chain a_store lim G A R
  have J : i_Rel (k + 4) (f_skipLimit, f_storeLimit, a_pool, a_filled, a_root, a_sendChain, a_recvChain, a_hasSend, a_hasRecv, a_ownExponent, a_ownPublic, a_peerPublic, a_sentCount, a_recvNext, a_prevLength, a_turnDue, a_turnsMade, a_turnsTaken, a_pushedOut, a_accepted, a_lastWords, a_usedList, a_usedCount, a_knownList, a_knownCount, a_storePublic, a_storeNumber, a_storeKey, a_storeCount) (f_shared, f_skipLimit, f_storeLimit, a_pool, a_filled, a_state, a_ownExponent, a_lastWords, a_agreed, a_agreedCount, a_publics, a_chain, a_store, a_storeCount) := qr_in G A R
  obtain ⟨r, hJX, hJY, hOK⟩ := qj_judge (x := v1) (a_filled := a_filled) (a_accepted := a_accepted) (a_lastWords := a_lastWords) (b_word := a_lastWords) G R
  by_cases e1 : r = 1
  rotate_left
  · exact qx_del_n hJX e1 (qy_del_n hJY e1 ⟨rfl, J⟩)
  subst e1
  obtain ⟨s, w, pb, pn, n, ns, nr, tm, tt, sc, ex, pp, ⟨hs, hv, hf⟩, hw, ew, ⟨hb1, hb2, eb⟩, ⟨hpn, epn⟩, ⟨hn, en⟩, F, C⟩ := hOK rfl
  subst hv
  have G0 := G
  obtain ⟨_, hl1, hl, el, _⟩ := G
  have R1 := qo_st9 (x := a_state (w * 10 + 9) + 1) hl hw R
  have F1 := qo_st9F (x := a_state (w * 10 + 9) + 1) F
  obtain ⟨⟨b1, b2, b3, b4, b5, b6, b7⟩, ⟨w1, w2, w3, w4, w5, w6, w7, w8, w9, w10, w11⟩, ⟨p0, p1, p2, p3, p4, p5, p6, p7, p8⟩, hR, hS, hC, hU, hK, hT⟩ := F
  have hc : sc ≤ 12 := by omega
  have A1 : ∀ st' : Nat → Int32, (∀ c, c < 2 → st' (c * 10 + 9) = upd a_state (w * 10 + 9) (a_state (w * 10 + 9) + 1) (c * 10 + 9)) → qr_A (upd a_accepted w (a_accepted w + 1)) st' := by
    intro st' h w' hw'
    rw [h w' hw']
    by_cases q : w' = w
    · subst q
      rw [pk_us, pk_us, A w' hw']
    · rw [pk_un (by omega), pk_un q]
      exact A w' hw'
  rcases C with ⟨e, he⟩ | ⟨nf, c1, c2, c3⟩ | ⟨nf, c1, c2, c3⟩
  · have R2 := qo_rm hl hw R1 F1 he.1
    have HT : ∀ q : Int32 → SX → Prop, q (a_storeKey (w * 12 + e)) (f_skipLimit, f_storeLimit, a_pool, a_filled, a_root, a_sendChain, a_recvChain, a_hasSend, a_hasRecv, a_ownExponent, a_ownPublic, a_peerPublic, a_sentCount, a_recvNext, a_prevLength, a_turnDue, a_turnsMade, a_turnsTaken, a_pushedOut, a_accepted, a_lastWords, a_usedList, a_usedCount, a_knownList, a_knownCount, qf_sh a_storePublic (w * 12 + e) (w * 12 + (sc - 1)), qf_sh a_storeNumber (w * 12 + e) (w * 12 + (sc - 1)), qf_sh a_storeKey (w * 12 + e) (w * 12 + (sc - 1)), upd a_storeCount w (nI (sc - 1))) → wpX_takeKey q (f_skipLimit, f_storeLimit, a_pool, a_filled, a_root, a_sendChain, a_recvChain, a_hasSend, a_hasRecv, a_ownExponent, a_ownPublic, a_peerPublic, a_sentCount, a_recvNext, a_prevLength, a_turnDue, a_turnsMade, a_turnsTaken, a_pushedOut, a_accepted, a_lastWords, a_usedList, a_usedCount, a_knownList, a_knownCount, a_storePublic, a_storeNumber, a_storeKey, a_storeCount) (nI w) (nI s) := fun q hq => qx_tkS hw hs hc w5 he hq
    exact qx_del_1 hs hw ew hJX HT (qy_del_S hs hw ew hJY (fun q hq => qy_kfS hs hw ew hc w5 hT he hq) hc w5 hT he ⟨rfl, qr_in G0 (A1 _ (fun c _ => rfl)) R2⟩)
  · rcases hC with ⟨h1, _⟩ | ⟨j, hj, h1, h2, h3⟩
    · exact absurd h1 c1
    obtain ⟨a_recvChain', a_recvNext', a_pushedOut', a_storePublic', a_storeNumber', a_storeKey', a_storeCount', a_state', a_store', R3, fr, hX, hY⟩ := qj_adv (f_skipLimit := f_skipLimit) (a_pool := a_pool) (a_filled := a_filled) (a_accepted := a_accepted) (a_lastWords := a_lastWords) (b_word := upd a_lastWords w (a_pool (s * 6 + 3) ^^^ qf_mix (qf_key (qf_start f_shared a_agreed w j) n) 5)) hl1 hl el hw hn R1 F1 hj h1 h2 h3 c3
    have HT : ∀ q : Int32 → SX → Prop, q (qf_key (qf_start f_shared a_agreed w j) n) (f_skipLimit, f_storeLimit, a_pool, a_filled, a_root, a_sendChain, a_recvChain', a_hasSend, a_hasRecv, a_ownExponent, a_ownPublic, a_peerPublic, a_sentCount, a_recvNext', a_prevLength, a_turnDue, a_turnsMade, a_turnsTaken, a_pushedOut', a_accepted, a_lastWords, a_usedList, a_usedCount, a_knownList, a_knownCount, a_storePublic', a_storeNumber', a_storeKey', a_storeCount') → wpX_takeKey q (f_skipLimit, f_storeLimit, a_pool, a_filled, a_root, a_sendChain, a_recvChain, a_hasSend, a_hasRecv, a_ownExponent, a_ownPublic, a_peerPublic, a_sentCount, a_recvNext, a_prevLength, a_turnDue, a_turnsMade, a_turnsTaken, a_pushedOut, a_accepted, a_lastWords, a_usedList, a_usedCount, a_knownList, a_knownCount, a_storePublic, a_storeNumber, a_storeKey, a_storeCount) (nI w) (nI s) := fun q hq => by
      refine qx_tkR hw hs hc w5 nf c1 c2 ?_
      unfold wX_takeKey_83
      rw [en]
      exact hX _ hq
    refine qx_del_1 hs hw ew hJX HT (qy_del_R hs hw ew hJY (fun q hq => qy_kfR hs hw ew hc w5 hT nf (by omega) h2 (c2.trans p1.symm) (by omega) en hq) hc w5 hT nf (by rw [h2]; exact nI_ne0 (by omega) (by omega)) (c2.trans p1.symm) ?_)
    rw [en]
    exact hY _ ⟨rfl, qr_in G0 (A1 _ fr) R3⟩
  · have hz : a_chain (2 + w) = 0 ∨ ¬ a_pool (s * 6) = a_state (w * 10 + 1) := by
      rcases hC with ⟨h1, h2⟩ | ⟨j, hj, h1, h2, h3⟩
      · exact Or.inl h2
      · rcases c1 with q | q
        · rw [h1] at q; exact absurd q (by decide)
        · exact Or.inr (by rw [p1]; exact q)
    obtain ⟨rx, a_pushedOut', a_storePublic', a_storeNumber', a_storeKey', a_storeCount', a_state', a_store', R2, fr2, hu, hX2, hY2⟩ := qj_pre (f_skipLimit := f_skipLimit) (a_filled := a_filled) (a_accepted := a_accepted) (a_lastWords := a_lastWords) (b_word := upd a_lastWords w (a_pool (s * 6 + 3) ^^^ qf_mix (qf_key (qf_mix (a_root w) (nI (pb ^ ex % 2147483647))) n) 5)) hl1 hl el hw hs hpn epn R1 F1 c3
    obtain ⟨ns2, nr2, tm2, tt2, sc2, ex2, pp2, F2⟩ := R2 w hw
    have t2 : a_turnsTaken w = nI tt2 := F2.2.1.2.2.2.1
    have k2 : a_knownCount w = nI (tt2 + (1 - w)) := F2.2.1.2.2.2.2.2.2.2.2.1
    have g2 : a_agreedCount w = nI (tm2 + tt2) := F2.2.1.2.2.2.2.2.2.2.2.2.1
    have b32 : tm2 ≤ 8 := F2.1.2.2.1
    have b42 : tt2 ≤ 8 := F2.1.2.2.2.1
    have ett : tt2 = tt := (nI_eq (by omega) (by omega)).mp (t2.symm.trans w4)
    have hR2 : a_root w = qf_root f_shared a_agreed w (tm2 + tt2) := F2.2.2.2.1
    have R3 := qo_peer (d := nI (pb ^ ex % 2147483647)) hl hw R2 F2 (by omega) hb1 hb2
    obtain ⟨ns3, nr3, tm3, tt3, sc3, ex3, pp3, F3⟩ := R3 w hw
    have en3 : nr3 = 0 := by
      have z : upd a_recvNext w 0 w = nI nr3 := F3.2.1.2.1
      have z2 : nr3 ≤ 12 := F3.1.2.1
      rw [pk_us] at z
      exact ((nI_eq (a := 0) (by omega) (by omega)).mp z).symm
    have b33 : tm3 ≤ 8 := F3.1.2.2.1
    have b43 : tt3 ≤ 8 := F3.1.2.2.2.1
    rcases F3.2.2.2.2.2.1 with ⟨h1, _⟩ | ⟨j, hj, h1, h2, h3⟩
    · rw [pk_us] at h1
      exact absurd h1 (by decide)
    have ej : j = tm2 + tt2 := by
      have z := h2
      rw [pk_us, nI_eq (by omega) (by omega)] at z
      omega
    have eS : qf_start f_shared (upd a_agreed (w * 16 + (tm2 + tt2)) (nI (pb ^ ex % 2147483647))) w j = qf_mix (a_root w) (nI (pb ^ ex % 2147483647)) := by
      rw [ej, qf_start, pk_us, qf_root_c (fun i hi => pk_un (by omega)), hR2]
    obtain ⟨r4, x4, o4, s4, t4, k4, c4, st4, so4, R4, fr4, hX4, hY4⟩ := qj_adv (f_skipLimit := f_skipLimit) (a_pool := a_pool) (a_filled := a_filled) (a_accepted := a_accepted) (a_lastWords := a_lastWords) (b_word := upd a_lastWords w (a_pool (s * 6 + 3) ^^^ qf_mix (qf_key (qf_mix (a_root w) (nI (pb ^ ex % 2147483647))) n) 5)) hl1 hl el hw hn R3 F3 hj h1 h2 h3 (by omega)
    rw [eS] at hX4
    have HT1 : ∀ q' : SX → Prop, q' (f_skipLimit, f_storeLimit, a_pool, a_filled, upd a_root w (qf_mix (qf_mix (a_root w) (nI (pb ^ ex % 2147483647))) 1), a_sendChain, upd a_recvChain w (qf_mix (qf_mix (a_root w) (nI (pb ^ ex % 2147483647))) 2), a_hasSend, upd a_hasRecv w 1, a_ownExponent, a_ownPublic, upd a_peerPublic w (nI pb), a_sentCount, upd a_recvNext w 0, a_prevLength, upd a_turnDue w 1, a_turnsMade, upd a_turnsTaken w (nI (tt2 + 1)), a_pushedOut', a_accepted, a_lastWords, a_usedList, a_usedCount, upd a_knownList (w * 9 + (tt2 + (1 - w))) (nI pb), upd a_knownCount w (nI (tt2 + (1 - w) + 1)), a_storePublic', a_storeNumber', a_storeKey', a_storeCount') → wpX_takeTurn q' (f_skipLimit, f_storeLimit, a_pool, a_filled, a_root, a_sendChain, a_recvChain, a_hasSend, a_hasRecv, a_ownExponent, a_ownPublic, a_peerPublic, a_sentCount, a_recvNext, a_prevLength, a_turnDue, a_turnsMade, a_turnsTaken, a_pushedOut, a_accepted, a_lastWords, a_usedList, a_usedCount, a_knownList, a_knownCount, a_storePublic, a_storeNumber, a_storeKey, a_storeCount) (nI w) (a_pool (s * 6)) (a_pool (s * 6 + 1)) := fun q' hq' => by
      rw [eb, epn]
      refine hX2 _ _ (qx_tt15 hw hb2 b6 w6 k2 (by omega) t2 ?_)
      rw [hu]
      exact hq'
    have HT : ∀ q : Int32 → SX → Prop, q (qf_key (qf_mix (a_root w) (nI (pb ^ ex % 2147483647))) n) (f_skipLimit, f_storeLimit, a_pool, a_filled, upd a_root w (qf_mix (qf_mix (a_root w) (nI (pb ^ ex % 2147483647))) 1), a_sendChain, r4, a_hasSend, upd a_hasRecv w 1, a_ownExponent, a_ownPublic, upd a_peerPublic w (nI pb), a_sentCount, x4, a_prevLength, upd a_turnDue w 1, a_turnsMade, upd a_turnsTaken w (nI (tt2 + 1)), o4, a_accepted, a_lastWords, a_usedList, a_usedCount, upd a_knownList (w * 9 + (tt2 + (1 - w))) (nI pb), upd a_knownCount w (nI (tt2 + (1 - w) + 1)), s4, t4, k4, c4) → wpX_takeKey q (f_skipLimit, f_storeLimit, a_pool, a_filled, a_root, a_sendChain, a_recvChain, a_hasSend, a_hasRecv, a_ownExponent, a_ownPublic, a_peerPublic, a_sentCount, a_recvNext, a_prevLength, a_turnDue, a_turnsMade, a_turnsTaken, a_pushedOut, a_accepted, a_lastWords, a_usedList, a_usedCount, a_knownList, a_knownCount, a_storePublic, a_storeNumber, a_storeKey, a_storeCount) (nI w) (nI s) := fun q hq => by
      refine qx_tkN hw hs hc w5 nf c1 HT1 ?_
      rw [en]
      exact hX4 q hq
    refine qx_del_1 hs hw ew hJX HT (qy_del_N hs hw ew hJY (key := qf_key (qf_mix (a_root w) (nI (pb ^ ex % 2147483647))) n) (fun q hq => ?_) hc w5 hT nf hz ?_)
    · rw [hR] at hq
      exact qy_kfN hs hw ew hc w5 hT nf hz hb2 eb b6 w6 (by omega) w10 (by omega) en hq
    · rw [eb, en]
      refine hY2 _ _ _ (qy_180 hw hb2 b6 w6 g2 (by omega) ?_)
      refine hY4 _ ⟨rfl, qr_in G0 (A1 _ (fun c hc => ?_)) R4⟩
      rw [fr4 c hc, pk_un (by omega), pk_un (by omega), pk_un (by omega), pk_un (by omega)]
      exact fr2 _ (by omega)
end
