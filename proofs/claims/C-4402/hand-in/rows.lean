section
section SSA
theorem pk_us {f : Nat → Int32} {k : Nat} {x : Int32} : upd f k x k = x := if_pos rfl
theorem pk_un {f : Nat → Int32} {k j : Nat} {x : Int32} (h : j ≠ k) : upd f k x j = f j := if_neg h
theorem pk_sub {a b : Nat} (h : b ≤ a) : nI a - nI b = nI (a - b) := by
  obtain ⟨c, rfl⟩ : ∃ c, a = c + b := ⟨a - b, by omega⟩
  rw [← nI_add, Int32.add_sub_cancel, Nat.add_sub_cancel]
theorem pk_m1 (n : Nat) : nI (n + 1) + (-1) = nI n := by
  rw [← nI_1, Int32.add_assoc, show (1 : Int32) + (-1) = 0 from rfl, Int32.add_zero]
theorem pk_mul (a b : Nat) : nI a * nI b = nI (a * b) := (Int32.ofNat_mul a b).symm
theorem pk_div {a d : Nat} (ha : a < 2 ^ 31) (h0 : 0 < d) (hd : d < 2 ^ 31) : nI a / nI d = nI (a / d) := by
  apply Int32.toInt_inj.mp
  rw [lg_idiv_nonneg (by rw [nI_toInt ha]; omega) (by rw [nI_toInt hd]; omega), nI_toInt ha, nI_toInt hd, nI_toInt (Nat.lt_of_le_of_lt (Nat.div_le_self a d) ha)]
  first | rfl | exact (Int.natCast_ediv _ _).symm
theorem pk_rem {a d : Nat} (ha : a < 2 ^ 31) (h0 : 0 < d) (hd : d < 2 ^ 31) : nI a - nI a / nI d * nI d = nI (a % d) := by
  rw [pk_div ha h0 hd, pk_mul, pk_sub (Nat.div_mul_le_self a d)]
  exact congrArg nI (by have := Nat.div_add_mod' a d; omega)
theorem pk_sub_toInt {a b : Nat} (ha : a < 2 ^ 30) (hb : b < 2 ^ 30) : (nI a - nI b).toInt = (a : Int) - b := by
  rw [Int32.toInt_sub, nI_toInt (by omega), nI_toInt (by omega)]
  exact Int.bmod_eq_of_le (by omega) (by omega)
theorem pk_sneg {a b : Nat} (hb : b < 2 ^ 30) (h : a < b) : nI a - nI b < 0 := by
  rw [Int32.lt_iff_toInt_lt, pk_sub_toInt (by omega) hb, show (0 : Int32).toInt = 0 from by decide]
  omega
theorem pk_ix (x : Int32) {n : Nat} (hn : n < 2 ^ 31) : x < 0 ∨ nI n ≤ x ∨ ∃ j : Nat, j < n ∧ x = nI j := by
  by_cases h : x < 0
  · exact Or.inl h
  · obtain ⟨j, hj, rfl⟩ := nI_of h
    by_cases h2 : j < n
    · exact Or.inr (Or.inr ⟨j, h2, rfl⟩)
    · exact Or.inr (Or.inl (nI_le (by omega) hj))
theorem pk_le {x y : Int32} {A B : Prop} (a b : Nat) (f : a ≤ b → A) (g : b < a → B) (hx : x = nI a := by rfl) (hy : y = nI b := by rfl) (ha : a < 2 ^ 31 := by omega) (hb : b < 2 ^ 31 := by omega) : (x ≤ y → A) ∧ (¬ x ≤ y → B) := by
  subst hx hy
  rw [nI_leI ha hb]
  exact ⟨f, fun z => g (by omega)⟩
theorem pk_lt {x y : Int32} {A B : Prop} (a b : Nat) (f : a < b → A) (g : b ≤ a → B) (hx : x = nI a := by rfl) (hy : y = nI b := by rfl) (ha : a < 2 ^ 31 := by omega) (hb : b < 2 ^ 31 := by omega) : (x < y → A) ∧ (¬ x < y → B) := by
  subst hx hy
  rw [nI_ltI ha hb]
  exact ⟨f, fun z => g (by omega)⟩
theorem pk_eq {x y : Int32} {A B : Prop} (a b : Nat) (f : a = b → A) (g : a ≠ b → B) (hx : x = nI a := by rfl) (hy : y = nI b := by rfl) (ha : a < 2 ^ 31 := by omega) (hb : b < 2 ^ 31 := by omega) : (x = y → A) ∧ (¬ x = y → B) := by
  subst hx hy
  rw [nI_eq ha hb]
  exact ⟨f, g⟩
theorem pk_in {x : Int32} (n N : Nat) (h : n < N) (hx : x = nI n := by rfl) (hN : N < 2 ^ 31 := by omega) : vp_in x N := by
  subst hx
  exact vp_in_nI h hN
theorem pk_cl {x : Int32} (n : Nat) (hx : x = nI n := by rfl) (h : n < 2 ^ 31 := by omega) : x.toNatClampNeg = n := by
  subst hx
  exact nI_clamp h
theorem pk_tn {n : Nat} (h : n < 2 ^ 32) : (nI n).toBitVec.toNat = n := Nat.mod_eq_of_lt h
theorem pk_and (x : Int32) {m : Int32} (k : Nat) (hm : m.toBitVec.toNat = 2 ^ k - 1) : x &&& m = nI (x.toBitVec.toNat % 2 ^ k) := by
  apply Int32.toBitVec_inj.mp
  apply BitVec.eq_of_toNat_eq
  rw [Int32.toBitVec_and, BitVec.toNat_and, hm, Nat.and_two_pow_sub_one_eq_mod]
  show _ = (BitVec.ofNat 32 _).toNat
  rw [BitVec.toNat_ofNat]
  exact (Nat.mod_eq_of_lt (Nat.lt_of_le_of_lt (Nat.mod_le _ _) x.toBitVec.isLt)).symm
theorem pk_andN {n : Nat} (h : n < 2 ^ 32) {m : Int32} (k : Nat) (hm : m.toBitVec.toNat = 2 ^ k - 1) : nI n &&& m = nI (n % 2 ^ k) := by
  rw [pk_and _ k hm, pk_tn h]
theorem pk_andE (x : Int32) {m : Int32} (k : Nat) (hm : m.toBitVec.toNat = 2 ^ k - 1) : ∃ j : Nat, j < 2 ^ k ∧ x &&& m = nI j := ⟨_, Nat.mod_lt _ (Nat.two_pow_pos k), pk_and x k hm⟩
theorem pk_andIn (x : Int32) {m : Int32} (k : Nat) (hm : m.toBitVec.toNat = 2 ^ k - 1) (hk : k ≤ 30) : vp_in (x &&& m) (2 ^ k) := by
  obtain ⟨j, hj, e⟩ := pk_andE x k hm
  rw [e]
  exact vp_in_nI hj (Nat.lt_of_le_of_lt (Nat.pow_le_pow_right (by decide) hk) (by decide))
theorem pk_shl (a s : Int32) (k : Nat) (hs : (s.toBitVec.smod 32).toNat = k) : (a <<< s).toBitVec.toNat = a.toBitVec.toNat * 2 ^ k % 2 ^ 32 := by
  show (a.toBitVec <<< (s.toBitVec.smod 32).toNat).toNat = _
  rw [hs, BitVec.toNat_shiftLeft, Nat.shiftLeft_eq]
theorem pk_shlN {n : Nat} (s : Int32) (k : Nat) (hs : (s.toBitVec.smod 32).toNat = k) (h : n * 2 ^ k < 2 ^ 32) : nI n <<< s = nI (n * 2 ^ k) := by
  apply Int32.toBitVec_inj.mp
  apply BitVec.eq_of_toNat_eq
  have hn : n < 2 ^ 32 := Nat.lt_of_le_of_lt (Nat.le_mul_of_pos_right n (Nat.two_pow_pos k)) h
  rw [pk_shl _ _ k hs, pk_tn hn, pk_tn h, Nat.mod_eq_of_lt h]
theorem pk_shr (a s : Int32) (k : Nat) (hs : (s.toBitVec.smod 32).toNat = k) : (a >>> s).toInt = a.toInt >>> k := by
  show (a.toBitVec.sshiftRight (s.toBitVec.smod 32).toNat).toInt = _
  rw [hs, BitVec.toInt_sshiftRight]
  rfl
theorem pk_shrN {n : Nat} (h : n < 2 ^ 31) (s : Int32) (k : Nat) (hs : (s.toBitVec.smod 32).toNat = k) : nI n >>> s = nI (n / 2 ^ k) := by
  apply Int32.toInt_inj.mp
  have h2 : n / 2 ^ k ≤ n := Nat.div_le_self _ _
  rw [pk_shr _ _ k hs, nI_toInt h, nI_toInt (by omega), Int.shiftRight_eq_div_pow]
  rfl
theorem pk_ushr (x s : Int32) (k : Nat) (hs : ((s.toUInt32 &&& Int32.toUInt32 31).toBitVec % 32).toNat = k) : (x.toUInt32 >>> (s.toUInt32 &&& Int32.toUInt32 31)).toInt32.toBitVec.toNat = x.toBitVec.toNat / 2 ^ k := by
  have e : (x.toUInt32 >>> (s.toUInt32 &&& Int32.toUInt32 31)).toInt32.toBitVec = x.toBitVec >>> k := by
    rw [← hs]
    exact UInt32.toBitVec_shiftRight _ _
  rw [e, BitVec.toNat_ushiftRight, Nat.shiftRight_eq_div_pow]
theorem pk_ushrN {n : Nat} (hn : n < 2 ^ 32) (s : Int32) (k : Nat) (hs : ((s.toUInt32 &&& Int32.toUInt32 31).toBitVec % 32).toNat = k) : ((nI n).toUInt32 >>> (s.toUInt32 &&& Int32.toUInt32 31)).toInt32 = nI (n / 2 ^ k) := by
  apply Int32.toBitVec_inj.mp
  apply BitVec.eq_of_toNat_eq
  rw [pk_ushr _ s k hs, pk_tn hn, pk_tn (Nat.lt_of_le_of_lt (Nat.div_le_self _ _) hn)]
/-! ===== Int32 by its bits: bt x i ===== -/
def bt (x : Int32) (i : Nat) : Bool := x.toBitVec.getLsbD i
theorem b_ext {x y : Int32} (h : ∀ i, i < 32 → bt x i = bt y i) : x = y := Int32.toBitVec_inj.mp (BitVec.eq_of_getLsbD_eq (fun i hi => h i hi))
theorem b_or (x y : Int32) (i : Nat) : bt (x ||| y) i = (bt x i || bt y i) := by unfold bt; rw [Int32.toBitVec_or, BitVec.getLsbD_or]
theorem b_and (x y : Int32) (i : Nat) : bt (x &&& y) i = (bt x i && bt y i) := by unfold bt; rw [Int32.toBitVec_and, BitVec.getLsbD_and]
theorem b_xor (x y : Int32) (i : Nat) : bt (x ^^^ y) i = (bt x i ^^ bt y i) := by unfold bt; rw [Int32.toBitVec_xor, BitVec.getLsbD_xor]
theorem b_big {x : Int32} {i : Nat} (h : 32 ≤ i) : bt x i = false := BitVec.getLsbD_of_ge _ _ h
theorem b_255 (i : Nat) : bt 255 i = decide (i < 8) := by
  rcases Nat.lt_or_ge i 32 with h | h
  · exact (by decide +kernel : ∀ i, i < 32 → bt 255 i = decide (i < 8)) i h
  · rw [b_big h, decide_eq_false (by omega)]
theorem b_65535 (i : Nat) : bt 65535 i = decide (i < 16) := by
  rcases Nat.lt_or_ge i 32 with h | h
  · exact (by decide +kernel : ∀ i, i < 32 → bt 65535 i = decide (i < 16)) i h
  · rw [b_big h, decide_eq_false (by omega)]
theorem b_m1 : ∀ i, i < 32 → bt (-1) i = true := by decide +kernel
theorem b_0 (i : Nat) : bt 0 i = false := BitVec.getLsbD_zero
theorem s_l : ∀ n, n < 32 → ((nI n &&& 31).toBitVec.smod 32).toNat = n := by decide +kernel
theorem s_u : ∀ n, n < 32 → (((nI n).toUInt32 &&& Int32.toUInt32 31).toBitVec % 32).toNat = n := by decide +kernel
theorem b_shl (n : Nat) (hn : n < 32) (x : Int32) {i : Nat} (hi : i < 32) : bt (x <<< (nI n &&& 31)) i = (decide (n ≤ i) && bt x (i - n)) := by
  unfold bt
  rw [Int32.toBitVec_shiftLeft]
  show (x.toBitVec <<< ((nI n &&& 31).toBitVec.smod 32).toNat).getLsbD i = _
  rw [s_l n hn, BitVec.getLsbD_shiftLeft]
  rcases Nat.lt_or_ge i n with h | h
  · simp [h, Nat.not_le.mpr h]
  · simp [hi, h, Nat.not_lt.mpr h]
theorem b_ushr (n : Nat) (hn : n < 32) (x : Int32) (i : Nat) : bt ((x.toUInt32 >>> ((nI n).toUInt32 &&& Int32.toUInt32 31)).toInt32) i = bt x (n + i) := by
  show (x.toUInt32 >>> ((nI n).toUInt32 &&& Int32.toUInt32 31)).toBitVec.getLsbD i = x.toUInt32.toBitVec.getLsbD (n + i)
  rw [UInt32.toBitVec_shiftRight]
  show (x.toUInt32.toBitVec >>> (((nI n).toUInt32 &&& Int32.toUInt32 31).toBitVec % 32).toNat).getLsbD i = _
  rw [s_u n hn, BitVec.getLsbD_ushiftRight]
theorem b_sshr (n : Nat) (hn : n < 32) (x : Int32) {i : Nat} (hi : i < 32) : bt (x >>> (nI n &&& 31)) i = if n + i < 32 then bt x (n + i) else bt x 31 := by
  unfold bt
  rw [Int32.toBitVec_shiftRight]
  show (x.toBitVec.sshiftRight ((nI n &&& 31).toBitVec.smod 32).toNat).getLsbD i = _
  rw [s_l n hn, BitVec.getLsbD_sshiftRight, BitVec.msb_eq_getLsbD_last]
  simp [hi]
theorem nx_and (a b : Nat) : nI a &&& nI b = nI (a &&& b) := by
  apply Int32.toBitVec_inj.1
  show BitVec.ofNat 32 a &&& BitVec.ofNat 32 b = BitVec.ofNat 32 (a &&& b)
  apply BitVec.eq_of_getLsbD_eq
  intro i hi
  simp [hi]
end SSA
end
section
section SSB
/-! small numbers -/
theorem ss_n1lt : (-1 : Int32) < 0 := by decide
theorem ss_n1le : ¬ (0 : Int32) ≤ -1 := by decide
theorem ss_ne1 {a : Nat} (h : a < 2 ^ 31) : nI a ≠ -1 := by
  intro e
  have := nI_pos (n := a) h
  rw [e] at this
  exact this ss_n1lt
theorem ss_im {a b : Nat} (h : nI a = nI b) (ha : a < 2 ^ 31) (hb : b < 2 ^ 31) : a = b := (nI_eq ha hb).mp h
theorem ss_le0 {a : Nat} (h : a < 2 ^ 31) : nI a ≤ 0 ↔ a = 0 := by
  rw [← nI_0, nI_leI h (by omega)]; omega
theorem ss_eq0 {a : Nat} (h : a < 2 ^ 31) : nI a = 0 ↔ a = 0 := by
  rw [← nI_0, nI_eq h (by omega)]
theorem ss_2m (a : Nat) : 2 * nI a = nI (2 * a) := pk_mul 2 a
theorem ss_m2 {a : Nat} (h : a % 2 < 2) : a % 2 < 2 ^ 31 := by omega
theorem ss_mod2 (a : Nat) : a % 2 < 2 ^ 31 := by omega
/-! sums -/
def ss_sum (f : Nat → Nat) : Nat → Nat
  | 0 => 0
  | n + 1 => ss_sum f n + f n
theorem ss_sum_s (f : Nat → Nat) (n : Nat) : ss_sum f (n + 1) = ss_sum f n + f n := rfl
theorem ss_sum_le {f g : Nat → Nat} : ∀ n, (∀ k, k < n → f k ≤ g k) → ss_sum f n ≤ ss_sum g n := by
  intro n
  induction n with
  | zero => intro _; exact Nat.le_refl _
  | succ n ih =>
    intro h
    have h1 := ih (fun k hk => h k (by omega))
    have h2 := h n (by omega)
    rw [ss_sum_s, ss_sum_s]
    omega
theorem ss_sum_c {f g : Nat → Nat} (n : Nat) (h : ∀ k, k < n → f k = g k) : ss_sum f n = ss_sum g n :=
  Nat.le_antisymm (ss_sum_le n fun k hk => Nat.le_of_eq (h k hk)) (ss_sum_le n fun k hk => Nat.le_of_eq (h k hk).symm)
theorem ss_sum_add (f g : Nat → Nat) : ∀ n, ss_sum (fun k => f k + g k) n = ss_sum f n + ss_sum g n := by
  intro n
  induction n with
  | zero => rfl
  | succ n ih =>
    rw [ss_sum_s, ss_sum_s, ss_sum_s, ih]
    omega
theorem ss_sum_d {f g : Nat → Nat} {k0 e : Nat} : ∀ n, (∀ k, k < n → f k ≤ g k) → k0 < n → f k0 + e ≤ g k0 → ss_sum f n + e ≤ ss_sum g n := by
  intro n
  induction n with
  | zero => intro _ h; exact absurd h (by omega)
  | succ n ih =>
    intro h hk he
    rw [ss_sum_s, ss_sum_s]
    by_cases z : k0 = n
    · have h1 := ss_sum_le n (fun k hk => h k (by omega))
      subst z
      omega
    · have h1 := ih (fun k hk => h k (by omega)) (by omega) he
      have h2 := h n (by omega)
      omega
theorem ss_sum_b {f : Nat → Nat} {M : Nat} : ∀ n, (∀ k, k < n → f k ≤ M) → ss_sum f n ≤ n * M := by
  intro n
  induction n with
  | zero => intro _; exact Nat.zero_le _
  | succ n ih =>
    intro h
    have h1 := ih (fun k hk => h k (by omega))
    have h2 := h n (by omega)
    rw [ss_sum_s, Nat.succ_mul]
    omega
/-! a clause under values of variables: -1 none, 0, 1 -/
def ss_V3 (va : Nat → Int32) : Prop := ∀ v, v < 8 → va v = -1 ∨ ∃ b, b < 2 ∧ va v = nI b
def ss_X16 (x : Int32) : Prop := ∀ i, 16 ≤ i → bt x i = false
def ss_fp (x : Int32) (va : Nat → Int32) : Prop := ∀ l, l < 16 → bt x l = true → va (l / 2) = nI (l % 2)
def ss_fl (x : Int32) (b : Nat) : Bool := (List.range 16).all (fun l => !bt x l || decide (b / 2 ^ (l / 2) % 2 = l % 2))
theorem ss_fl_t {x : Int32} {b : Nat} : ss_fl x b = true ↔ ∀ l, l < 16 → bt x l = true → b / 2 ^ (l / 2) % 2 = l % 2 := by
  unfold ss_fl
  rw [List.all_eq_true]
  constructor
  · intro h l hl hb
    have t := h l (List.mem_range.mpr hl)
    rw [hb, Bool.not_true, Bool.false_or] at t
    exact of_decide_eq_true t
  · intro h l hl
    cases hb : bt x l
    · rfl
    · rw [Bool.not_true, Bool.false_or]
      exact decide_eq_true (h l (List.mem_range.mp hl) hb)
def ss_op (x : Int32) (va : Nat → Int32) : Nat → Int32
  | 0 => x
  | j + 1 => if va j < 0 then ss_op x va j else ss_op x va j &&& (((1 : Int32) <<< (((2 * nI j) + va j) &&& 31)) ^^^ (-1))
theorem ss_op_s (x : Int32) (va : Nat → Int32) (j : Nat) : ss_op x va (j + 1) = if va j < 0 then ss_op x va j else ss_op x va j &&& (((1 : Int32) <<< (((2 * nI j) + va j) &&& 31)) ^^^ (-1)) := rfl
theorem ss_mask : ∀ n, n < 16 → ∀ i, i < 32 → bt (((1 : Int32) <<< (nI n &&& 31)) ^^^ (-1)) i = !decide (i = n) := by decide +kernel
theorem ss_op_bt {x : Int32} {va : Nat → Int32} (hV : ss_V3 va) : ∀ j, j ≤ 8 → ∀ i, i < 32 → bt (ss_op x va j) i = (bt x i && !(decide (i < 2 * j) && decide (va (i / 2) = nI (i % 2)))) := by
  intro j
  induction j with
  | zero => intro _ i hi; simp [ss_op]
  | succ j ih =>
    intro hj i hi
    have ih := ih (by omega) i hi
    rcases hV j (by omega) with h | ⟨b, hb, h⟩
    · have hn : va j < 0 := by rw [h]; exact ss_n1lt
      rw [ss_op_s, if_pos hn, ih]
      by_cases h1 : i < 2 * j
      · have h2 : i < 2 * (j + 1) := by omega
        simp only [h1, h2]
      · by_cases h2 : i < 2 * (j + 1)
        · have e : i / 2 = j := by omega
          have h3 : ¬ va (i / 2) = nI (i % 2) := by
            rw [e, h]
            exact fun z => ss_ne1 (ss_mod2 i) z.symm
          simp only [h1, h2, h3, decide_false, Bool.and_false]
        · simp only [h1, h2]
    · have hn : ¬ va j < 0 := by rw [h]; exact nI_pos (by omega)
      have e : (2 * nI j + va j) = nI (2 * j + b) := by rw [h, ss_2m, nI_add]
      rw [ss_op_s, if_neg hn, e, b_and, ih, ss_mask _ (by omega) i hi]
      by_cases h1 : i < 2 * j
      · have h2 : i < 2 * (j + 1) := by omega
        have h3 : ¬ i = 2 * j + b := by omega
        simp only [h1, h2, h3, decide_false, Bool.not_false, Bool.and_true]
      · by_cases h2 : i < 2 * (j + 1)
        · have e2 : i / 2 = j := by omega
          by_cases h3 : i = 2 * j + b
          · have h4 : va (i / 2) = nI (i % 2) := by
              rw [e2, h]
              exact congrArg nI (by omega)
            rw [decide_eq_true h3, decide_eq_true h2, decide_eq_true h4, Bool.not_true, Bool.and_false, Bool.and_self, Bool.not_true, Bool.and_false]
          · have h4 : ¬ va (i / 2) = nI (i % 2) := by
              rw [e2, h]
              intro z
              have := ss_im z (by omega) (by omega)
              omega
            simp only [h1, h3, h4, decide_false, Bool.and_false, Bool.false_and, Bool.not_false, Bool.and_true]
        · have h3 : ¬ i = 2 * j + b := by omega
          simp only [h1, h2, h3, decide_false, Bool.false_and, Bool.not_false, Bool.and_true]
theorem ss_op_b8 {x : Int32} {va : Nat → Int32} (hV : ss_V3 va) {i : Nat} (hi : i < 16) : bt (ss_op x va 8) i = true ↔ bt x i = true ∧ ¬ va (i / 2) = nI (i % 2) := by
  rw [ss_op_bt hV 8 (by omega) i (by omega)]
  have h : i < 2 * 8 := by omega
  simp [h]
theorem ss_op_16 {x : Int32} {va : Nat → Int32} (hV : ss_V3 va) (hx : ss_X16 x) : ss_X16 (ss_op x va 8) := by
  intro i hi
  rcases Nat.lt_or_ge i 32 with z | z
  · rw [ss_op_bt hV 8 (by omega) i z, hx i hi, Bool.false_and]
  · exact b_big z
theorem ss_op0 {x : Int32} {va : Nat → Int32} (hV : ss_V3 va) (hx : ss_X16 x) : ss_op x va 8 = 0 ↔ ss_fp x va := by
  constructor
  · intro h l hl hb
    apply Classical.byContradiction
    intro z
    have := (ss_op_b8 (x := x) hV hl).mpr ⟨hb, z⟩
    rw [h, b_0] at this
    exact absurd this (by decide)
  · intro h
    apply b_ext
    intro i hi
    rw [b_0]
    rcases Nat.lt_or_ge i 16 with z | z
    · cases e : bt (ss_op x va 8) i with
      | false => rfl
      | true =>
        have := (ss_op_b8 hV z).mp e
        exact absurd (h i z this.1) this.2
    · exact ss_op_16 hV hx i z
/-! whole assignments -/
def ss_Ext (va : Nat → Int32) (b : Nat) : Prop := ∀ v, v < 8 → va v = -1 ∨ va v = nI (b / 2 ^ v % 2)
theorem ss_fp_fl {x : Int32} {va : Nat → Int32} {b : Nat} (h : ss_fp x va) (he : ss_Ext va b) : ss_fl x b = true := by
  rw [ss_fl_t]
  intro l hl hb
  have h1 := h l hl hb
  rcases he (l / 2) (by omega) with h2 | h2
  · rw [h1] at h2
    exact absurd h2 (ss_ne1 (ss_mod2 l))
  · rw [h1] at h2
    exact (ss_im h2 (ss_mod2 _) (ss_mod2 _)).symm
theorem ss_fl_fp {x : Int32} {va : Nat → Int32} {b : Nat} (he : ∀ v, v < 8 → va v = nI (b / 2 ^ v % 2)) : ss_fp x va ↔ ss_fl x b = true := by
  constructor
  · intro h
    exact ss_fp_fl h (fun v hv => Or.inr (he v hv))
  · intro h l hl hb
    rw [he (l / 2) (by omega), ss_fl_t.mp h l hl hb]
def ss_LS (li : Nat → Int32) (w : Nat → Nat) (c b : Nat) : Nat := ss_sum (fun k => if ss_fl (li k) b = true then w k else 0) c
def ss_HO (li : Nat → Int32) (w : Nat → Nat) (c b : Nat) : Prop := ∀ k, k < c → w k = 0 → ss_fl (li k) b = false
theorem ss_LS_b {li : Nat → Int32} {w : Nat → Nat} {c b : Nat} (hc : c ≤ 24) (hw : ∀ k, w k ≤ 50) : ss_LS li w c b ≤ 1200 := by
  have h := ss_sum_b (f := fun k => if ss_fl (li k) b = true then w k else 0) (M := 50) c (fun k _ => by
    split
    · exact hw k
    · omega)
  unfold ss_LS
  omega
end SSB
end
section
section SSC
theorem ss_b1 (i : Nat) : bt 1 i = decide (i = 0) := by
  rcases Nat.lt_or_ge i 32 with h | h
  · exact (by decide +kernel : ∀ i, i < 32 → bt 1 i = decide (i = 0)) i h
  · rw [b_big h, decide_eq_false (by omega)]
theorem ss_b3 (i : Nat) : bt 3 i = decide (i < 2) := by
  rcases Nat.lt_or_ge i 32 with h | h
  · exact (by decide +kernel : ∀ i, i < 32 → bt 3 i = decide (i < 2)) i h
  · rw [b_big h, decide_eq_false (by omega)]
theorem ss_and1 (y : Int32) : y &&& 1 = if bt y 0 = true then 1 else 0 := by
  apply b_ext
  intro i hi
  rw [b_and, ss_b1]
  cases h : bt y 0
  · rw [if_neg (by decide), b_0]
    by_cases z : i = 0
    · subst z; rw [h]; rfl
    · rw [decide_eq_false z, Bool.and_false]
  · rw [if_pos rfl, ss_b1]
    by_cases z : i = 0
    · subst z; rw [h]; rfl
    · rw [decide_eq_false z, Bool.and_false]
theorem ss_u1 (x : Int32) (n : Nat) (hn : n < 32) : ((x.toUInt32 >>> ((nI n).toUInt32 &&& Int32.toUInt32 31)).toInt32 &&& 1) = 0 ↔ bt x n = false := by
  rw [ss_and1, b_ushr n hn x 0, Nat.add_zero]
  cases h : bt x n
  · exact ⟨fun _ => rfl, fun _ => if_neg (by decide)⟩
  · exact ⟨fun z => absurd ((if_pos rfl).symm.trans z) (by decide), fun z => absurd z (by decide)⟩
theorem ss_s1 (x : Int32) (n : Nat) (hn : n < 16) : ((x >>> (nI n &&& 31)) &&& 1) = 1 ↔ bt x n = true := by
  rw [ss_and1, b_sshr n (by omega) x (by omega : 0 < 32), if_pos (show n + 0 < 32 by omega), Nat.add_zero]
  cases h : bt x n
  · exact ⟨fun z => absurd ((if_neg (by decide)).symm.trans z) (by decide), fun z => absurd z (by decide)⟩
  · exact ⟨fun _ => rfl, fun _ => if_pos rfl⟩
theorem ss_u3 (x : Int32) (j : Nat) (hj : j < 8) : ((x.toUInt32 >>> ((2 * nI j).toUInt32 &&& Int32.toUInt32 31)).toInt32 &&& 3) = 0 ↔ bt x (2 * j) = false ∧ bt x (2 * j + 1) = false := by
  rw [ss_2m]
  constructor
  · intro h
    have a : ∀ i, i < 2 → bt x (2 * j + i) = false := by
      intro i hi
      have t := congrArg (fun z => bt z i) h
      rw [b_and, b_ushr _ (by omega), ss_b3, b_0, decide_eq_true hi, Bool.and_true] at t
      exact t
    exact ⟨a 0 (by omega), a 1 (by omega)⟩
  · intro h
    apply b_ext
    intro i hi
    rw [b_and, b_ushr _ (by omega), ss_b3, b_0]
    by_cases z : i < 2
    · rcases (by omega : i = 0 ∨ i = 1) with e | e
      · rw [e, Nat.add_zero, h.1, Bool.false_and]
      · rw [e, h.2, Bool.false_and]
    · rw [decide_eq_false z, Bool.and_false]
theorem ss_pb : ∀ l, l < 16 → ∀ i, i < 32 → bt (nI (2 ^ l)) i = decide (i = l) := by decide +kernel
theorem ss_p3 : ∀ l, l < 16 → ∀ j, j < 8 → ((((nI (2 ^ l)).toUInt32 >>> ((2 * nI j).toUInt32 &&& Int32.toUInt32 31)).toInt32 &&& 3) = 0 ↔ l / 2 ≠ j) := by decide +kernel
theorem ss_p1 : ∀ l, l < 16 → ∀ j, j < 8 → ((((nI (2 ^ l)).toUInt32 >>> ((2 * nI j).toUInt32 &&& Int32.toUInt32 31)).toInt32 &&& 1) = 0 ↔ l ≠ 2 * j) := by decide +kernel
theorem ss_pw2 : ∀ n : Nat, 0 < n → n &&& (n - 1) = 0 → ∃ l, n = 2 ^ l := by
  intro n
  induction n using Nat.strongRecOn with
  | ind n ih =>
    intro h0 h
    have h2 : n / 2 &&& (n - 1) / 2 = 0 := by rw [← Nat.and_div_two, h]
    rcases Nat.mod_two_eq_zero_or_one n with e | e
    · have e1 : (n - 1) / 2 = n / 2 - 1 := by omega
      rw [e1] at h2
      obtain ⟨l, hl⟩ := ih (n / 2) (by omega) (by omega) h2
      refine ⟨l + 1, ?_⟩
      rw [Nat.pow_succ, ← hl]
      omega
    · have e1 : (n - 1) / 2 = n / 2 := by omega
      rw [e1, Nat.and_self] at h2
      refine ⟨0, ?_⟩
      rw [Nat.pow_zero]
      omega
theorem ss_single {o : Int32} (h16 : ss_X16 o) (h0 : ¬ o = 0) (h : o &&& (o - 1) = 0) : ∃ l, l < 16 ∧ o = nI (2 ^ l) := by
  have e : o &&& 65535 = o := by
    apply b_ext
    intro i hi
    rw [b_and, b_65535]
    by_cases z : i < 16
    · rw [decide_eq_true z, Bool.and_true]
    · rw [h16 i (by omega), Bool.false_and]
  obtain ⟨n, hn, e2⟩ := pk_andE o (m := 65535) 16 (by decide)
  rw [e] at e2
  subst e2
  have hn' : n < 65536 := hn
  have h1 : 0 < n := by
    rcases Nat.eq_zero_or_pos n with z | z
    · subst z; exact absurd nI_0 h0
    · exact z
  obtain ⟨m, rfl⟩ : ∃ m, n = m + 1 := ⟨n - 1, by omega⟩
  rw [nI_pred, nx_and, ss_eq0 (Nat.lt_of_le_of_lt Nat.and_le_left (by omega))] at h
  obtain ⟨l, hl⟩ := ss_pw2 (m + 1) (by omega) h
  refine ⟨l, ?_, by rw [hl]⟩
  exact (Nat.pow_lt_pow_iff_right (by omega : 1 < 2)).mp (by rw [← hl]; exact hn)
/-! the variables of a clause -/
def ss_vo (x : Int32) : Nat → Int32
  | 0 => 0
  | j + 1 => if ((x.toUInt32 >>> ((2 * nI j).toUInt32 &&& Int32.toUInt32 31)).toInt32 &&& 3) = 0 then ss_vo x j ||| 0 else ss_vo x j ||| ((1 : Int32) <<< (nI j &&& 31))
theorem ss_vo_s (x : Int32) (j : Nat) : ss_vo x (j + 1) = if ((x.toUInt32 >>> ((2 * nI j).toUInt32 &&& Int32.toUInt32 31)).toInt32 &&& 3) = 0 then ss_vo x j ||| 0 else ss_vo x j ||| ((1 : Int32) <<< (nI j &&& 31)) := rfl
theorem ss_m1 : ∀ j, j < 8 → ∀ v, v < 32 → bt ((1 : Int32) <<< (nI j &&& 31)) v = decide (v = j) := by decide +kernel
theorem ss_vo_b {x : Int32} : ∀ j, j ≤ 8 → ∀ v, v < 8 → (bt (ss_vo x j) v = true ↔ v < j ∧ (bt x (2 * v) = true ∨ bt x (2 * v + 1) = true)) := by
  intro j
  induction j with
  | zero =>
    intro _ v _
    rw [ss_vo, b_0]
    exact ⟨fun z => absurd z (by decide), fun z => absurd z.1 (by omega)⟩
  | succ j ih =>
    intro hj v hv
    have ih := ih (by omega) v hv
    rw [ss_vo_s]
    by_cases z : ((x.toUInt32 >>> ((2 * nI j).toUInt32 &&& Int32.toUInt32 31)).toInt32 &&& 3) = 0
    · rw [if_pos z, b_or, b_0, Bool.or_false, ih]
      have z2 := (ss_u3 x j (by omega)).mp z
      constructor
      · exact fun h => ⟨by omega, h.2⟩
      · intro h
        refine ⟨?_, h.2⟩
        apply Classical.byContradiction
        intro hn
        have e : v = j := by omega
        subst e
        rw [z2.1, z2.2] at h
        exact absurd h.2 (by decide)
    · rw [if_neg z, b_or, ss_m1 j (by omega) v (by omega), Bool.or_eq_true, ih, decide_eq_true_iff]
      have z2 : bt x (2 * j) = true ∨ bt x (2 * j + 1) = true := by
        cases h0 : bt x (2 * j)
        · cases h1 : bt x (2 * j + 1)
          · exact absurd ((ss_u3 x j (by omega)).mpr ⟨h0, h1⟩) z
          · exact Or.inr rfl
        · exact Or.inl rfl
      constructor
      · intro h
        rcases h with h | h
        · exact ⟨by omega, h.2⟩
        · subst h; exact ⟨by omega, z2⟩
      · intro h
        by_cases e : v = j
        · exact Or.inr e
        · exact Or.inl ⟨by omega, h.2⟩
theorem ss_vo_i {x : Int32} {l : Nat} (hl : l < 16) (h : bt x l = true) : bt (ss_vo x 8) (l / 2) = true := by
  refine (ss_vo_b 8 (by omega) (l / 2) (by omega)).mpr ⟨by omega, ?_⟩
  rcases Nat.mod_two_eq_zero_or_one l with e | e
  · left
    rw [show 2 * (l / 2) = l by omega]
    exact h
  · right
    rw [show 2 * (l / 2) + 1 = l by omega]
    exact h
theorem ss_vo_e {x : Int32} {v : Nat} (hv : v < 8) (h : bt (ss_vo x 8) v = true) : ∃ l, l < 16 ∧ l / 2 = v ∧ bt x l = true := by
  rcases ((ss_vo_b 8 (by omega) v hv).mp h).2 with z | z
  · exact ⟨2 * v, by omega, by omega, z⟩
  · exact ⟨2 * v + 1, by omega, by omega, z⟩
end SSC
end
section
section SSD
def ss_RC (li va fo tr : Nat → Int32) (s v k : Nat) : Prop := ∀ l, l < 16 → bt (li k) l = true → (l / 2 = v ∧ fo v = nI (1 - l % 2)) ∨ (fo (l / 2) = nI (l % 2) ∧ (va (l / 2) ≠ -1 ∨ ∃ s', s' < s ∧ tr s' = nI (l / 2)))
def ss_un (fo : Nat → Int32) : Nat := ss_sum (fun v => if fo v = -1 then 1 else 0) 8
/-- the state of the unit steps: what follows, its reasons, the trail -/
def ss_TI (c : Nat) (li : Nat → Int32) (act : Nat → Prop) (va : Nat → Int32) (t : Nat) (fo re tr : Nat → Int32) : Prop :=
  ss_V3 fo ∧ (∀ v, v < 8 → va v ≠ -1 → fo v = va v) ∧ (∀ v, v < 8 → fo v ≠ -1 → va v ≠ -1 ∨ ∃ s, s < t ∧ tr s = nI v) ∧ (∀ s, s < t → ∃ v k, v < 8 ∧ k < c ∧ tr s = nI v ∧ re v = nI k ∧ act k ∧ fo v ≠ -1 ∧ ss_RC li va fo tr s v k) ∧ t + ss_un fo ≤ 8
/-- going back over the reasons: all trail places from s on are done -/
def ss_BI (c : Nat) (li : Nat → Int32) (act : Nat → Prop) (va re tr : Nat → Int32) (k0 s : Nat) (x2 : Int32) (iv : Nat → Int32) : Prop :=
  iv k0 ≠ 0 ∧ (∀ k, k < c → iv k ≠ 0 → act k ∧ ∀ l, l < 16 → bt (li k) l = true → bt x2 (l / 2) = true) ∧ (∀ v, v < 8 → bt x2 v = true → va v ≠ -1 ∨ (∃ s', s' < s ∧ tr s' = nI v) ∨ ∃ k, k < c ∧ re v = nI k ∧ iv k ≠ 0)
variable {c t : Nat} {li va fo re tr iv : Nat → Int32} {act : Nat → Prop}
theorem ss_TI0 (hV : ss_V3 va) (h : ∀ v, v < 8 → fo v = va v) : ss_TI c li act va 0 fo re tr := by
  refine ⟨fun v hv => by rw [h v hv]; exact hV v hv, fun v hv _ => h v hv, fun v hv z => Or.inl (by rw [← h v hv]; exact z), fun s hs => absurd hs (by omega), ?_⟩
  have := ss_sum_b (f := fun v => if fo v = -1 then 1 else 0) (M := 1) 8 (fun v _ => by split <;> omega)
  unfold ss_un
  omega
theorem ss_TI_t (h : ss_TI c li act va t fo re tr) {v : Nat} (hv : v < 8) (z : fo v = -1) : t < 8 := by
  have h1 := ss_sum_d (f := fun _ => 0) (g := fun v => if fo v = -1 then 1 else 0) (k0 := v) (e := 1) 8 (fun _ _ => Nat.zero_le _) hv (by rw [if_pos z]; omega)
  have h2 := h.2.2.2.2
  unfold ss_un at h2
  omega
theorem ss_TI_step (h : ss_TI c li act va t fo re tr) {k l : Nat} (hk : k < c) (ha : act k) (hl : l < 16) (ho : ss_op (li k) fo 8 = nI (2 ^ l)) (z : fo (l / 2) = -1) :
    ss_TI c li act va (t + 1) (upd fo (l / 2) (nI (1 - l % 2))) (upd re (l / 2) (nI k)) (upd tr t (nI (l / 2))) := by
  obtain ⟨h1, h2, h3, h4, h5⟩ := h
  have hne : ∀ v, fo v ≠ -1 → v ≠ l / 2 := fun v hv e => hv (by rw [e]; exact z)
  have hn1 : nI (1 - l % 2) ≠ -1 := ss_ne1 (by omega)
  have hlit : ∀ i, i < 16 → bt (li k) i = true → i ≠ l → fo (i / 2) = nI (i % 2) := by
    intro i hi hb hil
    apply Classical.byContradiction
    intro q
    have t1 := (ss_op_b8 h1 hi).mpr ⟨hb, q⟩
    rw [ho, ss_pb l hl i (by omega)] at t1
    exact hil (of_decide_eq_true t1)
  refine ⟨?_, ?_, ?_, ?_, ?_⟩
  · intro v hv
    by_cases e : v = l / 2
    · right
      exact ⟨1 - l % 2, by omega, by rw [e, pk_us]⟩
    · rw [pk_un e]
      exact h1 v hv
  · intro v hv hva
    have e := h2 v hv hva
    rw [pk_un (hne v (by rw [e]; exact hva))]
    exact e
  · intro v hv hf
    by_cases e : v = l / 2
    · right
      exact ⟨t, by omega, by rw [pk_us, e]⟩
    · rw [pk_un e] at hf
      rcases h3 v hv hf with q | ⟨s, hs, q⟩
      · exact Or.inl q
      · exact Or.inr ⟨s, by omega, by rw [pk_un (by omega)]; exact q⟩
  · intro s hs
    by_cases e : s = t
    · subst e
      refine ⟨l / 2, k, by omega, hk, pk_us, pk_us, ha, by rw [pk_us]; exact hn1, ?_⟩
      intro i hi hb
      by_cases q : i = l
      · left
        subst q
        exact ⟨rfl, pk_us⟩
      · right
        have e1 := hlit i hi hb q
        have e2 : fo (i / 2) ≠ -1 := by rw [e1]; exact ss_ne1 (by omega)
        refine ⟨by rw [pk_un (hne _ e2)]; exact e1, ?_⟩
        rcases h3 (i / 2) (by omega) e2 with q2 | ⟨s', hs', q2⟩
        · exact Or.inl q2
        · exact Or.inr ⟨s', hs', by rw [pk_un (by omega)]; exact q2⟩
    · obtain ⟨v, k', hv, hk', e1, e2, e3, e4, e5⟩ := h4 s (by omega)
      refine ⟨v, k', hv, hk', by rw [pk_un e]; exact e1, by rw [pk_un (hne v e4)]; exact e2, e3, by rw [pk_un (hne v e4)]; exact e4, ?_⟩
      intro i hi hb
      rcases e5 i hi hb with ⟨q1, q2⟩ | ⟨q1, q2⟩
      · exact Or.inl ⟨q1, by rw [pk_un (hne v e4)]; exact q2⟩
      · right
        refine ⟨by rw [pk_un (hne _ (by rw [q1]; exact ss_ne1 (by omega)))]; exact q1, ?_⟩
        rcases q2 with q2 | ⟨s', hs', q2⟩
        · exact Or.inl q2
        · exact Or.inr ⟨s', hs', by rw [pk_un (by omega)]; exact q2⟩
  · have c1 := ss_sum_d (f := fun v => if upd fo (l / 2) (nI (1 - l % 2)) v = -1 then 1 else 0) (g := fun v => if fo v = -1 then 1 else 0) (k0 := l / 2) (e := 1) 8 (fun v _ => by
        try dsimp only
        by_cases e : v = l / 2
        · rw [e, pk_us, if_neg hn1]
          exact Nat.zero_le _
        · rw [pk_un e]
          exact Nat.le_refl _) (by omega) (by
        try dsimp only
        rw [pk_us, if_neg hn1, if_pos z]
        omega)
    unfold ss_un at h5 ⊢
    omega
theorem ss_BI0 {k0 : Nat} (h : ss_TI c li act va t fo re tr) (hf : ss_fp (li k0) fo) (ha : act k0) (h0 : iv k0 ≠ 0) (hz : ∀ k, k < c → k ≠ k0 → iv k = 0) : ss_BI c li act va re tr k0 t (ss_vo (li k0) 8) iv := by
  refine ⟨h0, ?_, ?_⟩
  · intro k hk hi
    have e : k = k0 := by
      apply Classical.byContradiction
      intro z
      exact hi (hz k hk z)
    subst e
    exact ⟨ha, fun l hl hb => ss_vo_i hl hb⟩
  · intro v hv hx
    obtain ⟨l, hl, rfl, hb⟩ := ss_vo_e hv hx
    rcases h.2.2.1 (l / 2) hv (by rw [hf l hl hb]; exact ss_ne1 (by omega)) with q | q
    · exact Or.inl q
    · exact Or.inr (Or.inl q)
theorem ss_BI_n {k0 s v0 : Nat} {x2 : Int32} (hB : ss_BI c li act va re tr k0 (s + 1) x2 iv) (hv0 : v0 < 8) (ht : tr s = nI v0) (hb : bt x2 v0 = false) : ss_BI c li act va re tr k0 s x2 iv := by
  refine ⟨hB.1, hB.2.1, ?_⟩
  intro v hv hx
  rcases hB.2.2 v hv hx with q | ⟨s', hs', q⟩ | q
  · exact Or.inl q
  · refine Or.inr (Or.inl ⟨s', ?_, q⟩)
    apply Classical.byContradiction
    intro z
    have e : s' = s := by omega
    subst e
    rw [ht] at q
    have e2 := ss_im q (by omega) (by omega)
    subst e2
    rw [hb] at hx
    exact absurd hx (by decide)
  · exact Or.inr (Or.inr q)
theorem ss_BI_y {k0 s v0 kk : Nat} {x2 : Int32} (hB : ss_BI c li act va re tr k0 (s + 1) x2 iv) (hv0 : v0 < 8) (hkk : kk < c) (ht : tr s = nI v0) (hr : re v0 = nI kk) (ha : act kk) (hR : ss_RC li va fo tr s v0 kk) : ss_BI c li act va re tr k0 s (x2 ||| ss_vo (li kk) 8) (upd iv kk 1) := by
  have h10 : (1 : Int32) ≠ 0 := by decide
  have hi : ∀ k, iv k ≠ 0 → upd iv kk 1 k ≠ 0 := by
    intro k hk
    by_cases e : k = kk
    · rw [e, pk_us]; exact h10
    · rw [pk_un e]; exact hk
  refine ⟨hi _ hB.1, ?_, ?_⟩
  · intro k hk hik
    by_cases e : k = kk
    · rw [e]
      exact ⟨ha, fun l hl hb => by rw [b_or, ss_vo_i hl hb, Bool.or_true]⟩
    · rw [pk_un e] at hik
      have := hB.2.1 k hk hik
      exact ⟨this.1, fun l hl hb => by rw [b_or, this.2 l hl hb, Bool.true_or]⟩
  · intro v hv hx
    have hv0kk : ∀ v, v = v0 → va v ≠ -1 ∨ (∃ s', s' < s ∧ tr s' = nI v) ∨ ∃ k, k < c ∧ re v = nI k ∧ upd iv kk 1 k ≠ 0 := by
      intro v e
      rw [e]
      exact Or.inr (Or.inr ⟨kk, hkk, hr, by rw [pk_us]; exact h10⟩)
    rw [b_or, Bool.or_eq_true] at hx
    rcases hx with hx | hx
    · rcases hB.2.2 v hv hx with q | ⟨s', hs', q⟩ | ⟨k, hk, q1, q2⟩
      · exact Or.inl q
      · by_cases e : s' = s
        · subst e
          rw [ht] at q
          exact hv0kk v (ss_im q (by omega) (by omega)).symm
        · exact Or.inr (Or.inl ⟨s', by omega, q⟩)
      · exact Or.inr (Or.inr ⟨k, hk, q1, hi k q2⟩)
    · obtain ⟨l, hl, rfl, hb⟩ := ss_vo_e hv hx
      rcases hR l hl hb with ⟨q1, _⟩ | ⟨_, q | q⟩
      · exact hv0kk _ q1
      · exact Or.inl q
      · exact Or.inr (Or.inl q)
theorem ss_sound {k0 b : Nat} {x2 : Int32} (hc : c ≤ 24) (h : ss_TI c li act va t fo re tr) (hk0 : k0 < c) (hf : ss_fp (li k0) fo) (hB : ss_BI c li act va re tr k0 0 x2 iv) (hE : ss_Ext va b) : ∃ k, k < c ∧ iv k ≠ 0 ∧ ss_fl (li k) b = true := by
  apply Classical.byContradiction
  intro hno
  obtain ⟨h1, h2, h3, h4, h5⟩ := h
  have hno2 : ∀ k, k < c → iv k ≠ 0 → ¬ ss_fl (li k) b = true := fun k hk hi z => hno ⟨k, hk, hi, z⟩
  have hval : ∀ v, v < 8 → va v ≠ -1 → fo v = nI (b / 2 ^ v % 2) := by
    intro v hv q
    rw [h2 v hv q]
    rcases hE v hv with z | z
    · exact absurd z q
    · exact z
  have key : ∀ s, s < t → ∀ v, v < 8 → tr s = nI v → bt x2 v = true → fo v = nI (b / 2 ^ v % 2) := by
    intro s
    induction s using Nat.strongRecOn with
    | ind s ih =>
      intro hs v hv ht hx
      by_cases q : va v = -1
      · rcases hB.2.2 v hv hx with q2 | ⟨s', hs', _⟩ | ⟨k, hk, er, hi⟩
        · exact absurd q q2
        · exact absurd hs' (by omega)
        · obtain ⟨v', k', hv', hk', e1, e2, e3, e4, e5⟩ := h4 s hs
          rw [ht] at e1
          have ev := ss_im e1 (by omega) (by omega)
          subst ev
          rw [er] at e2
          have ek := ss_im e2 (by omega) (by omega)
          subst ek
          apply Classical.byContradiction
          intro hnv
          apply hno2 k hk hi
          rw [ss_fl_t]
          intro l hl hb
          rcases e5 l hl hb with ⟨q1, q3⟩ | ⟨q1, q3⟩
          · rw [q1]
            apply Classical.byContradiction
            intro hne
            apply hnv
            rw [q3]
            generalize b / 2 ^ v = y at hne ⊢
            exact congrArg nI (by omega)
          · have hx2 := (hB.2.1 k hk hi).2 l hl hb
            have e6 : fo (l / 2) = nI (b / 2 ^ (l / 2) % 2) := by
              rcases q3 with q3 | ⟨s', hs', q3⟩
              · exact hval _ (by omega) q3
              · exact ih s' hs' (by omega) (l / 2) (by omega) q3 hx2
            rw [q1] at e6
            exact (ss_im e6 (ss_mod2 _) (ss_mod2 _)).symm
      · exact hval v hv q
  apply hno2 k0 hk0 hB.1
  rw [ss_fl_t]
  intro l hl hb
  have e := hf l hl hb
  have hx := (hB.2.1 k0 hk0 hB.1).2 l hl hb
  have e6 : fo (l / 2) = nI (b / 2 ^ (l / 2) % 2) := by
    rcases h3 (l / 2) (by omega) (by rw [e]; exact ss_ne1 (by omega)) with q | ⟨s, hs, q⟩
    · exact hval _ (by omega) q
    · exact key s hs (l / 2) (by omega) q hx
  rw [e] at e6
  exact (ss_im e6 (ss_mod2 _) (ss_mod2 _)).symm
/-! what is booked -/
def ss_BF (li : Nat → Int32) (w : Nat → Nat) (c : Nat) (va : Nat → Int32) (m : Nat) (U U' : Nat → Nat) : Prop :=
  (m = 0 → ∀ b, ss_Ext va b → ¬ ss_HO li w c b) ∧ (∀ b, ss_Ext va b → ss_HO li w c b → ss_LS li U' c b + m ≤ ss_LS li U c b)
theorem ss_BF_of {w U U' : Nat → Nat} {m : Nat} (hs : ∀ b, ss_Ext va b → ∃ k, k < c ∧ iv k ≠ 0 ∧ ss_fl (li k) b = true) (h0 : m = 0 → ∀ k, k < c → iv k ≠ 0 → w k = 0) (hm : ∀ k, k < c → iv k ≠ 0 → w k ≠ 0 → m ≤ U k) (hU : ∀ k, k < c → U' k = if iv k ≠ 0 ∧ w k ≠ 0 then U k - m else U k) : ss_BF li w c va m U U' := by
  constructor
  · intro e b hE hH
    obtain ⟨k, hk, hi, hf⟩ := hs b hE
    have := hH k hk (h0 e k hk hi)
    rw [hf] at this
    exact absurd this (by decide)
  · intro b hE hH
    obtain ⟨k, hk, hi, hf⟩ := hs b hE
    have hwk : w k ≠ 0 := by
      intro z
      have := hH k hk z
      rw [hf] at this
      exact absurd this (by decide)
    unfold ss_LS
    refine ss_sum_d (k0 := k) c ?_ hk ?_
    · intro j hj
      try dsimp only
      split
      · rw [hU j hj]
        split <;> omega
      · omega
    · skip
      rw [if_pos hf, if_pos hf, hU k hk, if_pos ⟨hi, hwk⟩]
      have := hm k hk hi hwk
      omega
end SSD
end
section
section SSE
variable {c : Nat} {bl ba tl : Int32} {li we va gi fo re tr ub iv : Nat → Int32}
theorem ss_opl_V {post : Int32 → Prop} {x : Int32} (h : post (ss_op x va 8)) : ∀ d j, j + d = 8 → wX_openLiterals__value_10 post (nI c) bl ba tl li we va gi fo re tr ub iv (d + 1) (ss_op x va j) (nI j) := by
  intro d
  induction d with
  | zero =>
    intro j hj
    have e : j = 8 := by omega
    subst e
    exact br_t (nI_le (a := 8) (b := 8) (by omega) (by omega)) h
  | succ d ih =>
    intro j hj
    have ec : (nI j).toNatClampNeg = j := nI_clamp (by omega)
    have hi : vp_in (nI j) 8 := vp_in_nI (by omega) (by omega)
    have h8 : ¬ (8 : Int32) ≤ nI j := nI_ge (b := 8) (by omega) (by omega)
    by_cases hv : va j < 0
    · refine br_f h8 (And.intro hi (br_t (by rw [ec]; exact hv) (nm_r (nI_1 j) ?_)))
      have e : ss_op x va (j + 1) = ss_op x va j := by rw [ss_op_s, if_pos hv]
      rw [← e]
      exact ih (j + 1) (by omega)
    · refine br_f h8 (And.intro hi (br_f (by rw [ec]; exact hv) (And.intro hi (nm_r (e' := ss_op x va (j + 1)) ?_ (nm_r (nI_1 j) (ih (j + 1) (by omega)))))))
      rw [ss_op_s, if_neg hv, ec]
theorem ss_op_V {post : Int32 → Prop} {k : Nat} (hk : k < 24) (h : post (ss_op (li k) va 8)) : wpX_openLiterals__value post ((nI c), bl, ba, tl, li, we, va, gi, fo, re, tr, ub, iv) (nI k) := by
  have ec : (nI k).toNatClampNeg = k := nI_clamp (by omega)
  exact And.intro (vp_in_nI hk (by omega)) (nm_r (congrArg li ec) ⟨9, ss_opl_V h 8 0 rfl⟩)
theorem ss_opl_F {post : Int32 → Prop} {x : Int32} (h : post (ss_op x fo 8)) : ∀ d j, j + d = 8 → wX_openLiterals__follows_10 post (nI c) bl ba tl li we va gi fo re tr ub iv (d + 1) (ss_op x fo j) (nI j) := by
  intro d
  induction d with
  | zero =>
    intro j hj
    have e : j = 8 := by omega
    subst e
    exact br_t (nI_le (a := 8) (b := 8) (by omega) (by omega)) h
  | succ d ih =>
    intro j hj
    have ec : (nI j).toNatClampNeg = j := nI_clamp (by omega)
    have hi : vp_in (nI j) 8 := vp_in_nI (by omega) (by omega)
    have h8 : ¬ (8 : Int32) ≤ nI j := nI_ge (b := 8) (by omega) (by omega)
    by_cases hv : fo j < 0
    · refine br_f h8 (And.intro hi (br_t (by rw [ec]; exact hv) (nm_r (nI_1 j) ?_)))
      have e : ss_op x fo (j + 1) = ss_op x fo j := by rw [ss_op_s, if_pos hv]
      rw [← e]
      exact ih (j + 1) (by omega)
    · refine br_f h8 (And.intro hi (br_f (by rw [ec]; exact hv) (And.intro hi (nm_r (e' := ss_op x fo (j + 1)) ?_ (nm_r (nI_1 j) (ih (j + 1) (by omega)))))))
      rw [ss_op_s, if_neg hv, ec]
theorem ss_op_F {post : Int32 → Prop} {k : Nat} (hk : k < 24) (h : post (ss_op (li k) fo 8)) : wpX_openLiterals__follows post ((nI c), bl, ba, tl, li, we, va, gi, fo, re, tr, ub, iv) (nI k) := by
  have ec : (nI k).toNatClampNeg = k := nI_clamp (by omega)
  exact And.intro (vp_in_nI hk (by omega)) (nm_r (congrArg li ec) ⟨9, ss_opl_F h 8 0 rfl⟩)
/-! what is lost already -/
def ss_lsf (li : Nat → Int32) (w : Nat → Nat) (va : Nat → Int32) (k : Nat) : Nat := if ss_op (li k) va 8 = 0 then w k else 0
theorem ss_lsfL {post : Int32 → Prop} {w : Nat → Nat} (hc : c ≤ 24) (hw : ∀ k, we k = nI (w k)) (h : post (nI (ss_sum (ss_lsf li w va) c))) : ∀ d k, k + d = c → wX_lossSoFar_4 post (nI c) bl ba tl li we va gi fo re tr ub iv (d + 1) (nI (ss_sum (ss_lsf li w va) k)) (nI k) := by
  intro d
  induction d with
  | zero =>
    intro k hk
    have e : k = c := by omega
    subst e
    exact br_t (nI_le (by omega) (by omega)) h
  | succ d ih =>
    intro k hk
    have ec : (nI k).toNatClampNeg = k := nI_clamp (by omega)
    have hi : vp_in (nI k) 24 := vp_in_nI (by omega) (by omega)
    refine br_f (nI_ge (by omega) (by omega)) (ss_op_V (by omega) ?_)
    have es : ss_sum (ss_lsf li w va) (k + 1) = ss_sum (ss_lsf li w va) k + ss_lsf li w va k := rfl
    by_cases z : ss_op (li k) va 8 = 0
    · refine br_t z (And.intro hi (nm_r (e' := nI (ss_sum (ss_lsf li w va) (k + 1))) ?_ (nm_r (nI_1 k) (ih (k + 1) (by omega)))))
      rw [ec, hw, nI_add, es, ss_lsf, if_pos z]
    · refine br_f z (nm_r (e' := nI (ss_sum (ss_lsf li w va) (k + 1))) ?_ (nm_r (nI_1 k) (ih (k + 1) (by omega))))
      rw [es, ss_lsf, if_neg z, Int32.add_zero, Nat.add_zero]
theorem ss_lossSoFar {post : Int32 → Prop} {w : Nat → Nat} (hc : c ≤ 24) (hw : ∀ k, we k = nI (w k)) (h : post (nI (ss_sum (ss_lsf li w va) c))) : wpX_lossSoFar post ((nI c), bl, ba, tl, li, we, va, gi, fo, re, tr, ub, iv) :=
  ⟨c + 1, ss_lsfL hc hw h c 0 (by omega)⟩
/-! the variables of a clause -/
theorem ss_voL {post : Int32 → Prop} {k : Nat} (hk : k < 24) (h : post (ss_vo (li k) 8)) : ∀ d j, j + d = 8 → wX_variablesOf_4 post (nI k) (nI c) bl ba tl li we va gi fo re tr ub iv (d + 1) (ss_vo (li k) j) (nI j) := by
  intro d
  induction d with
  | zero =>
    intro j hj
    have e : j = 8 := by omega
    subst e
    exact br_t (nI_le (a := 8) (b := 8) (by omega) (by omega)) h
  | succ d ih =>
    intro j hj
    have ec : (nI k).toNatClampNeg = k := nI_clamp (by omega)
    have hi : vp_in (nI k) 24 := vp_in_nI (by omega) (by omega)
    have h8 : ¬ (8 : Int32) ≤ nI j := nI_ge (b := 8) (by omega) (by omega)
    by_cases z : (((li k).toUInt32 >>> ((2 * nI j).toUInt32 &&& Int32.toUInt32 31)).toInt32 &&& 3) = 0
    · refine br_f h8 (And.intro hi (br_t (by rw [ec]; exact z) (nm_r (e' := ss_vo (li k) (j + 1)) ?_ (nm_r (nI_1 j) (ih (j + 1) (by omega))))))
      rw [ss_vo_s, if_pos z]
    · refine br_f h8 (And.intro hi (br_f (by rw [ec]; exact z) (nm_r (e' := ss_vo (li k) (j + 1)) ?_ (nm_r (nI_1 j) (ih (j + 1) (by omega))))))
      rw [ss_vo_s, if_neg z]
theorem ss_variablesOf {post : Int32 → Prop} {k : Nat} (hk : k < 24) (h : post (ss_vo (li k) 8)) : wpX_variablesOf post ((nI c), bl, ba, tl, li, we, va, gi, fo, re, tr, ub, iv) (nI k) :=
  ⟨9, ss_voL hk h 8 0 rfl⟩
/-! the next value -/
theorem ss_nvL {post : Int32 → Prop} {v : Nat} (hv : v < 8) (hG : gi v = -1 ∨ ∃ b, b < 2 ∧ gi v = nI b) : ∀ d x, x + d = 2 → (∀ y, x ≤ y → y < 2 → (gi v = -1 ∨ gi v = nI y) → (∀ z, x ≤ z → z < y → ¬ (gi v = -1 ∨ gi v = nI z)) → post (nI y)) → ((∀ z, x ≤ z → z < 2 → ¬ (gi v = -1 ∨ gi v = nI z)) → post (-1)) → wX_nextValue_9 post (nI v) (nI c) bl ba tl li we va gi fo re tr ub iv (d + 1) (nI x) := by
  intro d
  have ec : (nI v).toNatClampNeg = v := nI_clamp (by omega)
  have hi : vp_in (nI v) 8 := vp_in_nI (by omega) (by omega)
  induction d with
  | zero =>
    intro x hx h1 h2
    have e : x = 2 := by omega
    subst e
    exact br_t (nI_le (a := 2) (b := 2) (by omega) (by omega)) (h2 (fun z a b => absurd b (by omega)))
  | succ d ih =>
    intro x hx h1 h2
    have h8 : ¬ (2 : Int32) ≤ nI x := nI_ge (b := 2) (by omega) (by omega)
    by_cases z : gi v < 0
    · refine br_f h8 (And.intro hi (br_t (by rw [ec]; exact z) ?_))
      refine h1 x (Nat.le_refl _) (by omega) ?_ (fun z a b => absurd b (by omega))
      rcases hG with g | ⟨b, hb, g⟩
      · exact Or.inl g
      · rw [g] at z
        exact absurd z (nI_pos (by omega))
    · by_cases z2 : gi v = nI x
      · exact br_f h8 (And.intro hi (br_f (by rw [ec]; exact z) (And.intro hi (br_t (by rw [ec]; exact z2) (h1 x (Nat.le_refl _) (by omega) (Or.inr z2) (fun z a b => absurd b (by omega)))))))
      · have z3 : ¬ (gi v = -1 ∨ gi v = nI x) := by
          intro q
          rcases q with q | q
          · rw [q] at z; exact z ss_n1lt
          · exact z2 q
        refine br_f h8 (And.intro hi (br_f (by rw [ec]; exact z) (And.intro hi (br_f (by rw [ec]; exact z2) (nm_r (nI_1 x) (ih (x + 1) (by omega) ?_ ?_))))))
        · intro y hy hy2 hg hs
          refine h1 y (by omega) hy2 hg (fun z a b => ?_)
          by_cases e : z = x
          · rw [e]; exact z3
          · exact hs z (by omega) b
        · intro hs
          refine h2 (fun z a b => ?_)
          by_cases e : z = x
          · rw [e]; exact z3
          · exact hs z (by omega) b
theorem ss_nextValue {post : Int32 → Prop} {v x : Nat} (hv : v < 8) (hx : x ≤ 2) (hG : gi v = -1 ∨ ∃ b, b < 2 ∧ gi v = nI b) (e : va v + 1 = nI x) (h1 : ∀ y, x ≤ y → y < 2 → (gi v = -1 ∨ gi v = nI y) → (∀ z, x ≤ z → z < y → ¬ (gi v = -1 ∨ gi v = nI z)) → post (nI y)) (h2 : (∀ z, x ≤ z → z < 2 → ¬ (gi v = -1 ∨ gi v = nI z)) → post (-1)) : wpX_nextValue post ((nI c), bl, ba, tl, li, we, va, gi, fo, re, tr, ub, iv) (nI v) := by
  have ec : (nI v).toNatClampNeg = v := nI_clamp (by omega)
  refine And.intro (vp_in_nI hv (by omega)) (nm_r (e' := nI x) ?_ ⟨2 - x + 1, ss_nvL hv hG (2 - x) x (by omega) h1 h2⟩)
  rw [ec, e]
/-! a whole assignment -/
theorem ss_leaf : ∀ q, q < 256 → ∀ j, j < 8 → (nI (q % 2 ^ j) ||| (nI (q / 2 ^ j % 2) <<< (nI j &&& 31))) = nI (q % 2 ^ (j + 1)) := by decide +kernel
theorem ss_tlL {post : Int32 → SX → Prop} {q : Nat} (hq : q < 256) (hv : ∀ v, v < 8 → va v = nI (q / 2 ^ v % 2)) (h : post 0 ((nI c), bl, nI q, tl, li, we, va, gi, fo, re, tr, ub, iv)) : ∀ d j, j + d = 8 → wX_takeLeaf_15 post (nI c) bl tl li we va gi fo re tr ub iv (d + 1) (nI j) (nI (q % 2 ^ j)) := by
  intro d
  induction d with
  | zero =>
    intro j hj
    have e : j = 8 := by omega
    subst e
    have e2 : q % 2 ^ 8 = q := Nat.mod_eq_of_lt hq
    rw [e2]
    exact br_t (nI_le (a := 8) (b := 8) (by omega) (by omega)) h
  | succ d ih =>
    intro j hj
    have ec : (nI j).toNatClampNeg = j := nI_clamp (by omega)
    have hi : vp_in (nI j) 8 := vp_in_nI (by omega) (by omega)
    have h8 : ¬ (8 : Int32) ≤ nI j := nI_ge (b := 8) (by omega) (by omega)
    refine br_f h8 (And.intro hi (nm_r (e' := nI (q % 2 ^ (j + 1))) ?_ (nm_r (nI_1 j) (ih (j + 1) (by omega)))))
    rw [ec, hv j (by omega)]
    exact ss_leaf q hq j (by omega)
theorem ss_takeLeaf {post : Int32 → SX → Prop} {q : Nat} {w : Nat → Nat} (hc : c ≤ 24) (hw : ∀ k, we k = nI (w k)) (hq : q < 256) (hv : ∀ v, v < 8 → va v = nI (q / 2 ^ v % 2)) (h : post 0 ((nI c), nI (ss_sum (ss_lsf li w va) c), nI q, tl, li, we, va, gi, fo, re, tr, ub, iv)) : wpX_takeLeaf post ((nI c), bl, ba, tl, li, we, va, gi, fo, re, tr, ub, iv) := by
  unfold wpX_takeLeaf
  dsimp only
  refine ss_lossSoFar hc hw ?_
  refine ⟨9, ?_⟩
  have := ss_tlL hq hv h 8 0 rfl
  rw [Nat.pow_zero, Nat.mod_one] at this
  exact this
end SSE
end
section
section SSF
variable {c : Nat} {bl ba tl : Int32} {li we va gi fo re tr ub iv : Nat → Int32}
theorem ss_stepL {post : Int32 → SX → Prop} {k l t : Nat} (hl : l < 16) (hT : fo (l / 2) = -1 → t < 8) (hF : fo (l / 2) = -1 ∨ ∃ b, b < 2 ∧ fo (l / 2) = nI b) (h0 : post 0 ((nI c), bl, ba, nI t, li, we, va, gi, fo, re, tr, ub, iv)) (h1 : fo (l / 2) = -1 → post 1 ((nI c), bl, ba, nI (t + 1), li, we, va, gi, upd fo (l / 2) (nI (1 - l % 2)), upd re (l / 2) (nI k), upd tr t (nI (l / 2)), ub, iv)) : ∀ d j, j + d = 8 → wX_step_12 post (nI k) (nI (2 ^ l)) (nI c) bl ba (nI t) li we va gi fo re tr ub iv (d + 1) (nI j) := by
  intro d
  induction d with
  | zero =>
    intro j hj
    have e : j = 8 := by omega
    subst e
    exact br_t (nI_le (a := 8) (b := 8) (by omega) (by omega)) h0
  | succ d ih =>
    intro j hj
    have ec : (nI j).toNatClampNeg = j := nI_clamp (by omega)
    have hi : vp_in (nI j) 8 := vp_in_nI (by omega) (by omega)
    have h8 : ¬ (8 : Int32) ≤ nI j := nI_ge (b := 8) (by omega) (by omega)
    by_cases e : l / 2 = j
    · refine br_f h8 (br_f (fun z => (ss_p3 l hl j (by omega)).mp z e) ?_)
      refine br_f (by decide : ¬ (1 : Int32) = 0) (And.intro hi ?_)
      rcases hF with z | ⟨b, hb, z⟩
      · refine br_f (by rw [ec, ← e, z]; exact ss_n1le) ?_
        have ht : vp_in (nI t) 8 := vp_in_nI (hT z) (by omega)
        have et : (nI t).toNatClampNeg = t := nI_clamp (by have := hT z; omega)
        by_cases q : l = 2 * j
        · have eo : 1 - l % 2 = 1 := by omega
          refine br_f (fun y => (ss_p1 l hl j (by omega)).mp y q) (And.intro hi (nm_r (e' := upd fo (l / 2) (nI (1 - l % 2))) ?_ (And.intro hi (nm_r (e' := upd re (l / 2) (nI k)) ?_ (And.intro ht (nm_r (e' := upd tr t (nI (l / 2))) ?_ (nm_r (nI_1 t) (h1 z))))))))
          · rw [ec, e, eo]; rfl
          · rw [ec, e]
          · rw [et, e]
        · have eo : 1 - l % 2 = 0 := by omega
          refine br_t ((ss_p1 l hl j (by omega)).mpr q) (And.intro hi (nm_r (e' := upd fo (l / 2) (nI (1 - l % 2))) ?_ (And.intro hi (nm_r (e' := upd re (l / 2) (nI k)) ?_ (And.intro ht (nm_r (e' := upd tr t (nI (l / 2))) ?_ (nm_r (nI_1 t) (h1 z))))))))
          · rw [ec, e, eo]; rfl
          · rw [ec, e]
          · rw [et, e]
      · exact br_t (by rw [ec, ← e, z]; exact nI_pos' (by omega)) (nm_r (nI_1 j) (ih (j + 1) (by omega)))
    · exact br_f h8 (br_t ((ss_p3 l hl j (by omega)).mpr e) (br_t rfl (nm_r (nI_1 j) (ih (j + 1) (by omega)))))
theorem ss_step {post : Int32 → SX → Prop} {k t : Nat} {o : Int32} (h16 : ss_X16 o) (ho0 : ¬ o = 0) (hF : ss_V3 fo) (hT : ∀ v, v < 8 → fo v = -1 → t < 8) (h0 : post 0 ((nI c), bl, ba, nI t, li, we, va, gi, fo, re, tr, ub, iv)) (h1 : ∀ l, l < 16 → o = nI (2 ^ l) → fo (l / 2) = -1 → post 1 ((nI c), bl, ba, nI (t + 1), li, we, va, gi, upd fo (l / 2) (nI (1 - l % 2)), upd re (l / 2) (nI k), upd tr t (nI (l / 2)), ub, iv)) : wpX_step post ((nI c), bl, ba, nI t, li, we, va, gi, fo, re, tr, ub, iv) (nI k) o := by
  refine br_c (fun z => ?_) (fun _ => h0)
  obtain ⟨l, hl, e⟩ := ss_single h16 ho0 z
  subst e
  exact ⟨9, ss_stepL hl (hT _ (by omega)) (hF _ (by omega)) h0 (h1 l hl rfl) 8 0 rfl⟩
/-! unit steps -/
def ss_act (we ub : Nat → Int32) (k : Nat) : Prop := we k = 0 ∨ ¬ ub k ≤ 0
theorem ss_us82 {post : Int32 → SX → Prop} {J42 J56 : Int32 → Int32 → Int32 → Int32 → Int32 → Int32 → (Nat → Int32) → (Nat → Int32) → (Nat → Int32) → (Nat → Int32) → (Nat → Int32) → (Nat → Int32) → (Nat → Int32) → (Nat → Int32) → (Nat → Int32) → Prop} {x1 x2 : Int32} {k t : Nat} (hc : c ≤ 24) (hX : ∀ k, ss_X16 (li k)) (hk : k < c) (ha : ss_act we ub k) (hT : ss_TI c li (ss_act we ub) va t fo re tr)
    (hp : ss_fp (li k) fo → post (nI k) ((nI c), bl, ba, nI t, li, we, va, gi, fo, re, tr, ub, iv)) (hJ : ∀ x1 t fo re tr, ss_TI c li (ss_act we ub) va t fo re tr → J56 x1 (nI (k + 1)) (nI c) bl ba (nI t) li we va gi fo re tr ub iv) : wX_unitSteps_82 post J42 J56 x1 x2 (nI k) (nI c) bl ba (nI t) li we va gi fo re tr ub iv := by
  unfold wX_unitSteps_82
  refine ss_op_F (by omega) ?_
  by_cases z : ss_op (li k) fo 8 = 0
  · exact br_t z (hp ((ss_op0 hT.1 (hX k)).mp z))
  · refine br_f z (ss_step (ss_op_16 hT.1 (hX k)) z hT.1 (fun v hv e => ss_TI_t hT hv e) ?_ ?_)
    · exact br_t rfl (br_c (fun _ => nm_r (nI_1 k) (hJ _ _ _ _ _ hT)) (fun _ => nm_r (nI_1 k) (hJ _ _ _ _ _ hT)))
    · intro l hl ho z2
      exact br_f (by decide) (nm_r (nI_1 k) (hJ _ _ _ _ _ (ss_TI_step hT hk ha hl ho z2)))
theorem ss_us56 {post : Int32 → SX → Prop} {J42 : Int32 → Int32 → Int32 → Int32 → Int32 → Int32 → (Nat → Int32) → (Nat → Int32) → (Nat → Int32) → (Nat → Int32) → (Nat → Int32) → (Nat → Int32) → (Nat → Int32) → (Nat → Int32) → (Nat → Int32) → Prop} {x2 : Int32} (hc : c ≤ 24) (hX : ∀ k, ss_X16 (li k))
    (hp : ∀ k t fo re tr, k < c → ss_act we ub k → ss_TI c li (ss_act we ub) va t fo re tr → ss_fp (li k) fo → post (nI k) ((nI c), bl, ba, nI t, li, we, va, gi, fo, re, tr, ub, iv)) (hJ : ∀ x1 t fo re tr, ss_TI c li (ss_act we ub) va t fo re tr → J42 x1 (x2 + 1) (nI c) bl ba (nI t) li we va gi fo re tr ub iv) :
    ∀ d k, k + d = c → ∀ x1 t fo re tr, ss_TI c li (ss_act we ub) va t fo re tr → wX_unitSteps_56 post J42 x2 (d + 1) x1 (nI k) (nI c) bl ba (nI t) li we va gi fo re tr ub iv := by
  intro d
  induction d with
  | zero =>
    intro k hk x1 t fo re tr hT
    have e : k = c := by omega
    subst e
    exact br_t (nI_le (by omega) (by omega)) (nm_e (hJ _ _ _ _ _ hT))
  | succ d ih =>
    intro k hk x1 t fo re tr hT
    have ec : (nI k).toNatClampNeg = k := nI_clamp (by omega)
    have hi : vp_in (nI k) 24 := vp_in_nI (by omega) (by omega)
    have h8 : ¬ nI c ≤ nI k := nI_ge (by omega) (by omega)
    by_cases z : we k = 0
    · exact br_f h8 (And.intro hi (br_t (by rw [ec]; exact z) (ss_us82 hc hX (by omega) (Or.inl z) hT (hp k t fo re tr (by omega) (Or.inl z) hT) (ih (k + 1) (by omega)))))
    · by_cases z2 : ub k ≤ 0
      · exact br_f h8 (And.intro hi (br_f (by rw [ec]; exact z) (And.intro hi (br_t (by rw [ec]; exact z2) (nm_r (nI_1 k) (ih (k + 1) (by omega) _ _ _ _ _ hT))))))
      · exact br_f h8 (And.intro hi (br_f (by rw [ec]; exact z) (And.intro hi (br_f (by rw [ec]; exact z2) (ss_us82 hc hX (by omega) (Or.inr z2) hT (hp k t fo re tr (by omega) (Or.inr z2) hT) (ih (k + 1) (by omega)))))))
theorem ss_us42 {post : Int32 → SX → Prop} (hc : c ≤ 24) (hX : ∀ k, ss_X16 (li k))
    (hp : ∀ k t fo re tr, k < c → ss_act we ub k → ss_TI c li (ss_act we ub) va t fo re tr → ss_fp (li k) fo → post (nI k) ((nI c), bl, ba, nI t, li, we, va, gi, fo, re, tr, ub, iv)) (hm : ∀ tl fo re tr, post (-1) ((nI c), bl, ba, tl, li, we, va, gi, fo, re, tr, ub, iv)) :
    ∀ d r, r + d = 9 → ∀ x1 t fo re tr, ss_TI c li (ss_act we ub) va t fo re tr → wX_unitSteps_42 post (d + 1) x1 (nI r) (nI c) bl ba (nI t) li we va gi fo re tr ub iv := by
  intro d
  induction d with
  | zero =>
    intro r hr x1 t fo re tr hT
    have e : r = 9 := by omega
    subst e
    exact br_t (nI_le (a := 9) (b := 9) (by omega) (by omega)) (hm _ _ _ _)
  | succ d ih =>
    intro r hr x1 t fo re tr hT
    have h8 : ¬ (9 : Int32) ≤ nI r := nI_ge (b := 9) (by omega) (by omega)
    refine br_f h8 (br_c (fun _ => hm _ _ _ _) (fun _ => ⟨c + 1, ?_⟩))
    refine ss_us56 hc hX hp ?_ c 0 (by omega) 0 t fo re tr hT
    intro x1 t fo re tr hT
    rw [nI_1]
    exact ih (r + 1) (by omega) x1 t fo re tr hT
theorem ss_us2 {post : Int32 → SX → Prop} (h : ∀ fo re, (∀ v, v < 8 → fo v = va v) → ∃ n, wX_unitSteps_42 post n 1 0 (nI c) bl ba 0 li we va gi fo re tr ub iv) : ∀ d j, j + d = 8 → ∀ fo re, (∀ v, v < j → fo v = va v) → wX_unitSteps_2 post (nI c) bl ba tl (d + 1) (nI j) li we va gi fo re tr ub iv := by
  intro d
  induction d with
  | zero =>
    intro j hj fo re hf
    have e : j = 8 := by omega
    subst e
    exact br_t (nI_le (a := 8) (b := 8) (by omega) (by omega)) (h fo re hf)
  | succ d ih =>
    intro j hj fo re hf
    have ec : (nI j).toNatClampNeg = j := nI_clamp (by omega)
    have hi : vp_in (nI j) 8 := vp_in_nI (by omega) (by omega)
    have h8 : ¬ (8 : Int32) ≤ nI j := nI_ge (b := 8) (by omega) (by omega)
    refine br_f h8 (And.intro hi (And.intro hi (nm_r (e' := upd fo j (va j)) (by rw [ec]) (And.intro hi (nm_r (e' := upd re j (-1)) (by rw [ec]) (nm_r (nI_1 j) (ih (j + 1) (by omega) _ _ ?_)))))))
    intro v hv
    by_cases e : v = j
    · rw [e, pk_us]
    · rw [pk_un e]
      exact hf v (by omega)
theorem ss_unitSteps {post : Int32 → SX → Prop} (hc : c ≤ 24) (hX : ∀ k, ss_X16 (li k)) (hV : ss_V3 va)
    (hp : ∀ k t fo re tr, k < c → ss_act we ub k → ss_TI c li (ss_act we ub) va t fo re tr → ss_fp (li k) fo → post (nI k) ((nI c), bl, ba, nI t, li, we, va, gi, fo, re, tr, ub, iv)) (hm : ∀ tl fo re tr, post (-1) ((nI c), bl, ba, tl, li, we, va, gi, fo, re, tr, ub, iv)) : wpX_unitSteps post ((nI c), bl, ba, tl, li, we, va, gi, fo, re, tr, ub, iv) := by
  refine ⟨9, ss_us2 ?_ 8 0 rfl fo re (fun v hv => absurd hv (by omega))⟩
  intro fo re hf
  exact ⟨10, ss_us42 hc hX hp hm 9 0 rfl 1 0 fo re tr (ss_TI0 hV hf)⟩
end SSF
end
section
section SSG
variable {c : Nat} {bl ba tl : Int32} {li we va gi fo re tr ub iv : Nat → Int32} {w U : Nat → Nat}
theorem ss_vb0 : vp_nar .boolean 0 = 0 := by decide
theorem ss_vb1 : vp_nar .boolean 1 = 1 := by decide
theorem ss_bk2 {post : Int32 → SX → Prop} {k0 : Nat} (hc : c ≤ 24) (hk0 : k0 < c) (hcont : ∀ iv, iv k0 ≠ 0 → (∀ k, k < c → k ≠ k0 → iv k = 0) → ∃ n, wX_book_45 post (nI c) bl ba tl n (ss_vo (li k0) 8) (tl - 1) li we va gi fo re tr ub iv) : ∀ d k, k + d = c → ∀ iv, (k0 < k → iv k0 ≠ 0) → (∀ j, j < k → j ≠ k0 → iv j = 0) → wX_book_2 post (nI k0) (nI c) bl ba tl (d + 1) (nI k) li we va gi fo re tr ub iv := by
  intro d
  induction d with
  | zero =>
    intro k hk iv h1 h2
    have e : k = c := by omega
    subst e
    exact br_t (nI_le (by omega) (by omega)) (ss_variablesOf (by omega) (nm_e (hcont iv (h1 hk0) h2)))
  | succ d ih =>
    intro k hk iv h1 h2
    have ec : (nI k).toNatClampNeg = k := nI_clamp (by omega)
    have hi : vp_in (nI k) 24 := vp_in_nI (by omega) (by omega)
    have h8 : ¬ nI c ≤ nI k := nI_ge (by omega) (by omega)
    by_cases e : k = k0
    · refine br_f h8 (br_t (by rw [e]) (And.intro hi (nm_r (e' := upd iv k 1) (by rw [ec, ss_vb1]) (nm_r (nI_1 k) (ih (k + 1) (by omega) _ ?_ ?_)))))
      · intro _
        rw [← e, pk_us]
        decide
      · intro j hj hne
        rw [pk_un (by omega)]
        exact h2 j (by omega) hne
    · refine br_f h8 (br_f (fun z => e (ss_im z (by omega) (by omega))) (And.intro hi (nm_r (e' := upd iv k 0) (by rw [ec, ss_vb0]) (nm_r (nI_1 k) (ih (k + 1) (by omega) _ ?_ ?_)))))
      · intro hlt
        rw [pk_un (by omega)]
        exact h1 (by omega)
      · intro j hj hne
        by_cases q : j = k
        · rw [q, pk_us]
        · rw [pk_un q]
          exact h2 j (by omega) hne
theorem ss_bk45 {post : Int32 → SX → Prop} {k0 t : Nat} {act : Nat → Prop} (hc : c ≤ 24) (hT : ss_TI c li act va t fo re tr) (hcont : ∀ x2 iv, ss_BI c li act va re tr k0 0 x2 iv → ∃ n, wX_book_104 post (nI c) bl ba tl li we va gi fo re tr ub iv n 0 0) : ∀ s, s ≤ t → ∀ x2 iv, ss_BI c li act va re tr k0 s x2 iv → wX_book_45 post (nI c) bl ba tl (s + 1) x2 (nI s - 1) li we va gi fo re tr ub iv := by
  intro s
  induction s with
  | zero =>
    intro _ x2 iv hB
    exact br_t (by decide : nI 0 - 1 < 0) (hcont x2 iv hB)
  | succ s ih =>
    intro hs x2 iv hB
    obtain ⟨v0, kk, hv0, hkk, e1, e2, e3, e4, e5⟩ := hT.2.2.2.1 s (by omega)
    have hs8 : s < 8 := by
      have := hT.2.2.2.2
      omega
    have es : (nI s).toNatClampNeg = s := nI_clamp (by omega)
    have ev : (nI v0).toNatClampNeg = v0 := nI_clamp (by omega)
    have ek : (nI kk).toNatClampNeg = kk := nI_clamp (by omega)
    have hi : vp_in (nI s) 8 := vp_in_nI (by omega) (by omega)
    have hv8 : vp_in (nI v0) 8 := vp_in_nI (by omega) (by omega)
    have hk24 : vp_in (nI kk) 24 := vp_in_nI (by omega) (by omega)
    have er : re (nI v0).toNatClampNeg = nI kk := by rw [ev]; exact e2
    have em : nI s + (-1) = nI s - 1 := (Int32.sub_eq_add_neg (nI s) 1).symm
    rw [nI_pred]
    refine br_f (nI_pos (by omega)) (And.intro hi (nm_r (e' := nI v0) (by rw [es]; exact e1) ?_))
    by_cases z : bt x2 v0 = false
    · exact br_t ((ss_u1 x2 v0 (by omega)).mpr z) (nm_r em (ih (by omega) x2 iv (ss_BI_n hB hv0 e1 z)))
    · refine br_f (fun y => z ((ss_u1 x2 v0 (by omega)).mp y)) (And.intro hv8 (And.intro (by rw [er]; exact hk24) (nm_r (e' := upd iv kk 1) (by rw [er, ek, ss_vb1]) (And.intro hv8 ?_))))
      rw [er]
      exact ss_variablesOf (by omega) (nm_e (nm_r em (ih (by omega) _ _ (ss_BI_y hB hv0 hkk e1 e2 e3 e5))))
def ss_LI (iv : Nat → Int32) (w U : Nat → Nat) (k m : Nat) : Prop := m ≤ 50 ∧ (m = 0 → ∀ j, j < k → iv j ≠ 0 → w j = 0) ∧ (∀ j, j < k → iv j ≠ 0 → w j ≠ 0 → m ≤ U j)
theorem ss_LI_n {k m : Nat} (h : ss_LI iv w U k m) (hz : iv k ≠ 0 → w k = 0) : ss_LI iv w U (k + 1) m := by
  refine ⟨h.1, fun e j hj hi => ?_, fun j hj hi hw => ?_⟩
  · by_cases q : j = k
    · rw [q] at hi ⊢; exact hz hi
    · exact h.2.1 e j (by omega) hi
  · by_cases q : j = k
    · rw [q] at hi hw; exact absurd (hz hi) hw
    · exact h.2.2 j (by omega) hi hw
theorem ss_LI_k {k m : Nat} (h : ss_LI iv w U k m) (h0 : m ≠ 0) (hz : m ≤ U k) : ss_LI iv w U (k + 1) m := by
  refine ⟨h.1, fun e => absurd e h0, fun j hj hi hw => ?_⟩
  by_cases q : j = k
  · rw [q]; exact hz
  · exact h.2.2 j (by omega) hi hw
theorem ss_LI_u {k m : Nat} (h : ss_LI iv w U k m) (h5 : U k ≤ 50) (h0 : 0 < U k) (hz : m = 0 ∨ U k ≤ m) : ss_LI iv w U (k + 1) (U k) := by
  refine ⟨h5, fun e => absurd e (by omega), fun j hj hi hw => ?_⟩
  by_cases q : j = k
  · rw [q]; exact Nat.le_refl _
  · rcases hz with z | z
    · exact absurd (h.2.1 z j (by omega) hi) hw
    · exact Nat.le_trans z (h.2.2 j (by omega) hi hw)
theorem ss_bk104 {post : Int32 → SX → Prop} (hc : c ≤ 24) (hw : ∀ k, we k = nI (w k)) (hw5 : ∀ k, w k ≤ 50) (hU : ∀ k, k < c → ub k = nI (U k)) (hU5 : ∀ k, k < c → U k ≤ 50) (hpos : ∀ k, k < c → iv k ≠ 0 → w k ≠ 0 → 0 < U k) (hcont : ∀ m, ss_LI iv w U c m → ∃ n, wX_book_181 post (nI m) (nI c) bl ba tl n 0 li we va gi fo re tr ub iv) : ∀ d k, k + d = c → ∀ m, ss_LI iv w U k m → wX_book_104 post (nI c) bl ba tl li we va gi fo re tr ub iv (d + 1) (nI m) (nI k) := by
  intro d
  induction d with
  | zero =>
    intro k hk m hL
    have e : k = c := by omega
    subst e
    exact br_t (nI_le (by omega) (by omega)) (hcont m hL)
  | succ d ih =>
    intro k hk m hL
    have ec : (nI k).toNatClampNeg = k := nI_clamp (by omega)
    have hi : vp_in (nI k) 24 := vp_in_nI (by omega) (by omega)
    have h8 : ¬ nI c ≤ nI k := nI_ge (by omega) (by omega)
    have hm5 := hL.1
    have hwk := hw5 k
    have hUk := hU5 k (by omega)
    have eu : ub (nI k).toNatClampNeg = nI (U k) := by rw [ec]; exact hU k (by omega)
    have ew : we (nI k).toNatClampNeg = nI (w k) := by rw [ec]; exact hw k
    refine br_f h8 (And.intro hi ?_)
    by_cases z : iv k = 0
    · exact br_t (by rw [ec]; exact z) (br_t rfl (nm_r (nI_1 k) (ih (k + 1) (by omega) m (ss_LI_n hL (fun q => absurd z q)))))
    · refine br_f (by rw [ec]; exact z) (And.intro hi ?_)
      by_cases z2 : w k = 0
      · exact br_t (by rw [ew, ss_le0 (by omega)]; exact z2) (br_t rfl (nm_r (nI_1 k) (ih (k + 1) (by omega) m (ss_LI_n hL (fun _ => z2)))))
      · refine br_f (by rw [ew, ss_le0 (by omega)]; exact z2) (br_f (by decide : ¬ (1 : Int32) = 0) ?_)
        have hp := hpos k (by omega) z z2
        by_cases z3 : m = 0
        · exact br_t (by rw [ss_eq0 (by omega)]; exact z3) (And.intro hi (nm_r eu (nm_r (nI_1 k) (ih (k + 1) (by omega) (U k) (ss_LI_u hL hUk hp (Or.inl z3))))))
        · refine br_f (by rw [ss_eq0 (by omega)]; exact z3) (And.intro hi ?_)
          by_cases z4 : m ≤ U k
          · exact br_t (by rw [eu]; exact nI_le z4 (by omega)) (nm_r (nI_1 k) (ih (k + 1) (by omega) m (ss_LI_k hL z3 z4)))
          · exact br_f (by rw [eu]; exact nI_ge (by omega) (by omega)) (And.intro hi (nm_r eu (nm_r (nI_1 k) (ih (k + 1) (by omega) (U k) (ss_LI_u hL hUk hp (Or.inr (by omega)))))))
def ss_U' (iv : Nat → Int32) (w U : Nat → Nat) (m k : Nat) : Nat := if iv k ≠ 0 ∧ w k ≠ 0 then U k - m else U k
theorem ss_bk181 {post : Int32 → SX → Prop} {m : Nat} (hc : c ≤ 24) (hw : ∀ k, we k = nI (w k)) (hw5 : ∀ k, w k ≤ 50) (hU5 : ∀ k, k < c → U k ≤ 50) (hm : ∀ k, k < c → iv k ≠ 0 → w k ≠ 0 → m ≤ U k) (hp : ∀ ub, (∀ k, k < c → ub k = nI (ss_U' iv w U m k)) → post (nI m) ((nI c), bl, ba, tl, li, we, va, gi, fo, re, tr, ub, iv)) : ∀ d k, k + d = c → ∀ ub, (∀ j, j < k → ub j = nI (ss_U' iv w U m j)) → (∀ j, k ≤ j → j < c → ub j = nI (U j)) → wX_book_181 post (nI m) (nI c) bl ba tl (d + 1) (nI k) li we va gi fo re tr ub iv := by
  intro d
  induction d with
  | zero =>
    intro k hk ub h1 h2
    have e : k = c := by omega
    subst e
    exact br_t (nI_le (by omega) (by omega)) (hp ub h1)
  | succ d ih =>
    intro k hk ub h1 h2
    have ec : (nI k).toNatClampNeg = k := nI_clamp (by omega)
    have hi : vp_in (nI k) 24 := vp_in_nI (by omega) (by omega)
    have h8 : ¬ nI c ≤ nI k := nI_ge (by omega) (by omega)
    have hwk := hw5 k
    have eu : ub (nI k).toNatClampNeg = nI (U k) := by rw [ec]; exact h2 k (by omega) (by omega)
    have ew : we (nI k).toNatClampNeg = nI (w k) := by rw [ec]; exact hw k
    have a1 : ∀ j, j < k + 1 → upd ub k (nI (ss_U' iv w U m k)) j = nI (ss_U' iv w U m j) := by
      intro j hj
      by_cases q : j = k
      · rw [q, pk_us]
      · rw [pk_un q]; exact h1 j (by omega)
    have a2 : ∀ j, k + 1 ≤ j → j < c → upd ub k (nI (ss_U' iv w U m k)) j = nI (U j) := by
      intro j hj hjc
      rw [pk_un (by omega)]; exact h2 j (by omega) hjc
    refine br_f h8 (And.intro hi (And.intro hi ?_))
    by_cases z : iv k = 0
    · refine br_t (by rw [ec]; exact z) (And.intro hi (nm_r (e' := upd ub k (nI (ss_U' iv w U m k))) ?_ (nm_r (nI_1 k) (ih (k + 1) (by omega) _ a1 a2))))
      rw [eu, ec, ss_U', if_neg (fun q => q.1 z), Int32.sub_zero]
    · refine br_f (by rw [ec]; exact z) (And.intro hi ?_)
      by_cases z2 : w k = 0
      · refine br_t (by rw [ew, ss_le0 (by omega)]; exact z2) (And.intro hi (nm_r (e' := upd ub k (nI (ss_U' iv w U m k))) ?_ (nm_r (nI_1 k) (ih (k + 1) (by omega) _ a1 a2))))
        rw [eu, ec, ss_U', if_neg (fun q => q.2 z2), Int32.sub_zero]
      · refine br_f (by rw [ew, ss_le0 (by omega)]; exact z2) (And.intro hi (nm_r (e' := upd ub k (nI (ss_U' iv w U m k))) ?_ (nm_r (nI_1 k) (ih (k + 1) (by omega) _ a1 a2))))
        rw [eu, ec, ss_U', if_pos ⟨z, z2⟩, pk_sub (hm k (by omega) z z2)]
theorem ss_book {post : Int32 → SX → Prop} {k0 t : Nat} (hc : c ≤ 24) (hw : ∀ k, we k = nI (w k)) (hw5 : ∀ k, w k ≤ 50) (hU : ∀ k, k < c → ub k = nI (U k)) (hU5 : ∀ k, k < c → U k ≤ 50) (hT : ss_TI c li (ss_act we ub) va t fo re tr) (hk0 : k0 < c) (ha : ss_act we ub k0) (hf : ss_fp (li k0) fo)
    (h : ∀ m ub iv U', m ≤ 50 → (∀ k, k < c → ub k = nI (U' k)) → (∀ k, k < c → U' k ≤ U k) → ss_BF li w c va m U U' → post (nI m) ((nI c), bl, ba, nI t, li, we, va, gi, fo, re, tr, ub, iv)) : wpX_book post ((nI c), bl, ba, nI t, li, we, va, gi, fo, re, tr, ub, iv) (nI k0) := by
  refine ⟨c + 1, ss_bk2 hc hk0 ?_ c 0 (by omega) iv (fun z => absurd z (by omega)) (fun j hj => absurd hj (by omega))⟩
  intro iv h1 h2
  refine ⟨t + 1, ss_bk45 (act := ss_act we ub) (k0 := k0) hc hT ?_ t (Nat.le_refl _) _ iv (ss_BI0 hT hf ha h1 h2)⟩
  intro x2 iv hB
  have hpos : ∀ k, k < c → iv k ≠ 0 → w k ≠ 0 → 0 < U k := by
    intro k hk hi hwk
    have hwk5 := hw5 k
    have hUk := hU5 k hk
    rcases (hB.2.1 k hk hi).1 with q | q
    · rw [hw, ss_eq0 (by omega)] at q
      exact absurd q hwk
    · rw [hU k hk, ss_le0 (by omega)] at q
      omega
  refine ⟨c + 1, ss_bk104 hc hw hw5 hU hU5 hpos ?_ c 0 (by omega) 0 ⟨by omega, fun _ j hj => absurd hj (by omega), fun j hj => absurd hj (by omega)⟩⟩
  intro m hL
  refine ⟨c + 1, ss_bk181 (U := U) hc hw hw5 hU5 hL.2.2 ?_ c 0 (by omega) ub (fun j hj => absurd hj (by omega)) (fun j _ hj => hU j hj)⟩
  intro ub' hub'
  refine h m ub' iv (ss_U' iv w U m) hL.1 hub' ?_ (ss_BF_of (iv := iv) (fun b hE => ss_sound hc hT hk0 hf hB hE) hL.2.1 hL.2.2 (fun k _ => rfl))
  intro k _
  unfold ss_U'
  split <;> omega
end SSG
end
section
section SSH
variable {c : Nat} {bl ba tl : Int32} {li we va gi fo re tr ub iv : Nat → Int32} {w U : Nat → Nat}
theorem ss_ww143 {post : Int32 → SX → Prop} {m x L0 : Nat} (hm : m ≤ 2000) (hx : x ≤ 2050) (hL : L0 ≤ x) (hB : ∀ b, ss_Ext va b → ss_HO li w c b → x ≤ ss_LS li w c b)
    (h0 : (∀ b, ss_Ext va b → ss_HO li w c b → m ≤ ss_LS li w c b) → post 0 ((nI c), nI m, ba, tl, li, we, va, gi, fo, re, tr, ub, iv)) (h1 : L0 < m → post 1 ((nI c), nI m, ba, tl, li, we, va, gi, fo, re, tr, ub, iv)) : wX_worthwhile_143 post (nI x) (nI c) (nI m) ba tl li we va gi fo re tr ub iv := by
  by_cases z : m ≤ x
  · exact br_t (nI_le z (by omega)) (h0 (fun b hE hH => Nat.le_trans z (hB b hE hH)))
  · exact br_f (nI_ge (by omega) (by omega)) (h1 (by omega))
theorem ss_ww93 {post : Int32 → SX → Prop} {m L0 : Nat} (hc : c ≤ 24) (hX : ∀ k, ss_X16 (li k)) (hV : ss_V3 va) (hw : ∀ k, we k = nI (w k)) (hw5 : ∀ k, w k ≤ 50) (hm : m ≤ 2000)
    (h0 : (∀ b, ss_Ext va b → ss_HO li w c b → m ≤ ss_LS li w c b) → ∀ tl fo re tr ub iv, post 0 ((nI c), nI m, ba, tl, li, we, va, gi, fo, re, tr, ub, iv)) (h1 : L0 < m → ∀ tl fo re tr ub iv, post 1 ((nI c), nI m, ba, tl, li, we, va, gi, fo, re, tr, ub, iv)) :
    ∀ d r, r + d = 25 → ∀ x U tl fo re tr ub iv, L0 ≤ x → x ≤ 2050 → (∀ k, k < c → ub k = nI (U k)) → (∀ k, k < c → U k ≤ 50) → (∀ b, ss_Ext va b → ss_HO li w c b → x + ss_LS li U c b ≤ ss_LS li w c b) → wX_worthwhile_93 post (d + 1) (nI x) (nI r) (nI c) (nI m) ba tl li we va gi fo re tr ub iv := by
  intro d
  induction d with
  | zero =>
    intro r hr x U tl fo re tr ub iv hL hx hU hU5 hB
    have e : r = 25 := by omega
    subst e
    exact br_t (nI_le (a := 25) (b := 25) (by omega) (by omega)) (ss_ww143 hm hx hL (fun b hE hH => by have := hB b hE hH; omega) (fun h => h0 h _ _ _ _ _ _) (fun h => h1 h _ _ _ _ _ _))
  | succ d ih =>
    intro r hr x U tl fo re tr ub iv hL hx hU hU5 hB
    have h8 : ¬ (25 : Int32) ≤ nI r := nI_ge (b := 25) (by omega) (by omega)
    refine br_f h8 ?_
    by_cases z : m ≤ x
    · exact br_t (nI_le z (by omega)) (ss_ww143 hm hx hL (fun b hE hH => by have := hB b hE hH; omega) (fun h => h0 h _ _ _ _ _ _) (fun h => h1 h _ _ _ _ _ _))
    · refine br_f (nI_ge (by omega) (by omega)) (ss_unitSteps hc hX hV ?_ ?_)
      · intro k t fo re tr hk ha hT hf
        refine br_t (nI_pos' (by omega)) (ss_book hc hw hw5 hU hU5 hT hk ha hf ?_)
        intro m' ub iv U' hm' hub hle hBF
        by_cases e : m' = 0
        · exact br_t (by rw [ss_eq0 (by omega)]; exact e) (h0 (fun b hE hH => absurd hH (hBF.1 e b hE)) _ _ _ _ _ _)
        · refine br_f (by rw [ss_eq0 (by omega)]; exact e) (nm_r (nI_add x m') (nm_r (nI_1 r) (ih (r + 1) (by omega) (x + m') U' _ _ _ _ ub iv (by omega) (by omega) hub (fun k hk => Nat.le_trans (hle k hk) (hU5 k hk)) ?_)))
          intro b hE hH
          have a1 := hB b hE hH
          have a2 := hBF.2 b hE hH
          omega
      · intro tl fo re tr
        exact br_f ss_n1le (h1 (by omega) _ _ _ _ _ _)
def ss_U0 (li : Nat → Int32) (w : Nat → Nat) (va : Nat → Int32) (k : Nat) : Nat := if ss_op (li k) va 8 = 0 then 0 else w k
theorem ss_LB0 {b : Nat} (hX : ∀ k, ss_X16 (li k)) (hV : ss_V3 va) (hE : ss_Ext va b) : ss_sum (ss_lsf li w va) c + ss_LS li (ss_U0 li w va) c b ≤ ss_LS li w c b := by
  unfold ss_LS
  rw [← ss_sum_add]
  refine ss_sum_le c (fun k _ => ?_)
  unfold ss_lsf ss_U0
  by_cases z : ss_op (li k) va 8 = 0
  · have hf := ss_fp_fl ((ss_op0 hV (hX k)).mp z) hE
    rw [if_pos z, if_pos z, if_pos hf, if_pos hf]
    omega
  · rw [if_neg z, if_neg z]
    omega
theorem ss_ww7 {post : Int32 → SX → Prop} {m : Nat} (hc : c ≤ 24) (hX : ∀ k, ss_X16 (li k)) (hV : ss_V3 va) (hw : ∀ k, we k = nI (w k)) (hw5 : ∀ k, w k ≤ 50) (hm : m ≤ 2000)
    (h0 : (∀ b, ss_Ext va b → ss_HO li w c b → m ≤ ss_LS li w c b) → ∀ tl fo re tr ub iv, post 0 ((nI c), nI m, ba, tl, li, we, va, gi, fo, re, tr, ub, iv)) (h1 : ss_sum (ss_lsf li w va) c < m → (∀ k, k < c → w k = 0 → ¬ ss_op (li k) va 8 = 0) → ∀ tl fo re tr ub iv, post 1 ((nI c), nI m, ba, tl, li, we, va, gi, fo, re, tr, ub, iv)) :
    ∀ d k, k + d = c → ∀ ub, (∀ j, j < k → ub j = nI (ss_U0 li w va j)) → (∀ j, j < k → w j = 0 → ¬ ss_op (li j) va 8 = 0) → wX_worthwhile_7 post (nI (ss_sum (ss_lsf li w va) c)) (nI c) (nI m) ba tl (d + 1) (nI k) li we va gi fo re tr ub iv := by
  intro d
  induction d with
  | zero =>
    intro k hk ub hU hH
    have e : k = c := by omega
    subst e
    have hb : ss_sum (ss_lsf li w va) k ≤ 1200 := by
      have := ss_sum_b (f := ss_lsf li w va) (M := 50) k (fun j _ => by
        unfold ss_lsf
        have := hw5 j
        split <;> omega)
      omega
    refine br_t (nI_le (by omega) (by omega)) ⟨26, ss_ww93 (L0 := ss_sum (ss_lsf li w va) k) hc hX hV hw hw5 hm h0 (fun h => h1 h hH) 25 0 rfl (ss_sum (ss_lsf li w va) k) (ss_U0 li w va) _ _ _ _ ub iv (Nat.le_refl _) (by omega) hU ?_ (fun b hE _ => ss_LB0 hX hV hE)⟩
    intro j _
    unfold ss_U0
    have := hw5 j
    split <;> omega
  | succ d ih =>
    intro k hk ub hU hH
    have ec : (nI k).toNatClampNeg = k := nI_clamp (by omega)
    have hi : vp_in (nI k) 24 := vp_in_nI (by omega) (by omega)
    have h8 : ¬ nI c ≤ nI k := nI_ge (by omega) (by omega)
    have hwk := hw5 k
    have ew : we (nI k).toNatClampNeg = nI (w k) := by rw [ec]; exact hw k
    have a1 : ∀ j, j < k + 1 → upd ub k (nI (ss_U0 li w va k)) j = nI (ss_U0 li w va j) := by
      intro j hj
      by_cases q : j = k
      · rw [q, pk_us]
      · rw [pk_un q]; exact hU j (by omega)
    refine br_f h8 (And.intro hi ?_)
    by_cases z : w k = 0
    · refine br_t (by rw [ew, ss_eq0 (by omega)]; exact z) (ss_op_V (by omega) ?_)
      by_cases z2 : ss_op (li k) va 8 = 0
      · refine br_t z2 (h0 (fun b hE hHO => ?_) _ _ _ _ _ _)
        have t1 := hHO k (by omega) z
        rw [ss_fp_fl ((ss_op0 hV (hX k)).mp z2) hE] at t1
        exact absurd t1 (by decide)
      · have a2 : ∀ j, j < k + 1 → w j = 0 → ¬ ss_op (li j) va 8 = 0 := by
          intro j hj
          by_cases q : j = k
          · rw [q]; exact fun _ => z2
          · exact hH j (by omega)
        refine br_f z2 (And.intro hi (br_t (by rw [ew, ss_le0 (by omega)]; exact z) (br_t rfl (And.intro hi (nm_r (e' := upd ub k (nI (ss_U0 li w va k))) ?_ (nm_r (nI_1 k) (ih (k + 1) (by omega) _ a1 a2)))))))
        rw [ec, ss_U0, if_neg z2, z]; rfl
    · have a2 : ∀ j, j < k + 1 → w j = 0 → ¬ ss_op (li j) va 8 = 0 := by
        intro j hj
        by_cases q : j = k
        · rw [q]; exact fun y => absurd y z
        · exact hH j (by omega)
      refine br_f (by rw [ew, ss_eq0 (by omega)]; exact z) (And.intro hi (br_f (by rw [ew, ss_le0 (by omega)]; exact z) (ss_op_V (by omega) ?_)))
      by_cases z2 : ss_op (li k) va 8 = 0
      · refine br_t z2 (br_t rfl (And.intro hi (nm_r (e' := upd ub k (nI (ss_U0 li w va k))) ?_ (nm_r (nI_1 k) (ih (k + 1) (by omega) _ a1 a2)))))
        rw [ec, ss_U0, if_pos z2]; rfl
      · refine br_f z2 (br_f (by decide : ¬ (1 : Int32) = 0) (And.intro hi (And.intro hi (nm_r (e' := upd ub k (nI (ss_U0 li w va k))) ?_ (nm_r (nI_1 k) (ih (k + 1) (by omega) _ a1 a2))))))
        rw [ew, ec, ss_U0, if_neg z2]
theorem ss_worthwhile {post : Int32 → SX → Prop} {m : Nat} (hc : c ≤ 24) (hX : ∀ k, ss_X16 (li k)) (hV : ss_V3 va) (hw : ∀ k, we k = nI (w k)) (hw5 : ∀ k, w k ≤ 50) (hm : m ≤ 2000)
    (h0 : (∀ b, ss_Ext va b → ss_HO li w c b → m ≤ ss_LS li w c b) → ∀ tl fo re tr ub iv, post 0 ((nI c), nI m, ba, tl, li, we, va, gi, fo, re, tr, ub, iv)) (h1 : ss_sum (ss_lsf li w va) c < m → (∀ k, k < c → w k = 0 → ¬ ss_op (li k) va 8 = 0) → ∀ tl fo re tr ub iv, post 1 ((nI c), nI m, ba, tl, li, we, va, gi, fo, re, tr, ub, iv)) : wpX_worthwhile post ((nI c), nI m, ba, tl, li, we, va, gi, fo, re, tr, ub, iv) := by
  unfold wpX_worthwhile
  dsimp only
  exact ss_lossSoFar hc hw ⟨c + 1, ss_ww7 hc hX hV hw hw5 hm h0 h1 c 0 (by omega) ub (fun j hj => absurd hj (by omega)) (fun j hj => absurd hj (by omega))⟩
end SSH
end
section
section SSI
/-! the best so far, over the assignments below T -/
def ss_SI (ok : Nat → Prop) (ls : Nat → Nat) (T m : Nat) (ba : Int32) : Prop :=
  (ba = -1 ∧ m = 2000 ∧ ∀ b, b < T → ¬ ok b) ∨ (∃ a, a < T ∧ ok a ∧ ba = nI a ∧ m = ls a ∧ ∀ b, b < T → ok b → ls a ≤ ls b ∧ (b < a → ls a < ls b))
def ss_ok (li : Nat → Int32) (w : Nat → Nat) (c : Nat) (gi : Nat → Int32) (b : Nat) : Prop := (∀ j, j < 8 → gi j = -1 ∨ gi j = nI (b / 2 ^ j % 2)) ∧ ss_HO li w c b
theorem ss_SI_skip {ok : Nat → Prop} {ls : Nat → Nat} {T T' m : Nat} {ba : Int32} (h : ss_SI ok ls T m ba) (hT : T ≤ T') (hls : ∀ b, ls b ≤ 1200) (hs : ∀ b, T ≤ b → b < T' → ok b → m ≤ ls b) : ss_SI ok ls T' m ba := by
  rcases h with ⟨e1, e2, h⟩ | ⟨a, ha, hok, e1, e2, h⟩
  · refine Or.inl ⟨e1, e2, fun b hb hokb => ?_⟩
    by_cases q : b < T
    · exact h b q hokb
    · have a1 := hs b (by omega) hb hokb
      have a2 := hls b
      omega
  · refine Or.inr ⟨a, by omega, hok, e1, e2, fun b hb hokb => ?_⟩
    by_cases q : b < T
    · exact h b q hokb
    · have a1 := hs b (by omega) hb hokb
      exact ⟨by omega, fun z => absurd z (by omega)⟩
theorem ss_SI_take {ok : Nat → Prop} {ls : Nat → Nat} {T m : Nat} {ba : Int32} (h : ss_SI ok ls T m ba) (hok : ok T) (hlt : ls T < m) : ss_SI ok ls (T + 1) (ls T) (nI T) := by
  refine Or.inr ⟨T, by omega, hok, rfl, rfl, fun b hb hokb => ?_⟩
  by_cases q : b = T
  · rw [q]
    exact ⟨Nat.le_refl _, fun z => absurd z (by omega)⟩
  · rcases h with ⟨e1, e2, h⟩ | ⟨a, ha, hoka, e1, e2, h⟩
    · exact absurd hokb (h b (by omega))
    · have := (h b (by omega) hokb).1
      exact ⟨by omega, fun _ => by omega⟩
theorem ss_SI_m {ok : Nat → Prop} {ls : Nat → Nat} {T m : Nat} {ba : Int32} (h : ss_SI ok ls T m ba) (hls : ∀ b, ls b ≤ 1200) : m ≤ 2000 := by
  rcases h with ⟨e1, e2, h⟩ | ⟨a, ha, hoka, e1, e2, h⟩
  · omega
  · have := hls a
    omega
theorem ss_SI_u {ok : Nat → Prop} {ls : Nat → Nat} {x y d m : Nat} {ba : Int32} (h : ss_SI ok ls (x * 2 ^ d) m ba) (hxy : x ≤ y) (hls : ∀ b, ls b ≤ 1200) (hs : ∀ b, x ≤ b / 2 ^ d → b / 2 ^ d < y → ok b → m ≤ ls b) : ss_SI ok ls (y * 2 ^ d) m ba :=
  ss_SI_skip h (Nat.mul_le_mul_right _ hxy) hls (fun b h1 h2 => hs b ((Nat.le_div_iff_mul_le (Nat.two_pow_pos d)).mpr h1) ((Nat.div_lt_iff_lt_mul (Nat.two_pow_pos d)).mpr h2))
theorem ss_bq {q y j d : Nat} (hy : y < 2) (hj : d + 1 ≤ j) : (2 * q + y) / 2 ^ (j - d) = q / 2 ^ (j - (d + 1)) := by
  have e : j - d = (j - (d + 1)) + 1 := by omega
  have e2 : (2 * q + y) / 2 = q := by omega
  rw [e, Nat.pow_succ, Nat.mul_comm (2 ^ (j - (d + 1))) 2, ← Nat.div_div_eq_div_mul, e2]
theorem ss_bq0 {q y d : Nat} (hy : y < 2) : (2 * q + y) / 2 ^ (d - d) % 2 = y := by
  rw [Nat.sub_self, Nat.pow_zero, Nat.div_one]
  omega
theorem ss_bd {b d j : Nat} (h : d ≤ j) : b / 2 ^ d / 2 ^ (j - d) = b / 2 ^ j := by
  rw [Nat.div_div_eq_div_mul, ← Nat.pow_add, Nat.add_sub_cancel' h]
theorem ss_2p (q d x : Nat) : (2 * q + x) * 2 ^ d = q * 2 ^ (d + 1) + x * 2 ^ d := by
  rw [Nat.pow_succ, Nat.add_mul, Nat.mul_comm 2 q, Nat.mul_assoc, Nat.mul_comm 2 (2 ^ d)]
theorem ss_2q (q d : Nat) : (2 * q + 2) * 2 ^ d = (q + 1) * 2 ^ (d + 1) := by
  rw [Nat.pow_succ, ← Nat.mul_succ, Nat.mul_comm 2 (q + 1), Nat.mul_assoc, Nat.mul_comm 2 (2 ^ d)]
def ss_B : Nat → Nat
  | 0 => 1
  | d + 1 => 2 * ss_B d + 3
def ss_R (B X : Nat) : Nat := if X = 2 then 1 else if X = 1 then 2 + B else 3 + 2 * B
theorem ss_R_s {B X Y : Nat} (h : X < Y) (hY : Y ≤ 2) : ss_R B Y + 1 + B ≤ ss_R B X := by
  rcases (by omega : X = 0 ∧ Y = 1 ∨ X = 0 ∧ Y = 2 ∨ X = 1 ∧ Y = 2) with ⟨rfl, rfl⟩ | ⟨rfl, rfl⟩ | ⟨rfl, rfl⟩
  · show 2 + B + 1 + B ≤ 3 + 2 * B
    omega
  · show 1 + 1 + B ≤ 3 + 2 * B
    omega
  · show 1 + 1 + B ≤ 2 + B
    omega
theorem ss_R_1 {B X : Nat} : 1 ≤ ss_R B X := by
  unfold ss_R
  split
  · omega
  · split <;> omega
variable {c : Nat} {bl ba tl : Int32} {li we va gi fo re tr ub iv : Nat → Int32} {w : Nat → Nat}
theorem ss_leafS {q : Nat} (hX : ∀ k, ss_X16 (li k)) (hV : ss_V3 va) (hv : ∀ v, v < 8 → va v = nI (q / 2 ^ v % 2)) : ss_sum (ss_lsf li w va) c = ss_LS li w c q := by
  unfold ss_LS
  refine ss_sum_c c (fun k _ => ?_)
  unfold ss_lsf
  by_cases z : ss_op (li k) va 8 = 0
  · rw [if_pos z, if_pos ((ss_fl_fp hv).mp ((ss_op0 hV (hX k)).mp z))]
  · rw [if_neg z, if_neg (fun y => z ((ss_op0 hV (hX k)).mpr ((ss_fl_fp hv).mpr y)))]
theorem ss_leafH {q : Nat} (hX : ∀ k, ss_X16 (li k)) (hV : ss_V3 va) (hv : ∀ v, v < 8 → va v = nI (q / 2 ^ v % 2)) (h : ∀ k, k < c → w k = 0 → ¬ ss_op (li k) va 8 = 0) : ss_HO li w c q := by
  intro k hk hw
  cases e : ss_fl (li k) q with
  | false => rfl
  | true => exact absurd ((ss_op0 hV (hX k)).mpr ((ss_fl_fp hv).mpr e)) (h k hk hw)
/-- a subtree with d variables free is searched -/
def ss_E (post : SX → Prop) (c : Nat) (li we gi : Nat → Int32) (w : Nat → Nat) (d : Nat) : Prop :=
  ∀ (q n s m : Nat) (ba tl : Int32) (va fo re tr ub iv : Nat → Int32), n + s = 2001 → s + ss_B d ≤ 1100 → (q + 1) * 2 ^ d ≤ 256 → (∀ j, d ≤ j → j < 8 → va j = nI (q / 2 ^ (j - d) % 2)) → (∀ j, j < d → va j = -1) → (∀ j, d ≤ j → j < 8 → gi j = -1 ∨ gi j = nI (q / 2 ^ (j - d) % 2)) → ss_SI (ss_ok li w c gi) (ss_LS li w c) (q * 2 ^ d) m ba → (d = 0 → ss_HO li w c q ∧ ss_LS li w c q < m) →
    (∀ (n' s' m' : Nat) (ba tl : Int32) (va' fo re tr ub iv : Nat → Int32), n' + s' = 2001 → s' ≤ s + ss_B d → (∀ j, j < 8 → va' j = va j) → ss_SI (ss_ok li w c gi) (ss_LS li w c) ((q + 1) * 2 ^ d) m' ba → wX_search_38 post n' (nI d) (nI s') (nI c) (nI m') ba tl li we va' gi fo re tr ub iv) → wX_search_38 post n (nI d - 1) (nI s) (nI c) (nI m) ba tl li we va gi fo re tr ub iv
/-- a node where variable d has had X values -/
def ss_FP (post : SX → Prop) (c : Nat) (li we gi : Nat → Int32) (w : Nat → Nat) (d X : Nat) : Prop :=
  ∀ (q n s m : Nat) (ba tl : Int32) (va fo re tr ub iv : Nat → Int32), n + s = 2001 → s + ss_R (ss_B d) X ≤ 1100 → (q + 1) * 2 ^ (d + 1) ≤ 256 → (∀ j, d + 1 ≤ j → j < 8 → va j = nI (q / 2 ^ (j - (d + 1)) % 2)) → (∀ j, j < d → va j = -1) → va d + 1 = nI X → (∀ j, d + 1 ≤ j → j < 8 → gi j = -1 ∨ gi j = nI (q / 2 ^ (j - (d + 1)) % 2)) → ss_SI (ss_ok li w c gi) (ss_LS li w c) ((2 * q + X) * 2 ^ d) m ba →
    (∀ (n' s' m' : Nat) (ba tl : Int32) (va' fo re tr ub iv : Nat → Int32), n' + s' = 2001 → s' ≤ s + ss_R (ss_B d) X → (∀ j, d + 1 ≤ j → j < 8 → va' j = va j) → (∀ j, j < d + 1 → va' j = -1) → ss_SI (ss_ok li w c gi) (ss_LS li w c) ((q + 1) * 2 ^ (d + 1)) m' ba → wX_search_38 post n' (nI (d + 1)) (nI s') (nI c) (nI m') ba tl li we va' gi fo re tr ub iv) → wX_search_38 post n (nI d) (nI s) (nI c) (nI m) ba tl li we va gi fo re tr ub iv
theorem ss_E0 {post : SX → Prop} (hc : c ≤ 24) (hX : ∀ k, ss_X16 (li k)) (hw : ∀ k, we k = nI (w k)) : ss_E post c li we gi w 0 := by
  intro q n s m ba tl va fo re tr ub iv hn hs hq hv _ hg hSI hL hK
  rw [Nat.pow_zero, Nat.mul_one] at hq hSI
  have hs' : s + 1 ≤ 1100 := hs
  obtain ⟨n0, rfl⟩ : ∃ n0, n = n0 + 1 := ⟨n - 1, by omega⟩
  have hv' : ∀ v, v < 8 → va v = nI (q / 2 ^ v % 2) := fun v h => hv v (Nat.zero_le _) h
  have hV : ss_V3 va := fun v h => Or.inr ⟨q / 2 ^ v % 2, Nat.mod_lt _ (by omega), hv' v h⟩
  have el := ss_leafS (c := c) (w := w) hX hV hv'
  have hok : ss_ok li w c gi q := ⟨fun j hj => hg j (Nat.zero_le _) hj, (hL rfl).1⟩
  have hT := ss_SI_take hSI hok (hL rfl).2
  refine br_f (nI_ge (b := 2000) (by omega) (by omega)) (br_f (by decide : ¬ (8 : Int32) ≤ nI 0 - 1) (br_f (by decide : ¬ (0 : Int32) ≤ nI 0 - 1) (ss_takeLeaf hc hw (by omega) hv' ?_)))
  rw [el]
  exact nm_r (nI_1 s) (hK n0 (s + 1) _ _ _ va _ _ _ _ _ (by omega) (by exact Nat.le_refl _) (fun _ _ => rfl) (by rw [Nat.pow_zero, Nat.mul_one]; exact hT))
theorem ss_Fstep {post : SX → Prop} {d X : Nat} (hc : c ≤ 24) (hX : ∀ k, ss_X16 (li k)) (hw : ∀ k, we k = nI (w k)) (hw5 : ∀ k, w k ≤ 50) (hG : ss_V3 gi) (hd : d < 8) (hX2 : X ≤ 2) (hE : ss_E post c li we gi w d) (ihF : ∀ X', X < X' → X' ≤ 2 → ss_FP post c li we gi w d X') : ss_FP post c li we gi w d X := by
  intro q n s m ba tl va fo re tr ub iv hn hs hq hv hvn hvd hg hSI hK
  have hR := ss_R_1 (B := ss_B d) (X := X)
  have hls : ∀ b, ss_LS li w c b ≤ 1200 := fun b => ss_LS_b hc hw5
  have hm := ss_SI_m hSI hls
  obtain ⟨n0, rfl⟩ : ∃ n0, n = n0 + 1 := ⟨n - 1, by omega⟩
  have ec : (nI d).toNatClampNeg = d := nI_clamp (by omega)
  have hi : vp_in (nI d) 8 := vp_in_nI (by omega) (by omega)
  have hskip : ∀ y, y ≤ 2 → (∀ z, X ≤ z → z < y → ¬ (gi d = -1 ∨ gi d = nI z)) → ∀ b, 2 * q + X ≤ b / 2 ^ d → b / 2 ^ d < 2 * q + y → ¬ ss_ok li w c gi b := by
    intro y hy hz b h1 h2 hok
    have t1 := hok.1 d hd
    have e : b / 2 ^ d % 2 = b / 2 ^ d - 2 * q := by
      generalize b / 2 ^ d = z at h1 h2 ⊢
      omega
    rw [e] at t1
    exact hz _ (by omega) (by omega) t1
  refine br_f (nI_ge (b := 2000) (by omega) (by omega)) (br_f (nI_ge (b := 8) (by omega) (by omega)) (br_t (nI_pos' (by omega)) (ss_nextValue hd hX2 (hG d hd) hvd ?_ ?_)))
  · intro y hXy hy hgy hsk
    have hSIy : ss_SI (ss_ok li w c gi) (ss_LS li w c) ((2 * q + y) * 2 ^ d) m ba := ss_SI_u hSI (by omega) hls (fun b h1 h2 hok => absurd hok (hskip y (by omega) hsk b h1 h2))
    have hRy := ss_R_s (B := ss_B d) (X := X) (Y := y + 1) (by omega) (by omega)
    have b1 : ∀ j, d ≤ j → j < 8 → upd va d (nI y) j = nI ((2 * q + y) / 2 ^ (j - d) % 2) := by
      intro j hj hj8
      by_cases e : j = d
      · rw [e, pk_us, ss_bq0 hy]
      · rw [pk_un e, hv j (by omega) hj8, ss_bq hy (by omega)]
    have b2 : ∀ j, j < d → upd va d (nI y) j = -1 := by
      intro j hj
      rw [pk_un (by omega)]
      exact hvn j hj
    have hV : ss_V3 (upd va d (nI y)) := by
      intro v hv8
      rcases Nat.lt_or_ge v d with z | z
      · exact Or.inl (b2 v z)
      · exact Or.inr ⟨_, Nat.mod_lt _ (by omega), b1 v z hv8⟩
    refine And.intro hi (nm_r (e' := upd va d (nI y)) (by rw [ec]) (And.intro hi (br_t (by rw [ec, pk_us]; exact nI_pos' (by omega)) (ss_worthwhile hc hX hV hw hw5 hm ?_ ?_))))
    · intro hB tl fo re tr ub iv
      refine br_t rfl (nm_r (nI_1 s) (ihF (y + 1) (by omega) (by omega) q n0 (s + 1) m ba tl (upd va d (nI y)) fo re tr ub iv (by omega) (by omega) hq ?_ b2 ?_ hg ?_ ?_))
      · intro j hj hj8
        rw [pk_un (by omega)]
        exact hv j hj hj8
      · rw [pk_us, nI_1]
      · refine ss_SI_u hSIy (by omega) hls (fun b h1 h2 hok => hB b ?_ hok.2)
        intro j hj8
        have hbd : b / 2 ^ d = 2 * q + y := by omega
        rcases Nat.lt_or_ge j d with z | z
        · exact Or.inl (b2 j z)
        · right
          rw [b1 j z hj8, ← hbd, ss_bd z]
      · intro n' s' m' ba tl va' fo re tr ub iv hn' hs' h1 h2 h3
        refine hK n' s' m' ba tl va' fo re tr ub iv hn' (by omega) ?_ h2 h3
        intro j hj hj8
        rw [h1 j hj hj8, pk_un (by omega)]
    · intro hlt hop tl fo re tr ub iv
      refine br_f (by decide) (nm_e (nm_r (nI_1 s) (hE (2 * q + y) n0 (s + 1) m ba tl (upd va d (nI y)) fo re tr ub iv (by omega) (by omega) ?_ b1 b2 ?_ hSIy ?_ ?_)))
      · have t1 := ss_2q q d
        have t2 : (2 * q + y + 1) * 2 ^ d ≤ (2 * q + 2) * 2 ^ d := Nat.mul_le_mul_right _ (by omega)
        omega
      · intro j hj hj8
        by_cases e : j = d
        · rw [e, ss_bq0 hy]
          exact hgy
        · rw [ss_bq hy (by omega)]
          exact hg j (by omega) hj8
      · intro e
        have hv' : ∀ v, v < 8 → upd va d (nI y) v = nI ((2 * q + y) / 2 ^ v % 2) := by
          intro v hv8
          have := b1 v (by omega) hv8
          rw [e, Nat.sub_zero] at this
          rw [← this, e]
        have el := ss_leafS (c := c) (w := w) hX hV hv'
        rw [el] at hlt
        exact ⟨ss_leafH hX hV hv' hop, hlt⟩
      · intro n' s' m' ba tl va' fo re tr ub iv hn' hs' h1 h3
        refine ihF (y + 1) (by omega) (by omega) q n' s' m' ba tl va' fo re tr ub iv hn' (by omega) hq ?_ ?_ ?_ hg h3 ?_
        · intro j hj hj8
          rw [h1 j hj8, pk_un (by omega)]
          exact hv j hj hj8
        · intro j hj
          rw [h1 j (by omega)]
          exact b2 j hj
        · rw [h1 d hd, pk_us, nI_1]
        · intro n2 s2 m2 ba tl va2 fo re tr ub iv hn2 hs2 g1 g2 g3
          refine hK n2 s2 m2 ba tl va2 fo re tr ub iv hn2 (by omega) ?_ g2 g3
          intro j hj hj8
          rw [g1 j hj hj8, h1 j hj8, pk_un (by omega)]
  · intro hz
    refine And.intro hi (nm_r (e' := upd va d (-1)) (by rw [ec]) (And.intro hi (br_f (by rw [ec, pk_us]; exact ss_n1le) (nm_r (nI_1 d) (nm_r (nI_1 s) (hK n0 (s + 1) m ba tl (upd va d (-1)) fo re tr ub iv (by omega) (by omega) ?_ ?_ ?_))))))
    · intro j hj hj8
      rw [pk_un (by omega)]
    · intro j hj
      by_cases e : j = d
      · rw [e, pk_us]
      · rw [pk_un e]
        exact hvn j (by omega)
    · rw [← ss_2q]
      exact ss_SI_u hSI (by omega) hls (fun b h1 h2 hok => absurd hok (hskip 2 (by omega) hz b h1 h2))
theorem ss_Es {post : SX → Prop} (hc : c ≤ 24) (hX : ∀ k, ss_X16 (li k)) (hw : ∀ k, we k = nI (w k)) (hw5 : ∀ k, w k ≤ 50) (hG : ss_V3 gi) : ∀ d, d ≤ 8 → ss_E post c li we gi w d := by
  intro d
  induction d with
  | zero => intro _; exact ss_E0 hc hX hw
  | succ d ih =>
    intro hd
    have hE := ih (by omega)
    have f2 : ss_FP post c li we gi w d 2 := ss_Fstep hc hX hw hw5 hG (by omega) (by omega) hE (fun X' a b => absurd b (by omega))
    have f1 : ss_FP post c li we gi w d 1 := ss_Fstep hc hX hw hw5 hG (by omega) (by omega) hE (fun X' a b => by
      have e : X' = 2 := by omega
      rw [e]; exact f2)
    have f0 : ss_FP post c li we gi w d 0 := ss_Fstep hc hX hw hw5 hG (by omega) (by omega) hE (fun X' a b => by
      rcases (by omega : X' = 1 ∨ X' = 2) with e | e
      · rw [e]; exact f1
      · rw [e]; exact f2)
    intro q n s m ba tl va fo re tr ub iv hn hs hq hv hvn hg hSI _ hK
    have hB : ss_B (d + 1) = 2 * ss_B d + 3 := rfl
    have hR : ss_R (ss_B d) 0 = 3 + 2 * ss_B d := rfl
    rw [nI_pred]
    refine f0 q n s m ba tl va fo re tr ub iv hn (by omega) hq hv (fun j hj => hvn j (by omega)) ?_ hg ?_ ?_
    · rw [hvn d (by omega)]
      decide
    · rw [ss_2p, Nat.zero_mul, Nat.add_zero]
      exact hSI
    · intro n' s' m' ba tl va' fo re tr ub iv hn' hs' h1 h2 h3
      refine hK n' s' m' ba tl va' fo re tr ub iv hn' (by omega) ?_ h3
      intro j hj8
      rcases Nat.lt_or_ge j (d + 1) with z | z
      · rw [h2 j z, hvn j z]
      · exact h1 j z hj8
theorem ss_se14 {post : SX → Prop} (h : ∀ va, (∀ v, v < 8 → va v = -1) → ∃ n, wX_search_38 post n 7 0 (nI c) bl ba tl li we va gi fo re tr ub iv) : ∀ d j, j + d = 8 → ∀ va, (∀ v, v < j → va v = -1) → wX_search_14 post (nI c) bl ba tl (d + 1) (nI j) li we va gi fo re tr ub iv := by
  intro d
  induction d with
  | zero =>
    intro j hj va hf
    have e : j = 8 := by omega
    subst e
    exact br_t (nI_le (a := 8) (b := 8) (by omega) (by omega)) (h va hf)
  | succ d ih =>
    intro j hj va hf
    have ec : (nI j).toNatClampNeg = j := nI_clamp (by omega)
    have hi : vp_in (nI j) 8 := vp_in_nI (by omega) (by omega)
    have h8 : ¬ (8 : Int32) ≤ nI j := nI_ge (b := 8) (by omega) (by omega)
    refine br_f h8 (And.intro hi (nm_r (e' := upd va j (-1)) (by rw [ec]) (nm_r (nI_1 j) (ih (j + 1) (by omega) _ ?_))))
    intro v hv
    by_cases e : v = j
    · rw [e, pk_us]
    · rw [pk_un e]
      exact hf v (by omega)
theorem ss_search {post : SX → Prop} (hc : c ≤ 24) (hX : ∀ k, ss_X16 (li k)) (hw : ∀ k, we k = nI (w k)) (hw5 : ∀ k, w k ≤ 50) (hG : ss_V3 gi) (h : ∀ m ba tl va fo re tr ub iv, ss_SI (ss_ok li w c gi) (ss_LS li w c) 256 m ba → post ((nI c), nI m, ba, tl, li, we, va, gi, fo, re, tr, ub, iv)) : wpX_search post ((nI c), bl, ba, tl, li, we, va, gi, fo, re, tr, ub, iv) := by
  refine ⟨9, ss_se14 ?_ 8 0 rfl va (fun v hv => absurd hv (by omega))⟩
  intro va hva
  refine ⟨2001, ?_⟩
  have K := ss_Es (post := post) hc hX hw hw5 hG 8 (Nat.le_refl _) 0 2001 0 2000 (-1) tl va fo re tr ub iv rfl (by decide) (by decide) (fun j a b => absurd b (by omega)) hva (fun j a b => absurd b (by omega)) (Or.inl ⟨rfl, rfl, fun b hb => absurd hb (by omega)⟩) (fun e => absurd e (by omega)) ?_
  · exact K
  · intro n' s' m' ba tl va' fo re tr ub iv hn' hs' _ hSI
    have hB : ss_B 8 = 1021 := by decide
    obtain ⟨n0, rfl⟩ : ∃ n0, n' = n0 + 1 := ⟨n' - 1, by omega⟩
    exact br_f (nI_ge (b := 2000) (by omega) (by omega)) (br_t (nI_le (a := 8) (b := 8) (by omega) (by omega)) (h m' ba tl va' fo re tr ub iv hSI))
end SSI
end
section
section SSJ
variable {c : Nat} {li we : Nat → Int32} {w : Nat → Nat}
theorem ss_sob {l b : Nat} (hl : l < 16) (hb : b < 256) : (((nI b >>> ((nI l / 2) &&& 31)) &&& 1) = (1 - (nI l - nI l / 2 * 2))) ↔ ¬ b / 2 ^ (l / 2) % 2 = l % 2 := by
  have hd : b / 2 ^ (l / 2) ≤ b := Nat.div_le_self _ _
  have e1 : nI l / 2 = nI (l / 2) := pk_div (a := l) (d := 2) (by omega) (by omega) (by omega)
  have e2 : nI l - nI l / 2 * 2 = nI (l % 2) := pk_rem (a := l) (d := 2) (by omega) (by omega) (by omega)
  have e3 : nI b >>> (nI (l / 2) &&& 31) = nI (b / 2 ^ (l / 2)) := pk_shrN (by omega) _ (l / 2) (s_l _ (by omega))
  have e4 : nI (b / 2 ^ (l / 2)) &&& 1 = nI (b / 2 ^ (l / 2) % 2) := pk_andN (by omega) 1 (by decide)
  have e5 : 1 - nI (l % 2) = nI (1 - l % 2) := pk_sub (a := 1) (by omega)
  rw [e2, e1, e3, e4, e5]
  generalize b / 2 ^ (l / 2) = y
  rw [nI_eq (by omega) (by omega)]
  omega
theorem ss_so {post : Int32 → Prop} {l b : Nat} (hl : l < 16) (hb : b < 256) (h1 : ¬ b / 2 ^ (l / 2) % 2 = l % 2 → post 1) (h0 : b / 2 ^ (l / 2) % 2 = l % 2 → post 0) : wpY_so post (nI l) (nI b) := by
  refine And.intro (by decide) (And.intro (by decide) ?_)
  by_cases z : b / 2 ^ (l / 2) % 2 = l % 2
  · exact br_f (fun y => (ss_sob hl hb).mp y z) (h0 z)
  · exact br_t ((ss_sob hl hb).mpr z) (h1 z)
theorem ss_hoL {post : Int32 → Prop} {x : Int32} {b : Nat} (hb : b < 256) (h0 : ss_fl x b = true → post 0) (h1 : ss_fl x b = false → post 1) : ∀ d l, l + d = 16 → (∀ i, i < l → bt x i = true → b / 2 ^ (i / 2) % 2 = i % 2) → wY_holds_2 post x (nI b) (d + 1) (nI l) := by
  intro d
  induction d with
  | zero =>
    intro l hl hf
    have e : l = 16 := by omega
    subst e
    exact br_t (nI_le (a := 16) (b := 16) (by omega) (by omega)) (h0 (ss_fl_t.mpr hf))
  | succ d ih =>
    intro l hl hf
    have h8 : ¬ (16 : Int32) ≤ nI l := nI_ge (b := 16) (by omega) (by omega)
    have nx : (bt x l = true → b / 2 ^ (l / 2) % 2 = l % 2) → wY_holds_2 post x (nI b) (d + 1) (nI (l + 1)) := by
      intro hn
      refine ih (l + 1) (by omega) (fun i hi hbi => ?_)
      by_cases e : i = l
      · rw [e] at hbi ⊢
        exact hn hbi
      · exact hf i (by omega) hbi
    by_cases z : bt x l = true
    · refine br_f h8 (br_t ((ss_s1 x l (by omega)).mpr z) (ss_so (by omega) hb (fun hne => ?_) (fun he => ?_)))
      · refine br_f (by decide) (h1 ?_)
        cases e : ss_fl x b with
        | false => rfl
        | true => exact absurd (ss_fl_t.mp e l (by omega) z) hne
      · exact br_t rfl (nm_r (nI_1 l) (nx (fun _ => he)))
    · exact br_f h8 (br_f (fun y => z ((ss_s1 x l (by omega)).mp y)) (nm_r (nI_1 l) (nx (fun y => absurd y z))))
theorem ss_holds {post : Int32 → Prop} {x : Int32} {b : Nat} (hb : b < 256) (h0 : ss_fl x b = true → post 0) (h1 : ss_fl x b = false → post 1) : wpY_holds post x (nI b) :=
  ⟨17, ss_hoL hb h0 h1 16 0 rfl (fun i hi => absurd hi (by omega))⟩
/-- the answer of lossOf -/
def ss_LO (HO : Nat → Prop) (ls : Nat → Nat) (b : Nat) (r : Int32) : Prop := (HO b ∧ r = nI (ls b)) ∨ (¬ HO b ∧ r = -1)
theorem ss_LS_s (k b : Nat) : ss_LS li w (k + 1) b = ss_LS li w k b + (if ss_fl (li k) b = true then w k else 0) := rfl
theorem ss_loL {post : Int32 → Prop} {b : Nat} (hc : c ≤ 24) (hw : ∀ k, we k = nI (w k)) (hw5 : ∀ k, w k ≤ 50) (hb : b < 256) (h : ∀ r, ss_LO (ss_HO li w c) (ss_LS li w c) b r → post r) : ∀ d k, k + d = c → (∀ j, j < k → w j = 0 → ss_fl (li j) b = false) → wY_lossOf_4 post (nI b) (nI c) li we (d + 1) (nI (ss_LS li w k b)) (nI k) := by
  intro d
  induction d with
  | zero =>
    intro k hk hH
    have e : k = c := by omega
    subst e
    exact br_t (nI_le (by omega) (by omega)) (h _ (Or.inl ⟨hH, rfl⟩))
  | succ d ih =>
    intro k hk hH
    have ec : (nI k).toNatClampNeg = k := nI_clamp (by omega)
    have hi : vp_in (nI k) 24 := vp_in_nI (by omega) (by omega)
    have h8 : ¬ nI c ≤ nI k := nI_ge (by omega) (by omega)
    have hwk := hw5 k
    have ew : we (nI k).toNatClampNeg = nI (w k) := by rw [ec]; exact hw k
    have el : li (nI k).toNatClampNeg = li k := by rw [ec]
    refine br_f h8 (And.intro hi ?_)
    rw [el]
    refine ss_holds hb (fun hf => ?_) (fun hf => ?_)
    · refine br_t rfl (And.intro hi ?_)
      by_cases z : w k = 0
      · refine br_t (by rw [ew, ss_eq0 (by omega)]; exact z) (h _ (Or.inr ⟨fun hHO => ?_, rfl⟩))
        have := hHO k (by omega) z
        rw [hf] at this
        exact absurd this (by decide)
      · refine br_f (by rw [ew, ss_eq0 (by omega)]; exact z) (And.intro hi (nm_r (e' := nI (ss_LS li w (k + 1) b)) ?_ (nm_r (nI_1 k) (ih (k + 1) (by omega) ?_))))
        · rw [ew, nI_add, ss_LS_s, if_pos hf]
        · intro j hj hwj
          by_cases q : j = k
          · rw [q] at hwj; exact absurd hwj z
          · exact hH j (by omega) hwj
    · have e : ss_LS li w (k + 1) b = ss_LS li w k b := by rw [ss_LS_s, hf]; rfl
      have K := ih (k + 1) (by omega) (fun j hj hwj => by
        by_cases q : j = k
        · rw [q]; exact hf
        · exact hH j (by omega) hwj)
      rw [e] at K
      exact br_f (by decide) (nm_r (nI_1 k) K)
theorem ss_lossOf {post : Int32 → Prop} {b : Nat} (hc : c ≤ 24) (hw : ∀ k, we k = nI (w k)) (hw5 : ∀ k, w k ≤ 50) (hb : b < 256) (h : ∀ r, ss_LO (ss_HO li w c) (ss_LS li w c) b r → post r) : wpY_lossOf post (nI c, li, we) (nI b) :=
  ⟨c + 1, ss_loL hc hw hw5 hb h c 0 (by omega) (fun j hj => absurd hj (by omega))⟩
/-- the least loss over the assignments below T that are so -/
def ss_MI (ok : Nat → Prop) (ls : Nat → Nat) (T : Nat) (r : Int32) : Prop := (r = -1 ∧ ∀ b, b < T → ¬ ok b) ∨ (∃ a, a < T ∧ ok a ∧ r = nI (ls a) ∧ ∀ b, b < T → ok b → ls a ≤ ls b)
theorem ss_MI_0 {ok : Nat → Prop} {ls : Nat → Nat} : ss_MI ok ls 0 (-1) := Or.inl ⟨rfl, fun b hb => absurd hb (by omega)⟩
theorem ss_MI_n {ok : Nat → Prop} {ls : Nat → Nat} {T : Nat} {r : Int32} (h : ss_MI ok ls T r) (hn : ¬ ok T) : ss_MI ok ls (T + 1) r := by
  have q : ∀ b, b < T + 1 → ok b → b < T := by
    intro b hb hok
    apply Classical.byContradiction
    intro z
    have e : b = T := by omega
    rw [e] at hok
    exact hn hok
  rcases h with ⟨e, h⟩ | ⟨a, ha, hok, e, h⟩
  · exact Or.inl ⟨e, fun b hb hokb => h b (q b hb hokb) hokb⟩
  · exact Or.inr ⟨a, by omega, hok, e, fun b hb hokb => h b (q b hb hokb) hokb⟩
theorem ss_lesser {post : Int32 → Prop} {F HO : Nat → Prop} {ls : Nat → Nat} {T : Nat} {x r : Int32} (h : ss_MI (fun b => F b ∧ HO b) ls T x) (hF : F T) (hr : ss_LO HO ls T r) (hls : ∀ b, ls b ≤ 1200) (hk : ∀ r, ss_MI (fun b => F b ∧ HO b) ls (T + 1) r → post r) : wpY_lesser post x r := by
  rcases hr with ⟨hH, er⟩ | ⟨hH, er⟩
  · subst er
    have hT := hls T
    rcases h with ⟨e, h⟩ | ⟨a, ha, hok, e, h⟩
    · subst e
      refine br_t ss_n1lt (hk _ (Or.inr ⟨T, by omega, ⟨hF, hH⟩, rfl, fun b hb hokb => ?_⟩))
      by_cases q : b = T
      · rw [q]; exact Nat.le_refl _
      · exact absurd hokb (h b (by omega))
    · subst e
      have hA := hls a
      refine br_f (nI_pos (by omega)) (br_f (nI_pos (by omega)) ?_)
      by_cases z : ls a ≤ ls T
      · refine br_t (nI_le z (by omega)) (hk _ (Or.inr ⟨a, by omega, hok, rfl, fun b hb hokb => ?_⟩))
        by_cases q : b = T
        · rw [q]; exact z
        · exact h b (by omega) hokb
      · refine br_f (nI_ge (by omega) (by omega)) (hk _ (Or.inr ⟨T, by omega, ⟨hF, hH⟩, rfl, fun b hb hokb => ?_⟩))
        by_cases q : b = T
        · rw [q]; exact Nat.le_refl _
        · have := h b (by omega) hokb
          omega
  · subst er
    have hn := ss_MI_n h (fun q => hH q.2)
    rcases h with ⟨e, h⟩ | ⟨a, ha, hok, e, h⟩
    · subst e
      exact br_t ss_n1lt (hk _ hn)
    · subst e
      have hA := hls a
      exact br_f (nI_pos (by omega)) (br_t ss_n1lt (hk _ hn))
theorem ss_ylL {post : Int32 → Prop} (hc : c ≤ 24) (hw : ∀ k, we k = nI (w k)) (hw5 : ∀ k, w k ≤ 50) (h : ∀ r, ss_MI (fun b => True ∧ ss_HO li w c b) (ss_LS li w c) 256 r → post r) : ∀ d j, j + d = 256 → ∀ x, ss_MI (fun b => True ∧ ss_HO li w c b) (ss_LS li w c) j x → wY_loss_4 post (nI c) li we (d + 1) x (nI j) := by
  intro d
  induction d with
  | zero =>
    intro j hj x hM
    have e : j = 256 := by omega
    subst e
    exact br_t (nI_le (a := 256) (b := 256) (by omega) (by omega)) (h x hM)
  | succ d ih =>
    intro j hj x hM
    have h8 : ¬ (256 : Int32) ≤ nI j := nI_ge (b := 256) (by omega) (by omega)
    exact br_f h8 (ss_lossOf hc hw hw5 (by omega) (fun r hr => ss_lesser (F := fun _ => True) hM trivial hr (fun b => ss_LS_b hc hw5) (fun r' hM' => nm_r (nI_1 j) (ih (j + 1) (by omega) r' hM'))))
theorem ss_yloss {post : Int32 → Prop} (hc : c ≤ 24) (hw : ∀ k, we k = nI (w k)) (hw5 : ∀ k, w k ≤ 50) (h : ∀ r, ss_MI (fun b => True ∧ ss_HO li w c b) (ss_LS li w c) 256 r → post r) : wpY_loss post (nI c, li, we) :=
  ⟨257, ss_ylL hc hw hw5 h 256 0 rfl (-1) ss_MI_0⟩
theorem ss_ywL {post : Int32 → Prop} {p0 : Int32} {l : Nat} (hl : l < 16) (hp : p0 &&& 15 = nI l) (hc : c ≤ 24) (hw : ∀ k, we k = nI (w k)) (hw5 : ∀ k, w k ≤ 50) (h : ∀ r, ss_MI (fun b => ¬ b / 2 ^ (l / 2) % 2 = l % 2 ∧ ss_HO li w c b) (ss_LS li w c) 256 r → post r) : ∀ d j, j + d = 256 → ∀ x, ss_MI (fun b => ¬ b / 2 ^ (l / 2) % 2 = l % 2 ∧ ss_HO li w c b) (ss_LS li w c) j x → wY_lossWith_4 post p0 (nI c) li we (d + 1) x (nI j) := by
  intro d
  induction d with
  | zero =>
    intro j hj x hM
    have e : j = 256 := by omega
    subst e
    exact br_t (nI_le (a := 256) (b := 256) (by omega) (by omega)) (h x hM)
  | succ d ih =>
    intro j hj x hM
    have h8 : ¬ (256 : Int32) ≤ nI j := nI_ge (b := 256) (by omega) (by omega)
    refine br_f h8 (ss_lossOf hc hw hw5 (by omega) (fun r hr => ?_))
    rw [hp]
    refine ss_so hl (by omega) (fun hne => ?_) (fun he => ?_)
    · exact br_f (by decide) (ss_lesser (F := fun b => ¬ b / 2 ^ (l / 2) % 2 = l % 2) hM hne hr (fun b => ss_LS_b hc hw5) (fun r' hM' => nm_r (nI_1 j) (ih (j + 1) (by omega) r' hM')))
    · exact br_t rfl (nm_r (nI_1 j) (ih (j + 1) (by omega) x (ss_MI_n hM (fun q => q.1 he))))
theorem ss_ywith {post : Int32 → Prop} {p0 : Int32} {l : Nat} (hl : l < 16) (hp : p0 &&& 15 = nI l) (hc : c ≤ 24) (hw : ∀ k, we k = nI (w k)) (hw5 : ∀ k, w k ≤ 50) (h : ∀ r, ss_MI (fun b => ¬ b / 2 ^ (l / 2) % 2 = l % 2 ∧ ss_HO li w c b) (ss_LS li w c) 256 r → post r) : wpY_lossWith post (nI c, li, we) p0 :=
  ⟨257, ss_ywL hl hp hc hw hw5 h 256 0 rfl (-1) ss_MI_0⟩
theorem ss_fl_m (p0 : Int32) (b : Nat) : ss_fl (p0 &&& 65535) b = ss_fl p0 b := by
  have q : ss_fl (p0 &&& 65535) b = true ↔ ss_fl p0 b = true := by
    rw [ss_fl_t, ss_fl_t]
    constructor
    · intro h l hl hb
      exact h l hl (by rw [b_and, b_65535, hb, decide_eq_true hl]; rfl)
    · intro h l hl hb
      rw [b_and, b_65535, decide_eq_true hl, Bool.and_true] at hb
      exact h l hl hb
  cases e1 : ss_fl (p0 &&& 65535) b
  · cases e2 : ss_fl p0 b
    · rfl
    · rw [q.mpr e2] at e1; exact absurd e1 (by decide)
  · exact (q.mp e1).symm
theorem ss_yaL {post : Int32 → Prop} {p0 : Int32} (hc : c ≤ 24) (hw : ∀ k, we k = nI (w k)) (hw5 : ∀ k, w k ≤ 50) (h : ∀ r, ss_MI (fun b => ss_fl p0 b = true ∧ ss_HO li w c b) (ss_LS li w c) 256 r → post r) : ∀ d j, j + d = 256 → ∀ x, ss_MI (fun b => ss_fl p0 b = true ∧ ss_HO li w c b) (ss_LS li w c) j x → wY_lossAgainst_4 post p0 (nI c) li we (d + 1) x (nI j) := by
  intro d
  induction d with
  | zero =>
    intro j hj x hM
    have e : j = 256 := by omega
    subst e
    exact br_t (nI_le (a := 256) (b := 256) (by omega) (by omega)) (h x hM)
  | succ d ih =>
    intro j hj x hM
    have h8 : ¬ (256 : Int32) ≤ nI j := nI_ge (b := 256) (by omega) (by omega)
    refine br_f h8 (ss_lossOf hc hw hw5 (by omega) (fun r hr => ss_holds (by omega) (fun hf => ?_) (fun hf => ?_)))
    · rw [ss_fl_m] at hf
      exact br_t rfl (ss_lesser (F := fun b => ss_fl p0 b = true) hM hf hr (fun b => ss_LS_b hc hw5) (fun r' hM' => nm_r (nI_1 j) (ih (j + 1) (by omega) r' hM')))
    · rw [ss_fl_m] at hf
      refine br_f (by decide) (nm_r (nI_1 j) (ih (j + 1) (by omega) x (ss_MI_n hM (fun q => ?_))))
      rw [hf] at q
      exact absurd q.1 (by decide)
theorem ss_yagainst {post : Int32 → Prop} {p0 : Int32} (hc : c ≤ 24) (hw : ∀ k, we k = nI (w k)) (hw5 : ∀ k, w k ≤ 50) (h : ∀ r, ss_MI (fun b => ss_fl p0 b = true ∧ ss_HO li w c b) (ss_LS li w c) 256 r → post r) : wpY_lossAgainst post (nI c, li, we) p0 :=
  ⟨257, ss_yaL hc hw hw5 h 256 0 rfl (-1) ss_MI_0⟩
/-! one answer -/
theorem ss_MI_q {ok ok' : Nat → Prop} {ls : Nat → Nat} {T : Nat} {r r' : Int32} (ho : ∀ b, b < T → (ok b ↔ ok' b)) (h : ss_MI ok ls T r) (h' : ss_MI ok' ls T r') : r' = r := by
  rcases h with ⟨e, h⟩ | ⟨a, ha, hok, e, h⟩
  · rcases h' with ⟨e', h'⟩ | ⟨a', ha', hok', e', h'⟩
    · rw [e, e']
    · exact absurd ((ho a' ha').mpr hok') (h a' ha')
  · rcases h' with ⟨e', h'⟩ | ⟨a', ha', hok', e', h'⟩
    · exact absurd ((ho a ha).mp hok) (h' a ha)
    · rw [e, e']
      have h1 := h a' ha' ((ho a' ha').mpr hok')
      have h2 := h' a ha ((ho a ha).mp hok)
      exact congrArg nI (by omega)
theorem ss_SI_MI {ok : Nat → Prop} {ls : Nat → Nat} {m : Nat} {ba : Int32} {A : Int32 → Prop} (h : ss_SI ok ls 256 m ba) (hA : ∀ r, ss_MI ok ls 256 r → A r) : (ba < 0 → A (-1)) ∧ (¬ ba < 0 → A (nI m)) := by
  rcases h with ⟨e1, e2, h⟩ | ⟨a, ha, hok, e1, e2, h⟩
  · subst e1
    exact br_t ss_n1lt (hA _ (Or.inl ⟨rfl, h⟩))
  · subst e1 e2
    exact br_f (nI_pos (by omega)) (hA _ (Or.inr ⟨a, ha, hok, rfl, fun b hb hokb => (h b hb hokb).1⟩))
theorem ss_ybL {post : Int32 → Prop} {a : Nat} (hc : c ≤ 24) (hw : ∀ k, we k = nI (w k)) (hw5 : ∀ k, w k ≤ 50) (ha : a < 256) (hok : ss_HO li w c a) (hlt : ∀ b, b < a → ss_HO li w c b → ss_LS li w c a < ss_LS li w c b) (h : post (nI a)) : ∀ d j, j + d = 256 → j ≤ a → wY_best_7 post (nI (ss_LS li w c a)) (nI c) li we (d + 1) (nI j) := by
  intro d
  have hA : ss_LS li w c a ≤ 1200 := ss_LS_b hc hw5
  induction d with
  | zero =>
    intro j hj hja
    exact absurd hj (by omega)
  | succ d ih =>
    intro j hj hja
    have h8 : ¬ (256 : Int32) ≤ nI j := nI_ge (b := 256) (by omega) (by omega)
    refine br_f h8 (br_f (nI_pos (by omega)) (ss_lossOf hc hw hw5 (by omega) (fun r hr => ?_)))
    by_cases e : j = a
    · subst e
      rcases hr with ⟨_, er⟩ | ⟨hn, _⟩
      · exact br_t er h
      · exact absurd hok hn
    · refine br_f ?_ (nm_r (nI_1 j) (ih (j + 1) (by omega) (by omega)))
      rcases hr with ⟨hH, er⟩ | ⟨hn, er⟩
      · rw [er]
        intro q
        have h1 := hlt j (by omega) hH
        have h2 : ss_LS li w c j ≤ 1200 := ss_LS_b hc hw5
        have := ss_im q (by omega) (by omega)
        omega
      · rw [er]
        exact fun q => ss_ne1 (by omega) q.symm
theorem ss_ybest {post : Int32 → Prop} {ok : Nat → Prop} {m : Nat} {ba : Int32} (hc : c ≤ 24) (hw : ∀ k, we k = nI (w k)) (hw5 : ∀ k, w k ≤ 50) (ho : ∀ b, b < 256 → (ok b ↔ ss_HO li w c b)) (hS : ss_SI ok (ss_LS li w c) 256 m ba) (h : post ba) : wpY_best post (nI c, li, we) := by
  unfold wpY_best
  dsimp only
  refine ss_yloss hc hw hw5 (fun r hr => ?_)
  have ho' : ∀ b, b < 256 → (ok b ↔ (True ∧ ss_HO li w c b)) := fun b hb => (ho b hb).trans ⟨fun q => ⟨trivial, q⟩, fun q => q.2⟩
  rcases hS with ⟨e1, e2, hn⟩ | ⟨a, ha, hok, e1, e2, hm⟩
  · have er := ss_MI_q ho' (Or.inl ⟨rfl, hn⟩) hr
    subst er e1
    exact ⟨1, br_f (by decide) (br_t ss_n1lt h)⟩
  · have er := ss_MI_q (r := nI (ss_LS li w c a)) ho' (Or.inr ⟨a, ha, hok, rfl, fun b hb hokb => (hm b hb hokb).1⟩) hr
    subst er e1
    exact ⟨257, ss_ybL hc hw hw5 ha ((ho a ha).mp hok) (fun b hb hH => (hm b (by omega) ((ho b (by omega)).mpr hH)).2 hb) h 256 0 rfl (by omega)⟩
/-! what is kept -/
def ss_kf (li : Nat → Int32) (w : Nat → Nat) (a k : Nat) : Nat := if w k ≠ 0 ∧ ss_fl (li k) a = false then 1 else 0
theorem ss_ykL {post : Int32 → Prop} {a : Nat} (hc : c ≤ 24) (hw : ∀ k, we k = nI (w k)) (hw5 : ∀ k, w k ≤ 50) (ha : a < 256) (h : post (nI (ss_sum (ss_kf li w a) c))) : ∀ d k, k + d = c → wY_kept_15 post (nI a) (nI c) li we (d + 1) (nI (ss_sum (ss_kf li w a) k)) (nI k) := by
  intro d
  induction d with
  | zero =>
    intro k hk
    have e : k = c := by omega
    subst e
    exact br_t (nI_le (by omega) (by omega)) h
  | succ d ih =>
    intro k hk
    have ec : (nI k).toNatClampNeg = k := nI_clamp (by omega)
    have hi : vp_in (nI k) 24 := vp_in_nI (by omega) (by omega)
    have h8 : ¬ nI c ≤ nI k := nI_ge (by omega) (by omega)
    have hwk := hw5 k
    have ew : we (nI k).toNatClampNeg = nI (w k) := by rw [ec]; exact hw k
    have el : li (nI k).toNatClampNeg = li k := by rw [ec]
    have K := ih (k + 1) (by omega)
    have es := ss_sum_s (ss_kf li w a) k
    refine br_f h8 (And.intro hi ?_)
    by_cases z : w k = 0
    · have e : ss_sum (ss_kf li w a) (k + 1) = ss_sum (ss_kf li w a) k := by rw [es, ss_kf, if_neg (fun q => q.1 z), Nat.add_zero]
      rw [e] at K
      exact br_t (by rw [ew, ss_le0 (by omega)]; exact z) (nm_r (nI_1 k) K)
    · refine br_f (by rw [ew, ss_le0 (by omega)]; exact z) (And.intro hi ?_)
      rw [el]
      refine ss_holds ha (fun hf => ?_) (fun hf => ?_)
      · have e : ss_sum (ss_kf li w a) (k + 1) = ss_sum (ss_kf li w a) k := by rw [es, ss_kf, if_neg (fun q => by rw [hf] at q; exact absurd q.2 (by decide)), Nat.add_zero]
        rw [e] at K
        exact br_t rfl (nm_r (nI_1 k) K)
      · have e : ss_sum (ss_kf li w a) (k + 1) = ss_sum (ss_kf li w a) k + 1 := by rw [es, ss_kf, if_pos ⟨z, hf⟩]
        rw [e] at K
        exact br_f (by decide) (nm_r (nI_1 _) (nm_r (nI_1 k) K))
end SSJ
end
section
section SSK
variable {c : Nat} {bl ba tl : Int32} {li we va gi fo re tr ub iv : Nat → Int32} {w : Nat → Nat}
theorem ss_faL {post : SX → Prop} (h : ∀ gi, (∀ v, v < 8 → gi v = -1) → post ((nI c), bl, ba, tl, li, we, va, gi, fo, re, tr, ub, iv)) : ∀ d j, j + d = 8 → ∀ gi, (∀ v, v < j → gi v = -1) → wX_freeAll_2 post (nI c) bl ba tl (d + 1) (nI j) li we va gi fo re tr ub iv := by
  intro d
  induction d with
  | zero =>
    intro j hj gi hf
    have e : j = 8 := by omega
    subst e
    exact br_t (nI_le (a := 8) (b := 8) (by omega) (by omega)) (h gi hf)
  | succ d ih =>
    intro j hj gi hf
    have ec : (nI j).toNatClampNeg = j := nI_clamp (by omega)
    have hi : vp_in (nI j) 8 := vp_in_nI (by omega) (by omega)
    have h8 : ¬ (8 : Int32) ≤ nI j := nI_ge (b := 8) (by omega) (by omega)
    refine br_f h8 (And.intro hi (nm_r (e' := upd gi j (-1)) (by rw [ec]) (nm_r (nI_1 j) (ih (j + 1) (by omega) _ ?_))))
    intro v hv
    by_cases e : v = j
    · rw [e, pk_us]
    · rw [pk_un e]
      exact hf v (by omega)
theorem ss_freeAll {post : SX → Prop} (h : ∀ gi, (∀ v, v < 8 → gi v = -1) → post ((nI c), bl, ba, tl, li, we, va, gi, fo, re, tr, ub, iv)) : wpX_freeAll post ((nI c), bl, ba, tl, li, we, va, gi, fo, re, tr, ub, iv) :=
  ⟨9, ss_faL h 8 0 rfl gi (fun v hv => absurd hv (by omega))⟩
/-! lossAgainst: what must be false -/
def ss_GI (x : Int32) (l : Nat) (gi : Nat → Int32) : Prop := (∀ i, i < l → bt x i = true → gi (i / 2) = nI (i % 2)) ∧ (∀ v, v < 8 → gi v = -1 ∨ ∃ i, i < l ∧ i / 2 = v ∧ bt x i = true ∧ gi v = nI (i % 2))
theorem ss_GI_n {x : Int32} {l : Nat} (h : ss_GI x l gi) (hb : bt x l = false) : ss_GI x (l + 1) gi := by
  constructor
  · intro i hi hbi
    by_cases e : i = l
    · rw [e, hb] at hbi; exact absurd hbi (by decide)
    · exact h.1 i (by omega) hbi
  · intro v hv
    rcases h.2 v hv with q | ⟨i, hi, q⟩
    · exact Or.inl q
    · exact Or.inr ⟨i, by omega, q⟩
theorem ss_GI_y {x : Int32} {l : Nat} (h : ss_GI x l gi) (hb : bt x l = true) (hg : gi (l / 2) = -1 ∨ gi (l / 2) = nI (l % 2)) : ss_GI x (l + 1) (upd gi (l / 2) (nI (l % 2))) := by
  constructor
  · intro i hi hbi
    by_cases e : i / 2 = l / 2
    · rw [e, pk_us]
      by_cases e2 : i = l
      · rw [e2]
      · have t := h.1 i (by omega) hbi
        rw [e] at t
        rcases hg with q | q
        · rw [q] at t; exact absurd t.symm (ss_ne1 (by omega))
        · rw [← q, ← t]
    · rw [pk_un e]
      exact h.1 i (by
        apply Classical.byContradiction
        intro z
        have : i = l := by omega
        exact e (by rw [this])) hbi
  · intro v hv
    by_cases e : v = l / 2
    · exact Or.inr ⟨l, by omega, e.symm, hb, by rw [e, pk_us]⟩
    · rw [pk_un e]
      rcases h.2 v hv with q | ⟨i, hi, q⟩
      · exact Or.inl q
      · exact Or.inr ⟨i, by omega, q⟩
theorem ss_GI_V {x : Int32} {l : Nat} (h : ss_GI x l gi) : ss_V3 gi := by
  intro v hv
  rcases h.2 v hv with q | ⟨i, hi, _, _, q⟩
  · exact Or.inl q
  · exact Or.inr ⟨i % 2, by omega, q⟩
theorem ss_GI_e {x : Int32} (h : ss_GI x 16 gi) (b : Nat) : (∀ j, j < 8 → gi j = -1 ∨ gi j = nI (b / 2 ^ j % 2)) ↔ ss_fl x b = true := by
  rw [ss_fl_t]
  constructor
  · intro ha l hl hb
    have t := h.1 l hl hb
    rcases ha (l / 2) (by omega) with q | q
    · rw [q] at t; exact absurd t.symm (ss_ne1 (by omega))
    · rw [t] at q; exact (ss_im q (ss_mod2 _) (ss_mod2 _)).symm
  · intro hf j hj
    rcases h.2 j hj with q | ⟨i, hi, e, hb, q⟩
    · exact Or.inl q
    · right
      rw [q, ← e, hf i hi hb]
theorem ss_laL {post : Int32 → SX → Prop} {x : Int32} (hs : ∀ gi, ss_GI x 16 gi → wpX_search (fun u => match u with | (f_clauses, f_bestLoss, f_bestAssignment, f_trailLength, a_literals, a_weight, a_value, a_given, a_follows, a_reason, a_trail, a_unbooked, a_involved) => (f_bestAssignment < 0 → post (-1) (f_clauses, f_bestLoss, f_bestAssignment, f_trailLength, a_literals, a_weight, a_value, a_given, a_follows, a_reason, a_trail, a_unbooked, a_involved)) ∧ (¬ f_bestAssignment < 0 → post f_bestLoss (f_clauses, f_bestLoss, f_bestAssignment, f_trailLength, a_literals, a_weight, a_value, a_given, a_follows, a_reason, a_trail, a_unbooked, a_involved))) ((nI c), bl, ba, tl, li, we, va, gi, fo, re, tr, ub, iv)) (hn : ∀ gi, (∀ b, ¬ ss_fl x b = true) → post (-1) ((nI c), bl, ba, tl, li, we, va, gi, fo, re, tr, ub, iv)) : ∀ d l, l + d = 16 → ∀ gi, ss_GI x l gi → wX_lossAgainst_6 post x (nI c) bl ba tl (d + 1) (nI l) li we va gi fo re tr ub iv := by
  intro d
  induction d with
  | zero =>
    intro l hl gi hG
    have e : l = 16 := by omega
    subst e
    exact br_t (nI_le (a := 16) (b := 16) (by omega) (by omega)) (hs gi hG)
  | succ d ih =>
    intro l hl gi hG
    have h8 : ¬ (16 : Int32) ≤ nI l := nI_ge (b := 16) (by omega) (by omega)
    refine br_f h8 ?_
    by_cases z : bt x l = false
    · exact br_t ((ss_u1 x l (by omega)).mpr z) (nm_r (nI_1 l) (ih (l + 1) (by omega) gi (ss_GI_n hG z)))
    · have z' : bt x l = true := by
        cases e : bt x l with
        | false => exact absurd e z
        | true => rfl
      have e1 : nI l >>> ((1 : Int32) &&& 31) = nI (l / 2) := pk_shrN (by omega) _ 1 (by decide)
      have e2 : nI l &&& 1 = nI (l % 2) := pk_andN (by omega) 1 (by decide)
      have ec : (nI (l / 2)).toNatClampNeg = l / 2 := nI_clamp (by omega)
      have hi : vp_in (nI (l / 2)) 8 := vp_in_nI (by omega) (by omega)
      refine br_f (fun y => z ((ss_u1 x l (by omega)).mp y)) (nm_r e1 (nm_r e2 (And.intro hi ?_)))
      by_cases z2 : gi (l / 2) < 0
      · refine br_t (by rw [ec]; exact z2) (And.intro hi (nm_r (e' := upd gi (l / 2) (nI (l % 2))) (by rw [ec]) (nm_r (nI_1 l) (ih (l + 1) (by omega) _ (ss_GI_y hG z' ?_)))))
        rcases ss_GI_V hG (l / 2) (by omega) with q | ⟨b, hb, q⟩
        · exact Or.inl q
        · rw [q] at z2; exact absurd z2 (nI_pos (by omega))
      · refine br_f (by rw [ec]; exact z2) (And.intro hi ?_)
        by_cases z3 : gi (l / 2) = nI (l % 2)
        · exact br_t (by rw [ec]; exact z3) (And.intro hi (nm_r (e' := upd gi (l / 2) (nI (l % 2))) (by rw [ec]) (nm_r (nI_1 l) (ih (l + 1) (by omega) _ (ss_GI_y hG z' (Or.inr z3))))))
        · refine br_f (by rw [ec]; exact z3) (hn gi (fun b hf => ?_))
          rcases hG.2 (l / 2) (by omega) with q | ⟨i, hil, e, hb, q⟩
          · rw [q] at z2; exact z2 ss_n1lt
          · have t1 := ss_fl_t.mp hf l (by omega) z'
            have t2 := ss_fl_t.mp hf i (by omega) hb
            rw [e, t1] at t2
            rw [q] at z3
            exact z3 (by rw [t2])
/-! lossWith: the literal's variable and value -/
theorem ss_half : ∀ l, l < 16 → ∀ i, i < 31 → bt (nI (l / 2)) i = bt (nI l) (1 + i) := by decide +kernel
theorem ss_b7 (i : Nat) : bt 7 i = decide (i < 3) := by
  rcases Nat.lt_or_ge i 32 with h | h
  · exact (by decide +kernel : ∀ i, i < 32 → bt 7 i = decide (i < 3)) i h
  · rw [b_big h, decide_eq_false (by omega)]
theorem ss_b15 (i : Nat) : bt 15 i = decide (i < 4) := by
  rcases Nat.lt_or_ge i 32 with h | h
  · exact (by decide +kernel : ∀ i, i < 32 → bt 15 i = decide (i < 4)) i h
  · rw [b_big h, decide_eq_false (by omega)]
theorem ss_half31 : ∀ l, l < 16 → bt (nI (l / 2)) 31 = false := by decide +kernel
theorem ss_lv {p0 : Int32} {l : Nat} (hl : l < 16) (hp : p0 &&& 15 = nI l) : (p0 >>> ((1 : Int32) &&& 31)) &&& 7 = nI (l / 2) := by
  apply b_ext
  intro i hi
  have e1 : bt (p0 >>> ((1 : Int32) &&& 31)) i = if 1 + i < 32 then bt p0 (1 + i) else bt p0 31 := b_sshr 1 (by omega) p0 hi
  rw [b_and, ss_b7, e1]
  by_cases z : i < 31
  · rw [if_pos (by omega), ss_half l hl i z, ← hp, b_and, ss_b15]
    by_cases q : i < 3
    · rw [decide_eq_true q, decide_eq_true (by omega)]
    · rw [decide_eq_false q, decide_eq_false (by omega)]
  · have e : i = 31 := by omega
    rw [e, ss_half31 l hl, decide_eq_false (by omega), Bool.and_false]
theorem ss_lb {p0 : Int32} {l : Nat} (hl : l < 16) (hp : p0 &&& 15 = nI l) : p0 &&& 1 = nI (l % 2) := by
  have e : p0 &&& 1 = nI l &&& 1 := by
    rw [← hp]
    apply b_ext
    intro i hi
    rw [b_and, b_and, b_and, ss_b1, ss_b15]
    by_cases q : i = 0
    · rw [q]; simp
    · rw [decide_eq_false q, Bool.and_false, Bool.and_false]
  rw [e]
  exact pk_andN (by omega) 1 (by decide)
/-! kept -/
theorem ss_hfL {post : Int32 → Prop} {k a : Nat} (hk : k < 24) (ha : a < 256) (h0 : ss_fl (li k) a = true → post 0) (h1 : ss_fl (li k) a = false → post 1) : ∀ d v, v + d = 8 → (∀ u, u < v → bt (li k) (2 * u + 1 - a / 2 ^ u % 2) = false) → wX_holdsFor_2 post (nI k) (nI a) (nI c) bl ba tl li we va gi fo re tr ub iv (d + 1) (nI v) := by
  intro d
  induction d with
  | zero =>
    intro v hv hf
    have e : v = 8 := by omega
    subst e
    refine br_t (nI_le (a := 8) (b := 8) (by omega) (by omega)) (h0 (ss_fl_t.mpr ?_))
    intro l hl hb
    apply Classical.byContradiction
    intro z
    have t := hf (l / 2) (by omega)
    have e : 2 * (l / 2) + 1 - a / 2 ^ (l / 2) % 2 = l := by
      generalize a / 2 ^ (l / 2) = y at z ⊢
      omega
    rw [e, hb] at t
    exact absurd t (by decide)
  | succ d ih =>
    intro v hv hf
    have h8 : ¬ (8 : Int32) ≤ nI v := nI_ge (b := 8) (by omega) (by omega)
    have ec : (nI k).toNatClampNeg = k := nI_clamp (by omega)
    have hi : vp_in (nI k) 24 := vp_in_nI (by omega) (by omega)
    have hd : a / 2 ^ v ≤ a := Nat.div_le_self _ _
    have e1 : ((nI a).toUInt32 >>> ((nI v).toUInt32 &&& Int32.toUInt32 31)).toInt32 = nI (a / 2 ^ v) := pk_ushrN (by omega) (nI v) v (s_u v (by omega))
    have e2 : nI (a / 2 ^ v) &&& 1 = nI (a / 2 ^ v % 2) := pk_andN (by omega) 1 (by decide)
    have hm : a / 2 ^ v % 2 < 2 := Nat.mod_lt _ (by omega)
    have e3 : (2 * nI v + 1) - nI (a / 2 ^ v % 2) = nI (2 * v + 1 - a / 2 ^ v % 2) := by rw [ss_2m, nI_1, pk_sub (by omega)]
    refine br_f h8 (nm_r (e' := nI (2 * v + 1 - a / 2 ^ v % 2)) (by rw [e1, e2, e3]) (And.intro hi ?_))
    by_cases z : bt (li k) (2 * v + 1 - a / 2 ^ v % 2) = false
    · refine br_t (by rw [ec]; exact (ss_u1 _ _ (by omega)).mpr z) (nm_r (nI_1 v) (ih (v + 1) (by omega) (fun u hu => ?_)))
      by_cases e : u = v
      · rw [e]; exact z
      · exact hf u (by omega)
    · refine br_f (by rw [ec]; exact fun y => z ((ss_u1 _ _ (by omega)).mp y)) (h1 ?_)
      cases e : ss_fl (li k) a with
      | false => rfl
      | true =>
        have z' : bt (li k) (2 * v + 1 - a / 2 ^ v % 2) = true := by
          cases e : bt (li k) (2 * v + 1 - a / 2 ^ v % 2) with
          | false => exact absurd e z
          | true => rfl
        have t := ss_fl_t.mp e _ (by omega) z'
        have e4 : (2 * v + 1 - a / 2 ^ v % 2) / 2 = v := by omega
        rw [e4] at t
        omega
theorem ss_holdsFor {post : Int32 → Prop} {k a : Nat} (hk : k < 24) (ha : a < 256) (h0 : ss_fl (li k) a = true → post 0) (h1 : ss_fl (li k) a = false → post 1) : wpX_holdsFor post ((nI c), bl, ba, tl, li, we, va, gi, fo, re, tr, ub, iv) (nI k) (nI a) :=
  ⟨9, ss_hfL hk ha h0 h1 8 0 rfl (fun u hu => absurd hu (by omega))⟩
theorem ss_xkL {post : Int32 → SX → Prop} {a : Nat} (hc : c ≤ 24) (hw : ∀ k, we k = nI (w k)) (hw5 : ∀ k, w k ≤ 50) (ha : a < 256) (h : post (nI (ss_sum (ss_kf li w a) c)) ((nI c), bl, nI a, tl, li, we, va, gi, fo, re, tr, ub, iv)) : ∀ d k, k + d = c → wX_kept_21 post (nI c) bl (nI a) tl li we va gi fo re tr ub iv (d + 1) (nI (ss_sum (ss_kf li w a) k)) (nI k) := by
  intro d
  induction d with
  | zero =>
    intro k hk
    have e : k = c := by omega
    subst e
    exact br_t (nI_le (by omega) (by omega)) h
  | succ d ih =>
    intro k hk
    have ec : (nI k).toNatClampNeg = k := nI_clamp (by omega)
    have hi : vp_in (nI k) 24 := vp_in_nI (by omega) (by omega)
    have h8 : ¬ nI c ≤ nI k := nI_ge (by omega) (by omega)
    have hwk := hw5 k
    have ew : we (nI k).toNatClampNeg = nI (w k) := by rw [ec]; exact hw k
    have K := ih (k + 1) (by omega)
    have es := ss_sum_s (ss_kf li w a) k
    refine br_f h8 (And.intro hi ?_)
    by_cases z : w k = 0
    · have e : ss_sum (ss_kf li w a) (k + 1) = ss_sum (ss_kf li w a) k := by rw [es, ss_kf, if_neg (fun q => q.1 z), Nat.add_zero]
      rw [e] at K
      exact br_t (by rw [ew, ss_le0 (by omega)]; exact z) (nm_r (Int32.add_zero _) (nm_r (nI_1 k) K))
    · refine br_f (by rw [ew, ss_le0 (by omega)]; exact z) (ss_holdsFor (by omega) ha (fun hf => ?_) (fun hf => ?_))
      · have e : ss_sum (ss_kf li w a) (k + 1) = ss_sum (ss_kf li w a) k := by rw [es, ss_kf, if_neg (fun q => by rw [hf] at q; exact absurd q.2 (by decide)), Nat.add_zero]
        rw [e] at K
        exact br_t rfl (nm_r (Int32.add_zero _) (nm_r (nI_1 k) K))
      · have e : ss_sum (ss_kf li w a) (k + 1) = ss_sum (ss_kf li w a) k + 1 := by rw [es, ss_kf, if_pos ⟨z, hf⟩]
        rw [e] at K
        exact br_f (by decide) (nm_r (nI_1 _) (nm_r (nI_1 k) K))
/-! drop -/
def ss_dr (f : Nat → Int32) (k : Nat) : Nat → (Nat → Int32)
  | 0 => f
  | d + 1 => ss_dr (upd f k (f (k + 1))) (k + 1) d
theorem ss_dr_s (f : Nat → Int32) (k d : Nat) : ss_dr f k (d + 1) = ss_dr (upd f k (f (k + 1))) (k + 1) d := rfl
theorem ss_dr_p {P : Int32 → Prop} : ∀ d k (f : Nat → Int32), (∀ j, P (f j)) → ∀ j, P (ss_dr f k d j) := by
  intro d
  induction d with
  | zero => intro k f h; exact h
  | succ d ih =>
    intro k f h
    refine ih (k + 1) _ (fun j => ?_)
    by_cases e : j = k
    · rw [e, pk_us]; exact h _
    · rw [pk_un e]; exact h j
theorem ss_xdL {post : Int32 → SX → Prop} (hc : c < 24) : ∀ d k, k + d = c → ∀ li we, post (nI c) ((nI c), bl, ba, tl, ss_dr li k d, ss_dr we k d, va, gi, fo, re, tr, ub, iv) → wX_drop_26 post (nI c) bl ba tl (d + 1) (nI k) li we va gi fo re tr ub iv := by
  intro d
  induction d with
  | zero =>
    intro k hk li we h
    exact br_t (nI_le (by omega) (by omega)) h
  | succ d ih =>
    intro k hk li we h
    have ec : (nI k).toNatClampNeg = k := nI_clamp (by omega)
    have e1 : (nI k + 1).toNatClampNeg = k + 1 := by rw [nI_1]; exact nI_clamp (by omega)
    have hi : vp_in (nI k) 24 := vp_in_nI (by omega) (by omega)
    have hi1 : vp_in (nI k + 1) 24 := by rw [nI_1]; exact vp_in_nI (by omega) (by omega)
    have h8 : ¬ nI c ≤ nI k := nI_ge (by omega) (by omega)
    exact br_f h8 (And.intro hi1 (And.intro hi (nm_r (e' := upd li k (li (k + 1))) (by rw [ec, e1]) (And.intro hi1 (And.intro hi (nm_r (e' := upd we k (we (k + 1))) (by rw [ec, e1]) (nm_r (nI_1 k) (ih (k + 1) (by omega) _ _ h))))))))
theorem ss_ydL {post : Int32 → SY → Prop} (hc : c < 24) : ∀ d k, k + d = c → ∀ li we, post (nI c) (nI c, ss_dr li k d, ss_dr we k d) → wY_drop_26 post (nI c) (d + 1) (nI k) li we := by
  intro d
  induction d with
  | zero =>
    intro k hk li we h
    exact br_t (nI_le (by omega) (by omega)) h
  | succ d ih =>
    intro k hk li we h
    have ec : (nI k).toNatClampNeg = k := nI_clamp (by omega)
    have e1 : (nI k + 1).toNatClampNeg = k + 1 := by rw [nI_1]; exact nI_clamp (by omega)
    have hi : vp_in (nI k) 24 := vp_in_nI (by omega) (by omega)
    have hi1 : vp_in (nI k + 1) 24 := by rw [nI_1]; exact vp_in_nI (by omega) (by omega)
    have h8 : ¬ nI c ≤ nI k := nI_ge (by omega) (by omega)
    exact br_f h8 (And.intro hi1 (And.intro hi (nm_r (e' := upd li k (li (k + 1))) (by rw [ec, e1]) (And.intro hi1 (And.intro hi (nm_r (e' := upd we k (we (k + 1))) (by rw [ec, e1]) (nm_r (nI_1 k) (ih (k + 1) (by omega) _ _ h))))))))
end SSK
end
section
section SSL
def ss_W5 (x : Int32) : Prop := ∃ m, m ≤ 50 ∧ x = nI m
/-- both hold the same clauses: c of them, bits below 16, weights up to 50 -/
def i_Rel (_ : Nat) (u : SX) (v : SY) : Prop := ∃ c, u.1 = nI c ∧ v = (nI c, u.2.2.2.2.1, u.2.2.2.2.2.1) ∧ c ≤ 24 ∧ (∀ k, ss_X16 (u.2.2.2.2.1 k)) ∧ ∀ k, ss_W5 (u.2.2.2.2.2.1 k)
theorem i_up {k : Nat} {u : SX} {v : SY} (h : i_Rel k u v) : i_Rel (k + 3) u v := h
theorem i_vc0 : wpX_init (fun u => wpY_init (fun v => i_Rel 0 u v)) := ⟨0, rfl, rfl, by omega, fun _ i _ => b_0 i, fun _ => ⟨0, by omega, rfl⟩⟩
variable {c : Nat} {bl ba tl : Int32} {li we va gi fo re tr ub iv : Nat → Int32}
theorem ss_w (h : ∀ k, ss_W5 (we k)) : ∃ w : Nat → Nat, (∀ k, we k = nI (w k)) ∧ ∀ k, w k ≤ 50 := by
  refine ⟨fun k => (we k).toNatClampNeg, fun k => ?_, fun k => ?_⟩
  · obtain ⟨m, hm, e⟩ := h k
    show we k = nI (we k).toNatClampNeg
    rw [e, nI_clamp (by omega)]
  · obtain ⟨m, hm, e⟩ := h k
    show (we k).toNatClampNeg ≤ 50
    rw [e, nI_clamp (by omega)]
    exact hm
theorem ss_rel {k : Nat} (hc : c ≤ 24) (hX : ∀ k, ss_X16 (li k)) (hW : ∀ k, ss_W5 (we k)) : i_Rel k ((nI c), bl, ba, tl, li, we, va, gi, fo, re, tr, ub, iv) (nI c, li, we) := ⟨c, rfl, rfl, hc, hX, hW⟩
theorem ss_rel_u {k d j : Nat} (hc : c ≤ 24) (hX : ∀ k, ss_X16 (li k)) (hW : ∀ k, ss_W5 (we k)) : i_Rel k ((nI c), bl, ba, tl, ss_dr li j d, ss_dr we j d, va, gi, fo, re, tr, ub, iv) (nI c, ss_dr li j d, ss_dr we j d) :=
  ss_rel hc (ss_dr_p (P := ss_X16) d j li hX) (ss_dr_p (P := ss_W5) d j we hW)
theorem ss_xadd {post : Int32 → SX → Prop} {p0 p1 : Int32} (hc : c ≤ 24) (h1 : c < 24 → post (nI (c + 1)) (nI (c + 1), bl, ba, tl, upd li c (p0 &&& 65535), upd we c p1, va, gi, fo, re, tr, ub, iv)) (h0 : c = 24 → post (-1) ((nI c), bl, ba, tl, li, we, va, gi, fo, re, tr, ub, iv)) : wpX_addClause post ((nI c), bl, ba, tl, li, we, va, gi, fo, re, tr, ub, iv) p0 p1 := by
  have ec : (nI c).toNatClampNeg = c := nI_clamp (by omega)
  by_cases z : c < 24
  · have hi : vp_in (nI c) 24 := vp_in_nI z (by omega)
    exact br_t (nI_lt (b := 24) z (by omega)) (And.intro hi (nm_r (congrArg (fun j => upd li j (p0 &&& 65535)) ec) (And.intro hi (nm_r (congrArg (fun j => upd we j p1) ec) (nm_r (nI_1 c) (h1 z))))))
  · exact br_f (nI_nlt (b := 24) (by omega) (by omega)) (h0 (by omega))
theorem ss_yadd {post : Int32 → SY → Prop} {p0 p1 : Int32} (hc : c ≤ 24) (h1 : c < 24 → post (nI (c + 1)) (nI (c + 1), upd li c (p0 &&& 65535), upd we c p1)) (h0 : c = 24 → post (-1) (nI c, li, we)) : wpY_add post (nI c, li, we) p0 p1 := by
  have ec : (nI c).toNatClampNeg = c := nI_clamp (by omega)
  by_cases z : c = 24
  · exact br_t (by rw [z]; rfl) (h0 z)
  · have hi : vp_in (nI c) 24 := vp_in_nI (by omega) (by omega)
    exact br_f (fun y => z (ss_im (b := 24) y (by omega) (by omega))) (And.intro hi (nm_r (congrArg (fun j => upd li j (p0 &&& 65535)) ec) (And.intro hi (nm_r (congrArg (fun j => upd we j p1) ec) (nm_r (nI_1 c) (h1 (by omega)))))))
theorem ss_relA {k : Nat} {p0 p1 : Int32} (hc : c < 24) (hX : ∀ k, ss_X16 (li k)) (hW : ∀ k, ss_W5 (we k)) (hp : ss_W5 p1) : i_Rel k (nI (c + 1), bl, ba, tl, upd li c (p0 &&& 65535), upd we c p1, va, gi, fo, re, tr, ub, iv) (nI (c + 1), upd li c (p0 &&& 65535), upd we c p1) := by
  refine ss_rel (by omega) (fun k => ?_) (fun k => ?_)
  · by_cases e : k = c
    · rw [e, pk_us]
      intro i hi
      rw [b_and, b_65535, decide_eq_false (by omega), Bool.and_false]
    · rw [pk_un e]; exact hX k
  · by_cases e : k = c
    · rw [e, pk_us]; exact hp
    · rw [pk_un e]; exact hW k
theorem i_vc_hard {k : Nat} {u : SX} {v : SY} (I : i_Rel k u v) (hk : k + 3 ≤ 1536) (v1 : Int32) : wpX_hard (fun r u' => wpY_hard (fun r' v' => r' = r ∧ i_Rel (k + 3) u' v') v v1) u v1 := by
  obtain ⟨fc, bl, ba, tl, li, we, va, gi, fo, re, tr, ub, iv⟩ := u
  obtain ⟨c, e, rfl, hc, hX, hW⟩ := I
  have e' : fc = nI c := e
  subst e'
  unfold wpX_hard
  dsimp only
  refine ss_xadd hc (fun z => ?_) (fun z => ?_)
  · unfold wpY_hard
    dsimp only
    exact ss_yadd hc (fun _ => ⟨rfl, ss_relA z hX hW ⟨0, by omega, rfl⟩⟩) (fun y => absurd y (by omega))
  · unfold wpY_hard
    dsimp only
    exact ss_yadd hc (fun y => absurd y (by omega)) (fun _ => ⟨rfl, ss_rel hc hX hW⟩)
theorem i_vc_soft {k : Nat} {u : SX} {v : SY} (I : i_Rel k u v) (hk : k + 3 ≤ 1536) (v1 : Int32) (v2 : Int32) : wpX_soft (fun r u' => wpY_soft (fun r' v' => r' = r ∧ i_Rel (k + 3) u' v') v v1 v2) u v1 v2 := by
  obtain ⟨fc, bl, ba, tl, li, we, va, gi, fo, re, tr, ub, iv⟩ := u
  obtain ⟨c, e, rfl, hc, hX, hW⟩ := I
  have e' : fc = nI c := e
  subst e'
  by_cases h1 : v2 < 1
  · exact br_t h1 (br_t h1 ⟨rfl, ss_rel hc hX hW⟩)
  · by_cases h2 : v2 ≤ 50
    · have hp : ss_W5 v2 := by
        refine nI_of2 (M := 50) (n := 50) (by decide) (fun z => h1 ?_) h2
        rw [Int32.lt_iff_toInt_lt] at z ⊢
        have a0 : (0 : Int32).toInt = 0 := by decide
        have a1 : (1 : Int32).toInt = 1 := by decide
        omega
      refine br_f h1 (br_t h2 (ss_xadd hc (fun z => ?_) (fun z => ?_)))
      · exact br_f h1 (br_t h2 (ss_yadd hc (fun _ => ⟨rfl, ss_relA z hX hW hp⟩) (fun y => absurd y (by omega))))
      · exact br_f h1 (br_t h2 (ss_yadd hc (fun y => absurd y (by omega)) (fun _ => ⟨rfl, ss_rel hc hX hW⟩)))
    · exact br_f h1 (br_f h2 (br_f h1 (br_f h2 ⟨rfl, ss_rel hc hX hW⟩)))
theorem i_vc_drop {k : Nat} {u : SX} {v : SY} (I : i_Rel k u v) (hk : k + 3 ≤ 1536) (v1 : Int32) : wpX_drop (fun r u' => wpY_drop (fun r' v' => r' = r ∧ i_Rel (k + 3) u' v') v v1) u v1 := by
  obtain ⟨fc, bl, ba, tl, li, we, va, gi, fo, re, tr, ub, iv⟩ := u
  obtain ⟨c, e, rfl, hc, hX, hW⟩ := I
  have e' : fc = nI c := e
  subst e'
  by_cases h0 : v1 < 0
  · exact br_t h0 (br_t h0 ⟨rfl, ss_rel hc hX hW⟩)
  · obtain ⟨j, hj, rfl⟩ := nI_of h0
    by_cases h1 : j < c
    · obtain ⟨c', rfl⟩ : ∃ c', c = c' + 1 := ⟨c - 1, by omega⟩
      have hl := nI_lt h1 (by omega)
      exact br_f h0 (br_t hl (nm_r (nI_pred c') ⟨_, ss_xdL (by omega) (c' - j) j (by omega) li we (br_f h0 (br_t hl (nm_r (nI_pred c') ⟨_, ss_ydL (by omega) (c' - j) j (by omega) li we ⟨rfl, ss_rel_u (by omega) hX hW⟩⟩)))⟩))
    · have hl := nI_nlt (a := j) (b := c) (by omega) hj
      exact br_f h0 (br_f hl (br_f h0 (br_f hl ⟨rfl, ss_rel hc hX hW⟩)))
theorem ss_hoG {w : Nat → Nat} (hgi : ∀ v, v < 8 → gi v = -1) (b : Nat) (_ : b < 256) : ss_ok li w c gi b ↔ ss_HO li w c b := ⟨fun q => q.2, fun q => ⟨fun j hj => Or.inl (hgi j hj), q⟩⟩
theorem ss_hoT {w : Nat → Nat} (hgi : ∀ v, v < 8 → gi v = -1) (b : Nat) (_ : b < 256) : ss_ok li w c gi b ↔ (True ∧ ss_HO li w c b) := ⟨fun q => ⟨trivial, q.2⟩, fun q => ⟨fun j hj => Or.inl (hgi j hj), q.2⟩⟩
theorem ss_V3n (hgi : ∀ v, v < 8 → gi v = -1) : ss_V3 gi := fun v hv => Or.inl (hgi v hv)
theorem i_vc_possible {k : Nat} {u : SX} {v : SY} (I : i_Rel k u v) (hk : k + 3 ≤ 1536) : wpX_possible (fun r u' => wpY_possible (fun r' => r' = r ∧ i_Rel (k + 3) u' v) v) u := by
  obtain ⟨fc, bl, ba, tl, li, we, va, gi, fo, re, tr, ub, iv⟩ := u
  obtain ⟨c, e, rfl, hc, hX, hW⟩ := I
  have e' : fc = nI c := e
  subst e'
  obtain ⟨w, hw, hw5⟩ := ss_w hW
  unfold wpX_possible
  dsimp only
  refine ss_freeAll (fun gi hgi => ss_search hc hX hw hw5 (ss_V3n hgi) (fun m ba tl va fo re tr ub iv hSI => ?_))
  rcases hSI with ⟨e1, e2, h⟩ | ⟨a, ha, hok, e1, e2, h⟩
  · subst e1
    refine br_t ss_n1lt ?_
    unfold wpY_possible
    dsimp only
    refine ss_yloss hc hw hw5 (fun r hr => ?_)
    have er := ss_MI_q (r := -1) (ss_hoT hgi) (Or.inl ⟨rfl, h⟩) hr
    rw [er]
    exact br_t ss_n1lt ⟨rfl, ss_rel hc hX hW⟩
  · subst e1
    refine br_f (nI_pos (by omega)) ?_
    unfold wpY_possible
    dsimp only
    refine ss_yloss hc hw hw5 (fun r hr => ?_)
    have er := ss_MI_q (r := nI (ss_LS li w c a)) (ss_hoT hgi) (Or.inr ⟨a, ha, hok, rfl, fun b hb hokb => (h b hb hokb).1⟩) hr
    have hA : ss_LS li w c a ≤ 1200 := ss_LS_b hc hw5
    rw [er]
    exact br_f (nI_pos (by omega)) ⟨rfl, ss_rel hc hX hW⟩
theorem i_vc_loss {k : Nat} {u : SX} {v : SY} (I : i_Rel k u v) (hk : k + 3 ≤ 1536) : wpX_loss (fun r u' => wpY_loss (fun r' => r' = r ∧ i_Rel (k + 3) u' v) v) u := by
  obtain ⟨fc, bl, ba, tl, li, we, va, gi, fo, re, tr, ub, iv⟩ := u
  obtain ⟨c, e, rfl, hc, hX, hW⟩ := I
  have e' : fc = nI c := e
  subst e'
  obtain ⟨w, hw, hw5⟩ := ss_w hW
  unfold wpX_loss
  dsimp only
  refine ss_freeAll (fun gi hgi => ss_search hc hX hw hw5 (ss_V3n hgi) (fun m ba tl va fo re tr ub iv hSI => ?_))
  exact ss_SI_MI (A := fun r => wpY_loss (fun r' => r' = r ∧ i_Rel (k + 3) ((nI c), nI m, ba, tl, li, we, va, gi, fo, re, tr, ub, iv) (nI c, li, we)) (nI c, li, we)) hSI (fun r hr => ss_yloss hc hw hw5 (fun r' hr' => ⟨ss_MI_q (ss_hoT hgi) hr hr', ss_rel hc hX hW⟩))
theorem i_vc_best {k : Nat} {u : SX} {v : SY} (I : i_Rel k u v) (hk : k + 3 ≤ 1536) : wpX_best (fun r u' => wpY_best (fun r' => r' = r ∧ i_Rel (k + 3) u' v) v) u := by
  obtain ⟨fc, bl, ba, tl, li, we, va, gi, fo, re, tr, ub, iv⟩ := u
  obtain ⟨c, e, rfl, hc, hX, hW⟩ := I
  have e' : fc = nI c := e
  subst e'
  obtain ⟨w, hw, hw5⟩ := ss_w hW
  unfold wpX_best
  dsimp only
  refine ss_freeAll (fun gi hgi => ss_search hc hX hw hw5 (ss_V3n hgi) (fun m ba tl va fo re tr ub iv hSI => ?_))
  exact ss_ybest hc hw hw5 (ss_hoG hgi) hSI ⟨rfl, ss_rel hc hX hW⟩
theorem ss_hoW {w : Nat → Nat} {l : Nat} (hgi : ∀ v, v < 8 → gi v = -1) (hl : l < 16) (b : Nat) (_ : b < 256) : ss_ok li w c (upd gi (l / 2) (nI (1 - l % 2))) b ↔ (¬ b / 2 ^ (l / 2) % 2 = l % 2 ∧ ss_HO li w c b) := by
  constructor
  · intro q
    refine ⟨fun z => ?_, q.2⟩
    rcases q.1 (l / 2) (by omega) with t | t
    · rw [pk_us] at t
      exact absurd t (ss_ne1 (by omega))
    · rw [pk_us, z] at t
      have := ss_im t (by omega) (by omega)
      omega
  · intro q
    refine ⟨fun j hj => ?_, q.2⟩
    by_cases e : j = l / 2
    · right
      rw [e, pk_us]
      have z := q.1
      generalize b / 2 ^ (l / 2) = y at z ⊢
      exact congrArg nI (by omega)
    · left
      rw [pk_un e]
      exact hgi j hj
theorem i_vc_lossWith {k : Nat} {u : SX} {v : SY} (I : i_Rel k u v) (hk : k + 3 ≤ 1536) (v1 : Int32) : wpX_lossWith (fun r u' => wpY_lossWith (fun r' => r' = r ∧ i_Rel (k + 3) u' v) v v1) u v1 := by
  obtain ⟨fc, bl, ba, tl, li, we, va, gi, fo, re, tr, ub, iv⟩ := u
  obtain ⟨c, e, rfl, hc, hX, hW⟩ := I
  have e' : fc = nI c := e
  subst e'
  obtain ⟨w, hw, hw5⟩ := ss_w hW
  obtain ⟨l, hl', hp⟩ := pk_andE v1 (m := 15) 4 (by decide)
  have hl : l < 16 := hl'
  have ec : (nI (l / 2)).toNatClampNeg = l / 2 := nI_clamp (by omega)
  have e5 : 1 - nI (l % 2) = nI (1 - l % 2) := pk_sub (a := 1) (by omega)
  unfold wpX_lossWith
  dsimp only
  refine ss_freeAll (fun gi hgi => And.intro (by rw [ss_lv hl hp]; exact vp_in_nI (by omega) (by omega)) (nm_r (e' := upd gi (l / 2) (nI (1 - l % 2))) (by rw [ss_lv hl hp, ec, ss_lb hl hp, e5]) (ss_search hc hX hw hw5 ?_ (fun m ba tl va fo re tr ub iv hSI => ?_))))
  · intro v hv
    by_cases e : v = l / 2
    · exact Or.inr ⟨1 - l % 2, by omega, by rw [e, pk_us]⟩
    · rw [pk_un e]; exact Or.inl (hgi v hv)
  · exact ss_SI_MI (A := fun r => wpY_lossWith (fun r' => r' = r ∧ i_Rel (k + 3) ((nI c), nI m, ba, tl, li, we, va, upd gi (l / 2) (nI (1 - l % 2)), fo, re, tr, ub, iv) (nI c, li, we)) (nI c, li, we) v1) hSI (fun r hr => ss_ywith hl hp hc hw hw5 (fun r' hr' => ⟨ss_MI_q (ss_hoW hgi hl) hr hr', ss_rel hc hX hW⟩))
theorem i_vc_lossAgainst {k : Nat} {u : SX} {v : SY} (I : i_Rel k u v) (hk : k + 3 ≤ 1536) (v1 : Int32) : wpX_lossAgainst (fun r u' => wpY_lossAgainst (fun r' => r' = r ∧ i_Rel (k + 3) u' v) v v1) u v1 := by
  obtain ⟨fc, bl, ba, tl, li, we, va, gi, fo, re, tr, ub, iv⟩ := u
  obtain ⟨c, e, rfl, hc, hX, hW⟩ := I
  have e' : fc = nI c := e
  subst e'
  obtain ⟨w, hw, hw5⟩ := ss_w hW
  unfold wpX_lossAgainst
  dsimp only
  refine ss_freeAll (fun gi hgi => ⟨17, ss_laL ?_ ?_ 16 0 rfl gi ⟨fun i hi => absurd hi (by omega), fun v hv => Or.inl (hgi v hv)⟩⟩)
  · intro gi hG
    refine ss_search hc hX hw hw5 (ss_GI_V hG) (fun m ba tl va fo re tr ub iv hSI => ?_)
    exact ss_SI_MI (A := fun r => wpY_lossAgainst (fun r' => r' = r ∧ i_Rel (k + 3) ((nI c), nI m, ba, tl, li, we, va, gi, fo, re, tr, ub, iv) (nI c, li, we)) (nI c, li, we) v1) hSI (fun r hr => ss_yagainst hc hw hw5 (fun r' hr' => ⟨ss_MI_q (fun b _ => and_congr (ss_GI_e hG b) Iff.rfl) hr hr', ss_rel hc hX hW⟩))
  · intro gi hn
    refine ss_yagainst hc hw hw5 (fun r' hr' => ⟨?_, ss_rel hc hX hW⟩)
    exact ss_MI_q (ok := fun b => ss_fl v1 b = true ∧ ss_HO li w c b) (fun b _ => Iff.rfl) (Or.inl ⟨rfl, fun b _ q => hn b q.1⟩) hr'
theorem i_vc_kept {k : Nat} {u : SX} {v : SY} (I : i_Rel k u v) (hk : k + 3 ≤ 1536) : wpX_kept (fun r u' => wpY_kept (fun r' => r' = r ∧ i_Rel (k + 3) u' v) v) u := by
  obtain ⟨fc, bl, ba, tl, li, we, va, gi, fo, re, tr, ub, iv⟩ := u
  obtain ⟨c, e, rfl, hc, hX, hW⟩ := I
  have e' : fc = nI c := e
  subst e'
  obtain ⟨w, hw, hw5⟩ := ss_w hW
  unfold wpX_kept
  dsimp only
  refine ss_freeAll (fun gi hgi => ss_search hc hX hw hw5 (ss_V3n hgi) (fun m ba tl va fo re tr ub iv hSI => ?_))
  have hS := hSI
  rcases hSI with ⟨e1, e2, h⟩ | ⟨a, ha, hok, e1, e2, h⟩
  · subst e1
    refine br_f ss_n1le ?_
    unfold wpY_kept
    dsimp only
    exact ss_ybest hc hw hw5 (ss_hoG hgi) hS (br_f ss_n1le ⟨rfl, ss_rel hc hX hW⟩)
  · subst e1
    refine br_t (nI_pos' (by omega)) ⟨c + 1, ss_xkL hc hw hw5 ha ?_ c 0 (by omega)⟩
    unfold wpY_kept
    dsimp only
    exact ss_ybest hc hw hw5 (ss_hoG hgi) hS (br_t (nI_pos' (by omega)) ⟨c + 1, ss_ykL hc hw hw5 ha ⟨rfl, ss_rel hc hX hW⟩ c 0 (by omega)⟩)
end SSL
end
