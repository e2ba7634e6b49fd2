section
theorem pk_us {f : Nat → Int32} {k : Nat} {x : Int32} : upd f k x k = x := if_pos rfl
theorem pk_un {f : Nat → Int32} {k j : Nat} {x : Int32} (h : j ≠ k) : upd f k x j = f j := if_neg h
theorem pk_sub {a b : Nat} (h : b ≤ a) : nI a - nI b = nI (a - b) := by
  obtain ⟨c, rfl⟩ : ∃ c, a = c + b := ⟨a - b, by omega⟩
  rw [← nI_add, Int32.add_sub_cancel, Nat.add_sub_cancel]
theorem pk_m1 (n : Nat) : nI (n + 1) + (-1) = nI n := by
  rw [← nI_1, Int32.add_assoc, show (1 : Int32) + (-1) = 0 from rfl, Int32.add_zero]
theorem pk_mul (a b : Nat) : nI a * nI b = nI (a * b) := (Int32.ofNat_mul a b).symm
theorem pk_div {a d : Nat} (ha : a < 2 ^ 31) (h0 : 0 < d) (hd : d < 2 ^ 31) : nI a / nI d = nI (a / d) := by
  apply Int32.toInt_inj.mp
  rw [lg_idiv_nonneg (by rw [nI_toInt ha]; omega) (by rw [nI_toInt hd]; omega), nI_toInt ha, nI_toInt hd, nI_toInt (Nat.lt_of_le_of_lt (Nat.div_le_self a d) ha)]
  first | rfl | exact (Int.natCast_ediv _ _).symm
theorem pk_rem {a d : Nat} (ha : a < 2 ^ 31) (h0 : 0 < d) (hd : d < 2 ^ 31) : nI a - nI a / nI d * nI d = nI (a % d) := by
  rw [pk_div ha h0 hd, pk_mul, pk_sub (Nat.div_mul_le_self a d)]
  exact congrArg nI (by have := Nat.div_add_mod' a d; omega)
theorem pk_ix (x : Int32) {n : Nat} (hn : n < 2 ^ 31) : x < 0 ∨ nI n ≤ x ∨ ∃ j : Nat, j < n ∧ x = nI j := by
  by_cases h : x < 0
  · exact Or.inl h
  · obtain ⟨j, hj, rfl⟩ := nI_of h
    by_cases h2 : j < n
    · exact Or.inr (Or.inr ⟨j, h2, rfl⟩)
    · exact Or.inr (Or.inl (nI_le (by omega) hj))
theorem pk_le {x y : Int32} {A B : Prop} (a b : Nat) (f : a ≤ b → A) (g : b < a → B) (hx : x = nI a := by rfl) (hy : y = nI b := by rfl) (ha : a < 2 ^ 31 := by omega) (hb : b < 2 ^ 31 := by omega) : (x ≤ y → A) ∧ (¬ x ≤ y → B) := by
  subst hx hy
  rw [nI_leI ha hb]
  exact ⟨f, fun z => g (by omega)⟩
theorem pk_lt {x y : Int32} {A B : Prop} (a b : Nat) (f : a < b → A) (g : b ≤ a → B) (hx : x = nI a := by rfl) (hy : y = nI b := by rfl) (ha : a < 2 ^ 31 := by omega) (hb : b < 2 ^ 31 := by omega) : (x < y → A) ∧ (¬ x < y → B) := by
  subst hx hy
  rw [nI_ltI ha hb]
  exact ⟨f, fun z => g (by omega)⟩
theorem pk_eq {x y : Int32} {A B : Prop} (a b : Nat) (f : a = b → A) (g : a ≠ b → B) (hx : x = nI a := by rfl) (hy : y = nI b := by rfl) (ha : a < 2 ^ 31 := by omega) (hb : b < 2 ^ 31 := by omega) : (x = y → A) ∧ (¬ x = y → B) := by
  subst hx hy
  rw [nI_eq ha hb]
  exact ⟨f, g⟩
theorem pk_in {x : Int32} (n N : Nat) (h : n < N) (hx : x = nI n := by rfl) (hN : N < 2 ^ 31 := by omega) : vp_in x N := by
  subst hx
  exact vp_in_nI h hN
theorem pk_cl {x : Int32} (n : Nat) (hx : x = nI n := by rfl) (h : n < 2 ^ 31 := by omega) : x.toNatClampNeg = n := by
  subst hx
  exact nI_clamp h
theorem pk_tn {n : Nat} (h : n < 2 ^ 32) : (nI n).toBitVec.toNat = n := Nat.mod_eq_of_lt h
theorem pk_and (x : Int32) {m : Int32} (k : Nat) (hm : m.toBitVec.toNat = 2 ^ k - 1) : x &&& m = nI (x.toBitVec.toNat % 2 ^ k) := by
  apply Int32.toBitVec_inj.mp
  apply BitVec.eq_of_toNat_eq
  rw [Int32.toBitVec_and, BitVec.toNat_and, hm, Nat.and_two_pow_sub_one_eq_mod]
  show _ = (BitVec.ofNat 32 _).toNat
  rw [BitVec.toNat_ofNat]
  exact (Nat.mod_eq_of_lt (Nat.lt_of_le_of_lt (Nat.mod_le _ _) x.toBitVec.isLt)).symm
theorem pk_andN {n : Nat} (h : n < 2 ^ 32) {m : Int32} (k : Nat) (hm : m.toBitVec.toNat = 2 ^ k - 1) : nI n &&& m = nI (n % 2 ^ k) := by
  rw [pk_and _ k hm, pk_tn h]
theorem pk_shr (a s : Int32) (k : Nat) (hs : (s.toBitVec.smod 32).toNat = k) : (a >>> s).toInt = a.toInt >>> k := by
  show (a.toBitVec.sshiftRight (s.toBitVec.smod 32).toNat).toInt = _
  rw [hs, BitVec.toInt_sshiftRight]
  rfl
theorem pk_shrN {n : Nat} (h : n < 2 ^ 31) (s : Int32) (k : Nat) (hs : (s.toBitVec.smod 32).toNat = k) : nI n >>> s = nI (n / 2 ^ k) := by
  apply Int32.toInt_inj.mp
  have h2 : n / 2 ^ k ≤ n := Nat.div_le_self _ _
  rw [pk_shr _ _ k hs, nI_toInt h, nI_toInt (by omega), Int.shiftRight_eq_div_pow]
  rfl
theorem pk_lT {n : Nat} (h : n < 2 ^ 63) : (lN n).toInt = (n : Int) := lg_ofNat_toInt h
theorem pk_lEQ {a b : Nat} (ha : a < 2 ^ 63) (hb : b < 2 ^ 63) : lN a = lN b ↔ a = b := by
  rw [← Int64.toInt_inj, pk_lT ha, pk_lT hb]; omega
theorem pk_lDiv {a b : Nat} (ha : a < 2 ^ 63) (h0 : 0 < b) (hb : b < 2 ^ 63) : lN a / lN b = lN (a / b) := by
  apply Int64.toInt_inj.mp
  rw [lg_ldiv_nonneg (by rw [pk_lT ha]; omega) (by rw [pk_lT hb]; omega), pk_lT ha, pk_lT hb, pk_lT (Nat.lt_of_le_of_lt (Nat.div_le_self a b) ha)]
  rfl
theorem pk_lRem {a b : Nat} (ha : a < 2 ^ 63) (h0 : 0 < b) (hb : b < 2 ^ 63) : lN a - lN a / lN b * lN b = lN (a % b) := by
  rw [pk_lDiv ha h0 hb, lN_mul, lN_sub (Nat.div_mul_le_self a b)]
  exact congrArg lN (by have := Nat.div_add_mod' a b; omega)
theorem s_l : ∀ n, n < 32 → ((nI n &&& 31).toBitVec.smod 32).toNat = n := by decide +kernel
end
section
/-! plain arithmetic of the two fields: q elements, the powers of one of them by number -/
def ft_F (q p k : Nat) : Prop := (q = 64 ∧ p = 2 ∧ k = 6) ∨ (q = 81 ∧ p = 3 ∧ k = 4)
def ft_Q (q : Nat) : Prop := q = 64 ∨ q = 81
theorem ft_FQ {q p k : Nat} (h : ft_F q p k) : ft_Q q := by
  rcases h with ⟨h, _⟩ | ⟨h, _⟩
  · exact Or.inl h
  · exact Or.inr h
theorem ft_Fb {q p k : Nat} (h : ft_F q p k) : 2 ≤ p ∧ p ≤ 3 ∧ 4 ≤ k ∧ k ≤ 6 ∧ 64 ≤ q ∧ q ≤ 81 ∧ p ^ k = q := by
  rcases h with ⟨rfl, rfl, rfl⟩ | ⟨rfl, rfl, rfl⟩ <;> decide
theorem ft_Qb {q : Nat} (h : ft_Q q) : 64 ≤ q ∧ q ≤ 81 := by
  rcases h with rfl | rfl <;> decide
/-- every number below n passes -/
def ft_ck (f : Nat → Bool) : Nat → Bool
  | 0 => true
  | n + 1 => f n && ft_ck f n
theorem ft_ck_of {f : Nat → Bool} : ∀ {n : Nat}, ft_ck f n = true → ∀ i, i < n → f i = true := by
  intro n
  induction n with
  | zero => intro _ i hi; omega
  | succ n ih =>
    intro h i hi
    have h' : (f n && ft_ck f n) = true := h
    rw [Bool.and_eq_true] at h'
    by_cases e : i = n
    · rw [e]; exact h'.1
    · exact ih h'.2 i (by omega)
def ft_P (q : Nat) : Nat := cond (Nat.beq q 64) 6790706029134978693118106477565297851325659484134992923299145315322212283595172708066404676957233726521961411339036126965340820591968530626747054686721 521308157496493122099310519065215326374413063881934033342446669215057351200716591249286308696379012573608894022553803629204253787510736699536710195546549209285293976411740935684085765009638145
def ft_E (q : Nat) : Nat := cond (Nat.beq q 64) 3049415151751417393373114404596429138578050464854402598567365066116652208744186674147758320672317311767507985266932019464494946205625893926936181915844608 310803128188884634209527633079309085530484013483857497768989045226710586298299972579295156784066765592531545650396376205081163845880322382086440431186557848145859090448725245151555992410288291840
def ft_pw (q i : Nat) : Nat := ft_P q / 256 ^ (i % (q - 1)) % 256
def ft_ex (q a : Nat) : Nat := ft_E q / 256 ^ a % 256
def ft_M (q a b : Nat) : Nat := cond (Nat.beq a 0) 0 (cond (Nat.beq b 0) 0 (ft_pw q (ft_ex q a + ft_ex q b)))
def ft_PW (q a n : Nat) : Nat := cond (Nat.beq n 0) 1 (cond (Nat.beq a 0) 0 (ft_pw q (ft_ex q a * n)))
theorem ft_b0 {a : Nat} (h : a ≠ 0) : Nat.beq a 0 = false := by
  cases a with
  | zero => exact absurd rfl h
  | succ n => rfl
theorem ft_pw_mod (q i : Nat) : ft_pw q (i % (q - 1)) = ft_pw q i := by
  unfold ft_pw; rw [Nat.mod_mod]
theorem ft_pw_eq {q i j : Nat} (h : i % (q - 1) = j % (q - 1)) : ft_pw q i = ft_pw q j := by
  unfold ft_pw; rw [h]
theorem ft_t64 : ft_ck (fun i => Nat.ble 1 (ft_pw 64 i) && (Nat.ble (ft_pw 64 i) 63 && Nat.beq (ft_ex 64 (ft_pw 64 i)) i)) 63 = true := by decide +kernel
theorem ft_t81 : ft_ck (fun i => Nat.ble 1 (ft_pw 81 i) && (Nat.ble (ft_pw 81 i) 80 && Nat.beq (ft_ex 81 (ft_pw 81 i)) i)) 80 = true := by decide +kernel
theorem ft_e64 : ft_ck (fun a => Nat.beq a 0 || (Nat.beq (ft_pw 64 (ft_ex 64 a)) a && Nat.ble (ft_ex 64 a) 62)) 64 = true := by decide +kernel
theorem ft_e81 : ft_ck (fun a => Nat.beq a 0 || (Nat.beq (ft_pw 81 (ft_ex 81 a)) a && Nat.ble (ft_ex 81 a) 79)) 81 = true := by decide +kernel
theorem ft_pwL {q : Nat} (hq : ft_Q q) (i : Nat) : 1 ≤ ft_pw q i ∧ ft_pw q i < q ∧ ft_ex q (ft_pw q i) = i % (q - 1) := by
  have K : ∀ j, j < q - 1 → 1 ≤ ft_pw q j ∧ ft_pw q j < q ∧ ft_ex q (ft_pw q j) = j := by
    rcases hq with rfl | rfl
    · intro j hj
      have h := ft_ck_of ft_t64 j hj
      simp only [Bool.and_eq_true, Nat.ble_eq, Nat.beq_eq] at h
      exact ⟨h.1, Nat.lt_succ_of_le h.2.1, h.2.2⟩
    · intro j hj
      have h := ft_ck_of ft_t81 j hj
      simp only [Bool.and_eq_true, Nat.ble_eq, Nat.beq_eq] at h
      exact ⟨h.1, Nat.lt_succ_of_le h.2.1, h.2.2⟩
  have := K (i % (q - 1)) (Nat.mod_lt _ (by have := ft_Qb hq; omega))
  rw [ft_pw_mod] at this
  exact this
theorem ft_exL {q a : Nat} (hq : ft_Q q) (h0 : a ≠ 0) (ha : a < q) : ft_pw q (ft_ex q a) = a ∧ ft_ex q a < q - 1 := by
  rcases hq with rfl | rfl
  · have h := ft_ck_of ft_e64 a ha
    simp only [Bool.and_eq_true, Bool.or_eq_true, Nat.ble_eq, Nat.beq_eq] at h
    rcases h with h | h
    · exact absurd h h0
    · exact ⟨h.1, Nat.lt_succ_of_le h.2⟩
  · have h := ft_ck_of ft_e81 a ha
    simp only [Bool.and_eq_true, Bool.or_eq_true, Nat.ble_eq, Nat.beq_eq] at h
    rcases h with h | h
    · exact absurd h h0
    · exact ⟨h.1, Nat.lt_succ_of_le h.2⟩
theorem ft_pw0 {q : Nat} (hq : ft_Q q) : ft_pw q 0 = 1 := by
  rcases hq with rfl | rfl <;> decide +kernel
theorem ft_ex1 {q : Nat} (hq : ft_Q q) : ft_ex q 1 = 0 := by
  rcases hq with rfl | rfl <;> decide +kernel
theorem ft_M0 (q b : Nat) : ft_M q 0 b = 0 := rfl
theorem ft_M0r (q a : Nat) : ft_M q a 0 = 0 := by
  by_cases h : a = 0
  · rw [h]; rfl
  · unfold ft_M; rw [ft_b0 h]; rfl
theorem ft_Mne {q a b : Nat} (ha : a ≠ 0) (hb : b ≠ 0) : ft_M q a b = ft_pw q (ft_ex q a + ft_ex q b) := by
  unfold ft_M; rw [ft_b0 ha, ft_b0 hb]; rfl
theorem ft_M_lt {q : Nat} (hq : ft_Q q) (a b : Nat) : ft_M q a b < q := by
  by_cases ha : a = 0
  · rw [ha, ft_M0]; have := ft_Qb hq; omega
  · by_cases hb : b = 0
    · rw [hb, ft_M0r]; have := ft_Qb hq; omega
    · rw [ft_Mne ha hb]; exact (ft_pwL hq _).2.1
theorem ft_M_pw {q : Nat} (hq : ft_Q q) (i j : Nat) : ft_M q (ft_pw q i) (ft_pw q j) = ft_pw q (i + j) := by
  have hi := ft_pwL hq i
  have hj := ft_pwL hq j
  rw [ft_Mne (by omega) (by omega), hi.2.2, hj.2.2]
  apply ft_pw_eq
  rw [← Nat.add_mod]
theorem ft_PW0 (q a : Nat) : ft_PW q a 0 = 1 := rfl
theorem ft_PWz {q n : Nat} (hn : n ≠ 0) : ft_PW q 0 n = 0 := by
  unfold ft_PW; rw [ft_b0 hn]; rfl
theorem ft_PWne {q a : Nat} (hq : ft_Q q) (ha : a ≠ 0) (n : Nat) : ft_PW q a n = ft_pw q (ft_ex q a * n) := by
  by_cases hn : n = 0
  · rw [hn, ft_PW0, Nat.mul_zero, ft_pw0 hq]
  · unfold ft_PW; rw [ft_b0 hn, ft_b0 ha]; rfl
theorem ft_PW_lt {q : Nat} (hq : ft_Q q) (a n : Nat) : ft_PW q a n < q := by
  have hb := ft_Qb hq
  by_cases ha : a = 0
  · by_cases hn : n = 0
    · rw [hn, ft_PW0]; omega
    · rw [ha, ft_PWz hn]; omega
  · rw [ft_PWne hq ha]; exact (ft_pwL hq _).2.1
/-- the squares, and the power by squaring -/
def ft_rs (q a : Nat) : Nat → Nat
  | 0 => a
  | i + 1 => ft_M q (ft_rs q a i) (ft_rs q a i)
def ft_rr (q a n : Nat) : Nat → Nat
  | 0 => 1
  | i + 1 => if n / 2 ^ i % 2 = 1 then ft_M q (ft_rr q a n i) (ft_rs q a i) else ft_rr q a n i
theorem ft_rs_lt {q a : Nat} (hq : ft_Q q) (ha : a < q) (i : Nat) : ft_rs q a i < q := by
  cases i with
  | zero => exact ha
  | succ i => exact ft_M_lt hq _ _
theorem ft_rr_lt {q : Nat} (hq : ft_Q q) (a n i : Nat) : ft_rr q a n i < q := by
  induction i with
  | zero => have := ft_Qb hq; exact show 1 < q by omega
  | succ i ih =>
    unfold ft_rr
    split
    · exact ft_M_lt hq _ _
    · exact ih
theorem ft_rs_z (q i : Nat) : ft_rs q 0 i = 0 := by
  induction i with
  | zero => rfl
  | succ i ih => unfold ft_rs; rw [ih]; rfl
theorem ft_bits (n i : Nat) : n % 2 ^ (i + 1) = n % 2 ^ i + 2 ^ i * (n / 2 ^ i % 2) := Nat.mod_pow_succ
theorem ft_rr_z (q n i : Nat) : ft_rr q 0 n i = if n % 2 ^ i = 0 then 1 else 0 := by
  induction i with
  | zero => rw [Nat.pow_zero, Nat.mod_one]; rfl
  | succ i ih =>
    have hb := ft_bits n i
    have hp : 0 < 2 ^ i := Nat.two_pow_pos i
    unfold ft_rr
    split
    · rename_i h
      rw [h, Nat.mul_one] at hb
      rw [ft_rs_z, ft_M0r, if_neg (by omega)]
    · rename_i h
      have h2 : n / 2 ^ i % 2 = 0 := by omega
      have hb2 : n % 2 ^ (i + 1) = n % 2 ^ i := by rw [hb, h2]; rfl
      rw [ih, hb2]
theorem ft_rs_n {q a : Nat} (hq : ft_Q q) (h0 : a ≠ 0) (ha : a < q) (i : Nat) : ft_rs q a i = ft_pw q (ft_ex q a * 2 ^ i) := by
  induction i with
  | zero => rw [Nat.pow_zero, Nat.mul_one, (ft_exL hq h0 ha).1]; rfl
  | succ i ih =>
    unfold ft_rs
    rw [ih, ft_M_pw hq, ← Nat.mul_add, Nat.pow_succ, Nat.mul_two]
theorem ft_rr_n {q a : Nat} (hq : ft_Q q) (h0 : a ≠ 0) (ha : a < q) (n i : Nat) : ft_rr q a n i = ft_pw q (ft_ex q a * (n % 2 ^ i)) := by
  induction i with
  | zero => rw [Nat.pow_zero, Nat.mod_one, Nat.mul_zero, ft_pw0 hq]; rfl
  | succ i ih =>
    have hb := ft_bits n i
    unfold ft_rr
    split
    · rename_i h
      rw [h, Nat.mul_one] at hb
      rw [ih, ft_rs_n hq h0 ha, ft_M_pw hq, ← Nat.mul_add, hb]
    · rename_i h
      have h2 : n / 2 ^ i % 2 = 0 := by omega
      have hb2 : n % 2 ^ (i + 1) = n % 2 ^ i := by rw [hb, h2]; rfl
      rw [ih, hb2]
theorem ft_rr_eq {q a n : Nat} (hq : ft_Q q) (ha : a < q) (hn : n < 2 ^ 20) : ft_rr q a n 20 = ft_PW q a n := by
  have hm : n % 2 ^ 20 = n := Nat.mod_eq_of_lt hn
  by_cases h0 : a = 0
  · subst h0
    rw [ft_rr_z, hm]
    by_cases h : n = 0
    · rw [if_pos h, h, ft_PW0]
    · rw [if_neg h, ft_PWz h]
  · rw [ft_rr_n hq h0 ha, hm, ft_PWne hq h0]
/-- digits and sums by digits -/
def ft_dg (p a i : Nat) : Nat := a / p ^ i % p
theorem ft_dg_lt {p : Nat} (hp : 0 < p) (a i : Nat) : ft_dg p a i < p := Nat.mod_lt _ hp
def ft_sm (p a b : Nat) : Nat → Nat
  | 0 => 0
  | i + 1 => ft_sm p a b i + (ft_dg p a i + ft_dg p b i) % p * p ^ i
theorem ft_sm_lt {p : Nat} (hp : 0 < p) (a b i : Nat) : ft_sm p a b i < p ^ i := by
  induction i with
  | zero => exact Nat.one_pos
  | succ i ih =>
    have h : (ft_dg p a i + ft_dg p b i) % p + 1 ≤ p := Nat.mod_lt _ hp
    have h2 := Nat.mul_le_mul_right (p ^ i) h
    rw [Nat.add_mul, Nat.one_mul] at h2
    unfold ft_sm
    rw [Nat.pow_succ, Nat.mul_comm (p ^ i) p]
    omega
theorem ft_divp (p a i : Nat) : a / p ^ i / p = a / p ^ (i + 1) := by
  rw [Nat.div_div_eq_div_mul, ← Nat.pow_succ]
end
section
/-! the product by coefficients: the reference's (kept below p) and the component's (not) -/
def ft_yi (p a b i : Nat) (c : Nat → Nat) (j m : Nat) : Nat := cond (Nat.ble i m && Nat.blt m (i + j)) ((c m + ft_dg p a i * ft_dg p b (m - i)) % p) (c m)
def ft_yc (p k a b : Nat) : Nat → Nat → Nat
  | 0 => fun _ => 0
  | i + 1 => ft_yi p a b i (ft_yc p k a b i) k
def ft_ys (p k n : Nat) (c : Nat → Nat) (m : Nat) : Nat := cond (Nat.beq m n) 0 (cond (Nat.beq m (n - k) || Nat.beq m (n - k + 1)) ((c m + c n) % p) (c m))
def ft_yr (p k : Nat) : Nat → (Nat → Nat) → Nat → Nat
  | 0 => fun c => c
  | t + 1 => fun c => ft_yr p k t (ft_ys p k (k + t) c)
def ft_dsum (p : Nat) (c : Nat → Nat) : Nat → Nat
  | 0 => 0
  | i + 1 => ft_dsum p c i + c i * p ^ i
def ft_PY (p k a b : Nat) : Nat := ft_dsum p (ft_yr p k (12 - k) (ft_yc p k a b k)) k
def ft_xi (p a b i : Nat) (c : Nat → Nat) (j m : Nat) : Nat := cond (Nat.ble i m && Nat.blt m (i + j)) (c m + ft_dg p a i * ft_dg p b (m - i)) (c m)
def ft_xc (p k a b : Nat) : Nat → Nat → Nat
  | 0 => fun _ => 0
  | i + 1 => ft_xi p a b i (ft_xc p k a b i) k
def ft_xs (k n : Nat) (c : Nat → Nat) (m : Nat) : Nat := cond (Nat.beq m (n - k) || Nat.beq m (n - k + 1)) (c m + c n) (c m)
def ft_xr (k : Nat) : Nat → (Nat → Nat) → Nat → Nat
  | 0 => fun c => c
  | t + 1 => fun c => ft_xr k t (ft_xs k (k + t) c)
def ft_hx (p : Nat) (c : Nat → Nat) : Nat → Nat → Nat
  | 0 => fun x => x
  | j + 1 => fun x => ft_hx p c j (x * p + c j % p)
def ft_PX (p k a b : Nat) : Nat := ft_hx p (ft_xr k k (ft_xc p k a b k)) k 0
theorem ft_rg {i m e : Nat} : (Nat.ble i m && Nat.blt m e) = decide (i ≤ m ∧ m < e) := by
  rw [Bool.eq_iff_iff]
  simp only [Bool.and_eq_true, decide_eq_true_eq, Nat.blt, Nat.ble_eq]
  exact Iff.rfl
theorem ft_bq {m n : Nat} : Nat.beq m n = decide (m = n) := by
  rw [Bool.eq_iff_iff]
  simp only [Nat.beq_eq, decide_eq_true_eq]
theorem ft_yi_e (p a b i : Nat) (c : Nat → Nat) (j m : Nat) : ft_yi p a b i c j m = if i ≤ m ∧ m < i + j then (c m + ft_dg p a i * ft_dg p b (m - i)) % p else c m := by
  unfold ft_yi; rw [ft_rg, Bool.cond_decide]
theorem ft_xi_e (p a b i : Nat) (c : Nat → Nat) (j m : Nat) : ft_xi p a b i c j m = if i ≤ m ∧ m < i + j then c m + ft_dg p a i * ft_dg p b (m - i) else c m := by
  unfold ft_xi; rw [ft_rg, Bool.cond_decide]
theorem ft_ys_e (p k n : Nat) (c : Nat → Nat) (m : Nat) : ft_ys p k n c m = if m = n then 0 else if m = n - k ∨ m = n - k + 1 then (c m + c n) % p else c m := by
  unfold ft_ys; rw [ft_bq, ft_bq, ft_bq, Bool.cond_decide, ← Bool.decide_or, Bool.cond_decide]
theorem ft_xs_e (k n : Nat) (c : Nat → Nat) (m : Nat) : ft_xs k n c m = if m = n - k ∨ m = n - k + 1 then c m + c n else c m := by
  unfold ft_xs; rw [ft_bq, ft_bq, ← Bool.decide_or, Bool.cond_decide]
theorem ft_yi_lt {p a b i : Nat} {c : Nat → Nat} {j : Nat} (hp : 0 < p) (h : ∀ m, c m < p) (m : Nat) : ft_yi p a b i c j m < p := by
  rw [ft_yi_e]
  split
  · exact Nat.mod_lt _ hp
  · exact h m
theorem ft_yc_lt {p k a b : Nat} (hp : 0 < p) : ∀ i m, ft_yc p k a b i m < p := by
  intro i
  induction i with
  | zero => intro m; exact hp
  | succ i ih => intro m; exact ft_yi_lt hp ih m
theorem ft_ys_lt {p k n : Nat} {c : Nat → Nat} (hp : 0 < p) (h : ∀ m, c m < p) (m : Nat) : ft_ys p k n c m < p := by
  rw [ft_ys_e]
  split
  · exact hp
  · split
    · exact Nat.mod_lt _ hp
    · exact h m
/-- an array of ints holds the numbers c in its first twelve places -/
def ft_R (C : Nat → Int32) (c : Nat → Nat) : Prop := ∀ m, m < 12 → C m = nI (c m)
theorem ft_R_upd {C : Nat → Int32} {c c' : Nat → Nat} {n v : Nat} (h : ft_R C c) (e : ∀ m, m < 12 → (if m = n then v else c m) = c' m) : ft_R (upd C n (nI v)) c' := by
  intro m hm
  rw [← e m hm]
  unfold upd
  by_cases z : m = n
  · rw [if_pos z, if_pos z]
  · rw [if_neg z, if_neg z]; exact h m hm
theorem ft_yi_at (p a b i : Nat) (c : Nat → Nat) (j : Nat) : ft_yi p a b i c j (i + j) = c (i + j) := by
  rw [ft_yi_e, if_neg (by omega)]
theorem ft_xi_at (p a b i : Nat) (c : Nat → Nat) (j : Nat) : ft_xi p a b i c j (i + j) = c (i + j) := by
  rw [ft_xi_e, if_neg (by omega)]
theorem ft_yi_s (p a b i : Nat) (c : Nat → Nat) (j m : Nat) : (if m = i + j then (c (i + j) + ft_dg p a i * ft_dg p b j) % p else ft_yi p a b i c j m) = ft_yi p a b i c (j + 1) m := by
  rw [ft_yi_e, ft_yi_e]
  by_cases z : m = i + j
  · subst z
    rw [if_pos rfl, if_pos (by omega), Nat.add_sub_cancel_left]
  · rw [if_neg z]
    by_cases y : i ≤ m ∧ m < i + j
    · rw [if_pos y, if_pos (by omega)]
    · rw [if_neg y, if_neg (by omega)]
theorem ft_xi_s (p a b i : Nat) (c : Nat → Nat) (j m : Nat) : (if m = i + j then c (i + j) + ft_dg p a i * ft_dg p b j else ft_xi p a b i c j m) = ft_xi p a b i c (j + 1) m := by
  rw [ft_xi_e, ft_xi_e]
  by_cases z : m = i + j
  · subst z
    rw [if_pos rfl, if_pos (by omega), Nat.add_sub_cancel_left]
  · rw [if_neg z]
    by_cases y : i ≤ m ∧ m < i + j
    · rw [if_pos y, if_pos (by omega)]
    · rw [if_neg y, if_neg (by omega)]
theorem ft_yi_0 (p a b i : Nat) (c : Nat → Nat) (m : Nat) : ft_yi p a b i c 0 m = c m := by
  rw [ft_yi_e, if_neg (by omega)]
theorem ft_xi_0 (p a b i : Nat) (c : Nat → Nat) (m : Nat) : ft_xi p a b i c 0 m = c m := by
  rw [ft_xi_e, if_neg (by omega)]
theorem ft_px64 : ft_ck (fun a => ft_ck (fun g => Nat.beq (ft_PX 2 6 a g) (ft_M 64 a g) && ft_ck (fun m => Nat.ble (ft_xr 6 6 (ft_xc 2 6 a g 6) m) 1000) 12) 4) 64 = true := by decide +kernel
theorem ft_px81 : ft_ck (fun a => ft_ck (fun g => Nat.beq (ft_PX 3 4 a g) (ft_M 81 a g) && ft_ck (fun m => Nat.ble (ft_xr 4 4 (ft_xc 3 4 a g 4) m) 1000) 12) 4) 81 = true := by decide +kernel
theorem ft_PXL {q p k a g : Nat} (h : ft_F q p k) (ha : a < q) (hg : g < 4) : ft_PX p k a g = ft_M q a g ∧ ∀ m, m < 12 → ft_xr k k (ft_xc p k a g k) m < 2 ^ 31 := by
  rcases h with ⟨rfl, rfl, rfl⟩ | ⟨rfl, rfl, rfl⟩
  · have h := ft_ck_of (ft_ck_of ft_px64 a ha) g hg
    rw [Bool.and_eq_true, Nat.beq_eq] at h
    refine ⟨h.1, fun m hm => ?_⟩
    have h2 := ft_ck_of h.2 m hm
    rw [Nat.ble_eq] at h2
    exact Nat.lt_of_le_of_lt h2 (by decide)
  · have h := ft_ck_of (ft_ck_of ft_px81 a ha) g hg
    rw [Bool.and_eq_true, Nat.beq_eq] at h
    refine ⟨h.1, fun m hm => ?_⟩
    have h2 := ft_ck_of h.2 m hm
    rw [Nat.ble_eq] at h2
    exact Nat.lt_of_le_of_lt h2 (by decide)
end
section
/-! all pairs: the product by coefficients is the product by exponents -/
theorem ft_py64 : ft_ck (fun a => ft_ck (fun b => Nat.beq (ft_PY 2 6 a b) (ft_M 64 a b)) 64) 64 = true := by decide +kernel
theorem ft_py81 : ft_ck (fun a => ft_ck (fun b => Nat.beq (ft_PY 3 4 a b) (ft_M 81 a b)) 81) 81 = true := by decide +kernel
theorem ft_PYL {q p k a b : Nat} (h : ft_F q p k) (ha : a < q) (hb : b < q) : ft_PY p k a b = ft_M q a b := by
  rcases h with ⟨rfl, rfl, rfl⟩ | ⟨rfl, rfl, rfl⟩
  · exact Nat.eq_of_beq_eq_true (ft_ck_of (ft_ck_of ft_py64 a ha) b hb)
  · exact Nat.eq_of_beq_eq_true (ft_ck_of (ft_ck_of ft_py81 a ha) b hb)
end
section
/-! the component's product by coefficients, makesAll, build -/
theorem ft_divlt {x : Nat} (p j : Nat) (h : x < 2 ^ 31) : x / p ^ j < 2 ^ 31 := Nat.lt_of_le_of_lt (Nat.div_le_self _ _) h
section
variable {post : Int32 → SX → Prop} {q p k : Nat} {A E C : Nat → Int32}
theorem ft_x187 {c : Nat → Nat} (hp0 : 0 < p) (hp : p ≤ 3) (hC : ft_R C c) (hc : ∀ m, m < 12 → c m < 2 ^ 31) : ∀ j x, j ≤ 12 → post (nI (ft_hx p c j x)) (nI q, nI p, nI k, A, E, C) → wX_productByCoefficients_187 post (nI q) (nI p) (nI k) A E C (j + 1) (nI x) (nI j + (-1)) := by
  intro j
  induction j with
  | zero =>
    intro x _ h
    exact br_t (show nI 0 + (-1) < 0 by decide) h
  | succ j ih =>
    intro x hj h
    rw [pk_m1]
    refine br_f (nI_pos (by omega)) ⟨vp_in_nI (by omega) (by omega), nI_ne0 hp0 (by omega), nm_r (e' := nI (x * p + c j % p)) ?_ (nm_e (ih _ (by omega) h))⟩
    rw [nI_clamp (by omega), hC j (by omega), pk_rem (hc j (by omega)) hp0 (by omega), pk_mul, nI_add]
theorem ft_x115 (hk : 2 ≤ k) (hk6 : k ≤ 6) (hp0 : 0 < p) (hp : p ≤ 3) : ∀ (t : Nat) (c : Nat → Nat) (C : Nat → Int32), t ≤ k → ft_R C c → (∀ m, m < 12 → ft_xr k t c m < 2 ^ 31) → (∀ C', post (nI (ft_hx p (ft_xr k t c) k 0)) (nI q, nI p, nI k, A, E, C')) → wX_productByCoefficients_115 post (nI q) (nI p) (nI k) (t + 1) (nI (k - 1 + t)) A E C := by
  intro t
  induction t with
  | zero =>
    intro c C _ hC hc h
    refine br_t (nI_lt (by omega) (by omega)) (nm_r (e' := nI k + (-1)) (Int32.sub_eq_add_neg _ _) ⟨k + 1, ?_⟩)
    exact ft_x187 hp0 hp hC hc k 0 (by omega) (h C)
  | succ t ih =>
    intro c C ht hC hc h
    have e : k - 1 + (t + 1) = k + t := by omega
    have e1 : nI (k + t) - nI k = nI t := by rw [pk_sub (by omega), Nat.add_sub_cancel_left]
    rw [e]
    refine br_f (nI_nlt (by omega) (by omega)) ?_
    rw [e1, nI_1 t]
    have i1 : vp_in (nI t) 12 := vp_in_nI (by omega) (by omega)
    have i2 : vp_in (nI (k + t)) 12 := vp_in_nI (by omega) (by omega)
    have i3 : vp_in (nI (t + 1)) 12 := vp_in_nI (by omega) (by omega)
    have a1 : upd C (nI t).toNatClampNeg (C (nI t).toNatClampNeg + C (nI (k + t)).toNatClampNeg) = upd C t (nI (c t + c (k + t))) := by
      rw [nI_clamp (n := t) (by omega), nI_clamp (n := k + t) (by omega), hC t (by omega), hC (k + t) (by omega), nI_add]
    have a2 : upd (upd C t (nI (c t + c (k + t)))) (nI (t + 1)).toNatClampNeg (upd C t (nI (c t + c (k + t))) (nI (t + 1)).toNatClampNeg + upd C t (nI (c t + c (k + t))) (nI (k + t)).toNatClampNeg) = upd (upd C t (nI (c t + c (k + t)))) (t + 1) (nI (c (t + 1) + c (k + t))) := by
      rw [nI_clamp (n := t + 1) (by omega), nI_clamp (n := k + t) (by omega), pk_un (j := t + 1) (by omega), pk_un (j := k + t) (by omega), hC (t + 1) (by omega), hC (k + t) (by omega), nI_add]
    have a3 : nI (k + t) + (-1) = nI (k - 1 + t) := by
      rw [show k + t = (k - 1 + t) + 1 by omega, pk_m1]
    have hR : ft_R (upd (upd C t (nI (c t + c (k + t)))) (t + 1) (nI (c (t + 1) + c (k + t)))) (ft_xs k (k + t) c) := by
      refine ft_R_upd (c := fun m => if m = t then c t + c (k + t) else c m) (ft_R_upd hC (fun m _ => rfl)) ?_
      intro m _
      rw [ft_xs_e, Nat.add_sub_cancel_left]
      by_cases z1 : m = t + 1
      · rw [if_pos z1, if_pos (Or.inr z1), z1]
      · by_cases z0 : m = t
        · rw [if_neg z1, if_pos (Or.inl z0), if_pos z0, z0]
        · rw [if_neg z1, if_neg z0, if_neg (by omega)]
    exact ⟨i1, i2, i1, nm_r a1 ⟨i3, i2, i3, nm_r a2 (nm_r a3 (ih _ _ (by omega) hR hc h))⟩⟩
theorem ft_x41 {J : Int32 → Int32 → (Nat → Int32) → (Nat → Int32) → (Nat → Int32) → Prop} {a b i : Nat} {c : Nat → Nat} (hp0 : 0 < p) (hp : p ≤ 3) (hk6 : k ≤ 6) (ha : a < 2 ^ 31) (hb : b < 2 ^ 31) (hi : i < k)
    (hJ : ∀ C', ft_R C' (ft_xi p a b i c k) → J (nI (a / p ^ (i + 1))) (nI (i + 1)) A E C') :
    ∀ (t j : Nat) (C : Nat → Int32), j + t = k → ft_R C (ft_xi p a b i c j) → wX_productByCoefficients_41 post J (nI b) (nI (a / p ^ i)) (nI i) (nI q) (nI p) (nI k) (t + 1) (nI (b / p ^ j)) (nI j) A E C := by
  intro t
  induction t with
  | zero =>
    intro j C hj hC
    have e : j = k := by omega
    rw [e] at hC
    rw [e]
    refine br_t (nI_le (Nat.le_refl _) (by omega)) ⟨nI_ne0 hp0 (by omega), nm_r (e' := nI (a / p ^ (i + 1))) ?_ (nm_r (nI_1 i) (hJ C hC))⟩
    rw [pk_div (ft_divlt p i ha) hp0 (by omega), ft_divp]
  | succ t ih =>
    intro j C hj hC
    refine br_f (nI_ge (by omega) (by omega)) ?_
    rw [nI_add i j]
    have i1 : vp_in (nI (i + j)) 12 := vp_in_nI (by omega) (by omega)
    have z : ¬ nI p = 0 := nI_ne0 hp0 (by omega)
    refine ⟨i1, z, z, i1, nm_r (e' := upd C (i + j) (nI (c (i + j) + ft_dg p a i * ft_dg p b j))) ?_ ⟨z, nm_r (e' := nI (b / p ^ (j + 1))) ?_ (nm_r (nI_1 j) (ih (j + 1) _ (by omega) (ft_R_upd hC (fun m _ => ft_xi_s p a b i c j m))))⟩⟩
    · rw [nI_clamp (by omega), hC (i + j) (by omega), ft_xi_at, pk_rem (ft_divlt p i ha) hp0 (by omega), pk_rem (ft_divlt p j hb) hp0 (by omega), pk_mul, nI_add]
      rfl
    · rw [pk_div (ft_divlt p j hb) hp0 (by omega), ft_divp]
theorem ft_x26 {a b : Nat} (hp0 : 0 < p) (hp : p ≤ 3) (hk : 2 ≤ k) (hk6 : k ≤ 6) (ha : a < 2 ^ 31) (hb : b < 2 ^ 31)
    (hc : ∀ m, m < 12 → ft_xr k k (ft_xc p k a b k) m < 2 ^ 31) (h : ∀ C', post (nI (ft_PX p k a b)) (nI q, nI p, nI k, A, E, C')) :
    ∀ (t i : Nat) (C : Nat → Int32), i + t = k → ft_R C (ft_xc p k a b i) → wX_productByCoefficients_26 post (nI b) (nI q) (nI p) (nI k) (t + 1) (nI (a / p ^ i)) (nI i) A E C := by
  intro t
  induction t with
  | zero =>
    intro i C hi hC
    have e : i = k := by omega
    rw [e] at hC
    rw [e]
    refine br_t (nI_le (Nat.le_refl _) (by omega)) (nm_r (e' := nI (k - 1 + k)) ?_ ⟨k + 1, ft_x115 hk hk6 hp0 hp k _ C (Nat.le_refl _) hC hc h⟩)
    show nI 2 * nI k - nI 1 = _
    rw [pk_mul, pk_sub (by omega)]
    exact congrArg nI (by omega)
  | succ t ih =>
    intro i C hi hC
    refine br_f (nI_ge (by omega) (by omega)) ⟨k + 1, ?_⟩
    have K := ft_x41 (post := post) (q := q) (A := A) (E := E) (J := wX_productByCoefficients_26 post (nI b) (nI q) (nI p) (nI k) (t + 1)) (c := ft_xc p k a b i) (i := i) hp0 hp hk6 ha hb (by omega) (fun C' hC' => ih (i + 1) C' (by omega) hC') k 0 C (by omega) (fun m hm => (hC m hm).trans (congrArg nI (ft_xi_0 p a b i _ m).symm))
    rw [Nat.pow_zero, Nat.div_one] at K
    exact K
theorem ft_x2 {a b : Nat} (hp0 : 0 < p) (hp : p ≤ 3) (hk : 2 ≤ k) (hk6 : k ≤ 6) (ha : a < 2 ^ 31) (hb : b < 2 ^ 31)
    (hc : ∀ m, m < 12 → ft_xr k k (ft_xc p k a b k) m < 2 ^ 31) (h : ∀ C', post (nI (ft_PX p k a b)) (nI q, nI p, nI k, A, E, C')) :
    ∀ (t i : Nat) (C : Nat → Int32), i + t = 12 → (∀ m, m < i → C m = 0) → wX_productByCoefficients_2 post (nI a) (nI b) (nI q) (nI p) (nI k) (t + 1) (nI i) A E C := by
  intro t
  induction t with
  | zero =>
    intro i C hi hC
    have K := ft_x26 (post := post) (q := q) (A := A) (E := E) hp0 hp hk hk6 ha hb hc h k 0 C (by omega) (fun m hm => hC m (by omega))
    rw [Nat.pow_zero, Nat.div_one] at K
    exact br_t (nI_le (a := 12) (by omega) (by omega)) ⟨k + 1, K⟩
  | succ t ih =>
    intro i C hi hC
    refine br_f (nI_ge (b := 12) (by omega) (by decide)) ⟨vp_in_nI (by omega) (by decide), nm_r (e' := upd C i 0) (by rw [nI_clamp (by omega)]) (nm_r (nI_1 i) (ih (i + 1) _ (by omega) ?_))⟩
    intro m hm
    by_cases z : m = i
    · rw [z, pk_us]
    · rw [pk_un z]; exact hC m (by omega)
theorem ft_xprod {a g : Nat} (hF : ft_F q p k) (ha : a < q) (hg : g < 4) (h : ∀ C', post (nI (ft_M q a g)) (nI q, nI p, nI k, A, E, C')) : wpX_productByCoefficients post (nI q, nI p, nI k, A, E, C) (nI a) (nI g) := by
  have hb := ft_Fb hF
  have hL := ft_PXL hF ha hg
  exact ⟨13, ft_x2 (by omega) (by omega) (by omega) (by omega) (by omega) (by omega) hL.2 (fun C' => by rw [hL.1]; exact h C') 12 0 C rfl (fun m hm => absurd hm (by omega))⟩
theorem ft_x25 {J : Int32 → Int32 → Int32 → Int32 → Int32 → (Nat → Int32) → (Nat → Int32) → (Nat → Int32) → Prop} {g x n : Nat} (hF : ft_F q p k) (hx : x < q) (hg : g < 4) (hn : n < 160)
    (h : ∀ C', J (nI (ft_M q x g)) (nI (n + 1)) (nI q) (nI p) (nI k) (upd A n (nI x)) (upd E x (nI n)) C') : wX_makesAll_25 post J (nI g) (nI x) (nI n) (nI q) (nI p) (nI k) A E C := by
  have hb := ft_Fb hF
  unfold wX_makesAll_25
  refine ⟨vp_in_nI hn (by decide), nm_r (e' := upd A n (nI x)) (by rw [nI_clamp (by omega)]) ⟨vp_in_nI (by omega) (by decide), nm_r (e' := upd E x (nI n)) (by rw [nI_clamp (by omega)]) (ft_xprod hF hx hg ?_)⟩⟩
  intro C'
  exact nm_r (nI_1 n) (h C')
end
/-- the first n powers are noted -/
def ft_T0 (q n : Nat) (A E : Nat → Int32) : Prop := (∀ i, i < n → A i = nI (ft_pw q i)) ∧ (∀ i, i < n → E (ft_pw q i) = nI i)
/-- the tables stand -/
def ft_T (q : Nat) (A E : Nat → Int32) : Prop := (∀ i, i < 2 * q - 2 → A i = nI (ft_pw q i)) ∧ (∀ a, a ≠ 0 → a < q → E a = nI (ft_ex q a))
theorem ft_pw1 {q : Nat} (hq : ft_Q q) : ft_pw q 1 < 4 := by
  rcases hq with rfl | rfl <;> decide +kernel
theorem ft_pw_inj {q i j : Nat} (hq : ft_Q q) (hi : i < q - 1) (hj : j < q - 1) (h : ft_pw q i = ft_pw q j) : i = j := by
  have h1 := (ft_pwL hq i).2.2
  have h2 := (ft_pwL hq j).2.2
  rw [Nat.mod_eq_of_lt hi] at h1
  rw [Nat.mod_eq_of_lt hj] at h2
  rw [← h1, ← h2, h]
theorem ft_qm1 {q : Nat} (h : 1 ≤ q) : nI q - 1 = nI (q - 1) := pk_sub (b := 1) h
section
variable {post : Int32 → SX → Prop} {q p k : Nat}
theorem ft_x4 (hF : ft_F q p k) (h : ∀ A E C, ft_T0 q (q - 1) A E → post 1 (nI q, nI p, nI k, A, E, C)) : ∀ (t n : Nat) (A E C : Nat → Int32), n + t = q - 1 → ft_T0 q n A E → wX_makesAll_4 post (nI (ft_pw q 1)) (t + 1) (nI (ft_pw q n)) (nI n) (nI q) (nI p) (nI k) A E C := by
  have hb := ft_Fb hF
  have hq := ft_FQ hF
  have eq1 : nI q - 1 = nI (q - 1) := ft_qm1 (by omega)
  intro t
  induction t with
  | zero =>
    intro n A E C hn hT
    have e : n = q - 1 := by omega
    refine br_t (by rw [eq1]; exact nI_le (by omega) (by omega)) (h A E C (by rw [← e]; exact hT))
  | succ t ih =>
    intro n A E C hn hT
    have hx := ft_pwL hq n
    have go : ∀ P : Int32 → SX → Prop, wX_makesAll_25 P (wX_makesAll_4 post (nI (ft_pw q 1)) (t + 1)) (nI (ft_pw q 1)) (nI (ft_pw q n)) (nI n) (nI q) (nI p) (nI k) A E C := by
      intro P
      refine ft_x25 hF hx.2.1 (ft_pw1 hq) (by omega) (fun C' => ?_)
      rw [ft_M_pw hq]
      refine ih (n + 1) _ _ C' (by omega) ⟨fun i hi => ?_, fun i hi => ?_⟩
      · by_cases z : i = n
        · rw [z, pk_us]
        · rw [pk_un z]; exact hT.1 i (by omega)
      · by_cases z : i = n
        · rw [z, pk_us]
        · rw [pk_un (fun w => z (ft_pw_inj hq (by omega) (by omega) w))]; exact hT.2 i (by omega)
    refine br_f (by rw [eq1]; exact nI_ge (by omega) (by omega)) ?_
    by_cases z : n = 0
    · exact br_t (by rw [z]; decide) (go _)
    · refine br_f (nI_nle (by omega) (by omega)) (br_f ?_ (go _))
      intro w
      have w2 : nI (ft_pw q n) = nI 1 := w
      rw [nI_eq (by omega) (by decide), ← ft_pw0 hq] at w2
      exact z (ft_pw_inj hq (by omega) (by omega) w2)
theorem ft_xgood {A E C : Nat → Int32} (hF : ft_F q p k) (h : ∀ A E C, ft_T0 q (q - 1) A E → post 1 (nI q, nI p, nI k, A, E, C)) : wpX_makesAll post (nI q, nI p, nI k, A, E, C) (nI (ft_pw q 1)) := by
  have hq := ft_FQ hF
  have K := ft_x4 (post := post) hF h (q - 1) 0 A E C (by omega) ⟨fun i hi => absurd hi (by omega), fun i hi => absurd hi (by omega)⟩
  rw [ft_pw0 hq] at K
  exact ⟨q - 1 + 1, K⟩
theorem ft_xbad1 {A E C : Nat → Int32} {g : Nat} (hF : ft_F q p k) (hg : g < 4) (hM : ft_M q 1 g = 1) (h : ∀ A E C, post 0 (nI q, nI p, nI k, A, E, C)) : wpX_makesAll post (nI q, nI p, nI k, A, E, C) (nI g) := by
  have hb := ft_Fb hF
  have eq1 : nI q - 1 = nI (q - 1) := ft_qm1 (by omega)
  refine ⟨2, br_f (by rw [eq1]; exact nI_ge (a := 0) (by omega) (by omega)) (br_t (by decide) (ft_x25 (x := 1) (n := 0) hF (by omega) hg (by decide) (fun C' => ?_)))⟩
  rw [hM]
  exact br_f (by rw [eq1]; exact nI_ge (a := 1) (by omega) (by omega)) (br_f (by decide) (br_t rfl (h _ _ _)))
theorem ft_xbad2 {A E C : Nat → Int32} {g x : Nat} (hF : ft_F q p k) (hg : g < 4) (hx : x < q) (hx1 : x ≠ 1) (hM : ft_M q 1 g = x) (hM2 : ft_M q x g = 1) (h : ∀ A E C, post 0 (nI q, nI p, nI k, A, E, C)) : wpX_makesAll post (nI q, nI p, nI k, A, E, C) (nI g) := by
  have hb := ft_Fb hF
  have eq1 : nI q - 1 = nI (q - 1) := ft_qm1 (by omega)
  refine ⟨3, br_f (by rw [eq1]; exact nI_ge (a := 0) (by omega) (by omega)) (br_t (by decide) (ft_x25 (x := 1) (n := 0) hF (by omega) hg (by decide) (fun C' => ?_)))⟩
  rw [hM]
  refine br_f (by rw [eq1]; exact nI_ge (a := 1) (by omega) (by omega)) (br_f (by decide) (br_f ?_ (ft_x25 (x := x) (n := 1) hF hx hg (by decide) (fun C'' => ?_))))
  · intro w
    have w2 : nI x = nI 1 := w
    rw [nI_eq (by omega) (by decide)] at w2
    exact hx1 w2
  · rw [hM2]
    exact br_f (by rw [eq1]; exact nI_ge (a := 2) (by omega) (by omega)) (br_f (by decide) (br_t rfl (h _ _ _)))
end
section
variable {post : SX → Prop} {q p k : Nat}
theorem ft_x54 {E C : Nat → Int32} (hq : ft_Q q) (h : ∀ A, (∀ i, i < 2 * q - 2 → A i = nI (ft_pw q i)) → post (nI q, nI p, nI k, A, E, C)) : ∀ (t n : Nat) (A : Nat → Int32), n + t = 2 * q - 2 → q - 1 ≤ n → (∀ i, i < n → A i = nI (ft_pw q i)) → wX_build_54 post (nI q) (nI p) (nI k) (t + 1) (nI n) A E C := by
  have hb := ft_Qb hq
  have e2 : 2 * nI q - 2 = nI (2 * q - 2) := by
    show nI 2 * nI q - nI 2 = _
    rw [pk_mul, pk_sub (by omega)]
  intro t
  induction t with
  | zero =>
    intro n A hn hn1 hA
    have e : n = 2 * q - 2 := by omega
    refine br_t (by rw [e2]; exact nI_le (by omega) (by omega)) (h A (by rw [← e]; exact hA))
  | succ t ih =>
    intro n A hn hn1 hA
    have e3 : nI n - nI q + 1 = nI (n + 1 - q) := by
      rw [← pk_sub (by omega), ← nI_1]
      grind
    refine br_f (by rw [e2]; exact nI_ge (by omega) (by omega)) ?_
    rw [e3]
    refine ⟨vp_in_nI (by omega) (by decide), vp_in_nI (by omega) (by decide), nm_r (e' := upd A n (nI (ft_pw q n))) ?_ (nm_r (nI_1 n) (ih (n + 1) _ (by omega) (by omega) ?_))⟩
    · rw [nI_clamp (by omega), nI_clamp (by omega), hA _ (by omega)]
      refine congrArg (fun z => upd A n (nI z)) (ft_pw_eq ?_)
      rw [Nat.mod_eq_sub_mod (a := n) hn1]
      exact congrArg (fun z => z % (q - 1)) (by omega)
    · intro i hi
      by_cases z : i = n
      · rw [z, pk_us]
      · rw [pk_un z]; exact hA i (by omega)
theorem ft_x54' {A E C : Nat → Int32} (hF : ft_F q p k) (h : ∀ A E C, ft_T q A E → post (nI q, nI p, nI k, A, E, C)) (hT : ft_T0 q (q - 1) A E) : ∀ x5 : Int32, x5 = nI q - 1 → ∃ n54 : Nat, wX_build_54 post (nI q) (nI p) (nI k) n54 x5 A E C := by
  have hb := ft_Fb hF
  have hq := ft_FQ hF
  refine nm_r (ft_qm1 (by omega)) ⟨q - 1 + 1, ft_x54 hq (fun A' hA' => h A' E C ⟨hA', fun a h0 ha => ?_⟩) (q - 1) (q - 1) A (by omega) (Nat.le_refl _) hT.1⟩
  have hx := ft_exL hq h0 ha
  have := hT.2 _ hx.2
  rw [hx.1] at this
  exact this
theorem ft_b21g {A E C : Nat → Int32} {n s : Nat} (hF : ft_F q p k) (hs : s < 81) (h : ∀ A E C, ft_T q A E → post (nI q, nI p, nI k, A, E, C)) : wX_build_21 post (n + 1) (nI (ft_pw q 1)) (nI s) (nI q) (nI p) (nI k) A E C := by
  refine br_f (nI_ge (b := 81) hs (by decide)) (ft_xgood hF (fun A' E' C' hT => ?_))
  exact br_f (by decide) (ft_x54' hF h hT)
theorem ft_b21b {A E C : Nat → Int32} {n s g x : Nat} (hF : ft_F q p k) (hs : s < 81) (hg : g < 4) (hx : x < q) (hM : ft_M q 1 g = x) (hM2 : x = 1 ∨ ft_M q x g = 1) (h : ∀ A E C, wX_build_21 post n (nI (g + 1)) (nI (s + 1)) (nI q) (nI p) (nI k) A E C) : wX_build_21 post (n + 1) (nI g) (nI s) (nI q) (nI p) (nI k) A E C := by
  refine br_f (nI_ge (b := 81) hs (by decide)) ?_
  by_cases z : x = 1
  · refine ft_xbad1 hF hg (by rw [hM, z]) (fun A' E' C' => ?_)
    exact br_t rfl (nm_r (nI_1 g) (nm_r (nI_1 s) (h A' E' C')))
  · refine ft_xbad2 hF hg hx z hM (hM2.resolve_left z) (fun A' E' C' => ?_)
    exact br_t rfl (nm_r (nI_1 g) (nm_r (nI_1 s) (h A' E' C')))
theorem ft_xbuild {u : SX} (hF : ft_F q p k) (h : ∀ A E C, ft_T q A E → post (nI q, nI p, nI k, A, E, C)) : wpX_build post u (nI q) (nI p) (nI k) := by
  obtain ⟨uq, up, uk, A, E, C⟩ := u
  have hF' := hF
  rcases hF' with ⟨rfl, rfl, rfl⟩ | ⟨rfl, rfl, rfl⟩
  · refine ⟨2, ft_b21b (g := 1) (s := 0) (x := 1) hF (by decide) (by decide) (by decide) (by decide +kernel) (Or.inl rfl) (fun A' E' C' => ?_)⟩
    have K := ft_b21g (post := post) (A := A') (E := E') (C := C') (n := 0) (s := 1) hF (by decide) h
    rw [show ft_pw 64 1 = 2 by decide +kernel] at K
    exact K
  · refine ⟨3, ft_b21b (g := 1) (s := 0) (x := 1) hF (by decide) (by decide) (by decide) (by decide +kernel) (Or.inl rfl) (fun A' E' C' => ?_)⟩
    refine ft_b21b (g := 2) (s := 1) (x := 2) hF (by decide) (by decide) (by decide) (by decide +kernel) (Or.inr (by decide +kernel)) (fun A'' E'' C'' => ?_)
    have K := ft_b21g (post := post) (A := A'') (E := E'') (C := C'') (n := 0) (s := 2) hF (by decide) h
    rw [show ft_pw 81 1 = 3 by decide +kernel] at K
    exact K
end
end
section
/-! the reference: units, coefficients, sums, products, powers -/
theorem ft_plt {p i : Nat} (hp : p ≤ 3) (hi : i ≤ 12) : p ^ i < 2 ^ 31 :=
  Nat.lt_of_le_of_lt (Nat.le_trans (Nat.pow_le_pow_left hp i) (Nat.pow_le_pow_right (by decide) hi)) (show 3 ^ 12 < 2 ^ 31 by decide)
section
variable {post : Int32 → Prop} {q p k : Nat} {D : Nat → Int32}
theorem ft_yunit {i : Nat} (hi : i ≤ 12) (h : post (nI (p ^ i))) : wpY_unit post (nI q, nI p, nI k, D) (nI i) := by
  have L : ∀ t j, j + t = i → wY_unit_4 post (nI i) (nI q) (nI p) (nI k) D (t + 1) (nI (p ^ j)) (nI j) := by
    intro t
    induction t with
    | zero =>
      intro j hj
      have e : j = i := by omega
      rw [e]
      exact br_t (nI_le (Nat.le_refl _) (by omega)) h
    | succ t ih =>
      intro j hj
      exact br_f (nI_ge (by omega) (by omega)) (nm_r (e' := nI (p ^ (j + 1))) (by rw [pk_mul, Nat.pow_succ]) (nm_r (nI_1 j) (ih (j + 1) (by omega))))
  have K := L i 0 (by omega)
  rw [Nat.pow_zero] at K
  exact ⟨i + 1, K⟩
theorem ft_ycoef {a i : Nat} (hp0 : 0 < p) (hp : p ≤ 3) (hi : i ≤ 12) (ha : a < 2 ^ 31) (h : post (nI (ft_dg p a i))) : wpY_coefficient post (nI q, nI p, nI k, D) (nI a) (nI i) := by
  have h1 : 0 < p ^ i := Nat.pow_pos hp0
  have h2 := ft_plt hp hi
  unfold wpY_coefficient
  dsimp only
  refine ft_yunit hi (br_f (nI_nle hp0 (by omega)) (br_f (nI_nle h1 h2) ⟨nI_ne0 h1 h2, nI_ne0 hp0 (by omega), ?_⟩))
  rw [pk_div ha h1 h2, pk_rem (ft_divlt p i ha) hp0 (by omega)]
  exact h
theorem ft_y53 {J : Int32 → Int32 → Prop} {x1 x2 : Int32} {c s i : Nat} (hi : i ≤ 12) (h : J (nI (s + c * p ^ i)) (nI (i + 1))) : wY_sum_53 post J x1 x2 (nI i) (nI c) (nI s) (nI q) (nI p) (nI k) D := by
  unfold wY_sum_53
  exact ft_yunit hi (nm_r (by rw [pk_mul, nI_add]) (nm_r (nI_1 i) h))
theorem ft_ysum {a b : Nat} (hp0 : 0 < p) (hp : p ≤ 3) (hk : k ≤ 6) (ha : a < 2 ^ 31) (hb : b < 2 ^ 31) (h : post (nI (ft_sm p a b k))) : wpY_sum post (nI q, nI p, nI k, D) (nI a) (nI b) := by
  have L : ∀ t i, i + t = k → wY_sum_5 post (nI a) (nI b) (nI q) (nI p) (nI k) D (t + 1) (nI (ft_sm p a b i)) (nI i) := by
    intro t
    induction t with
    | zero =>
      intro i hi
      have e : i = k := by omega
      rw [e]
      exact br_t (nI_le (Nat.le_refl _) (by omega)) h
    | succ t ih =>
      intro i hi
      have d1 := ft_dg_lt hp0 a i
      have d2 := ft_dg_lt hp0 b i
      have K := ih (i + 1) (by omega)
      refine br_f (nI_ge (by omega) (by omega)) (ft_ycoef hp0 hp (by omega) ha (ft_ycoef hp0 hp (by omega) hb (nm_r (nI_add _ _) (pk_lt (ft_dg p a i + ft_dg p b i) p (fun hc => ?_) (fun hc => ?_)))))
      · refine ft_y53 (by omega) ?_
        have e : ft_sm p a b (i + 1) = ft_sm p a b i + (ft_dg p a i + ft_dg p b i) * p ^ i := by
          show ft_sm p a b i + (ft_dg p a i + ft_dg p b i) % p * p ^ i = _
          rw [Nat.mod_eq_of_lt hc]
        rw [← e]
        exact K
      · rw [pk_sub hc]
        refine ft_y53 (by omega) ?_
        have e : ft_sm p a b (i + 1) = ft_sm p a b i + (ft_dg p a i + ft_dg p b i - p) * p ^ i := by
          show ft_sm p a b i + (ft_dg p a i + ft_dg p b i) % p * p ^ i = _
          rw [Nat.mod_eq_sub_mod hc, Nat.mod_eq_of_lt (by omega)]
        rw [← e]
        exact K
  exact ⟨k + 1, L k 0 (by omega)⟩
theorem ft_ytimes {a b i j : Nat} (hp0 : 0 < p) (hp : p ≤ 3) (hi : i ≤ 12) (hj : j ≤ 12) (ha : a < 2 ^ 31) (hb : b < 2 ^ 31) (h : post (nI (ft_dg p a i * ft_dg p b j))) : wpY_timesAt post (nI q, nI p, nI k, D) (nI a) (nI b) (nI i) (nI j) := by
  unfold wpY_timesAt
  dsimp only
  refine ft_ycoef hp0 hp hi ha (ft_ycoef hp0 hp hj hb ?_)
  rw [pk_mul]
  exact h
end
theorem ft_yput {post : SY → Prop} {q p k : Nat} {D : Nat → Int32} {i x : Nat} (hF : ft_F q p k) (hi : i < 12) (hx : x < 2 ^ 31) (h : post (nI q, nI p, nI k, upd D i (nI (x % p)))) : wpY_put post (nI q, nI p, nI k, D) (nI i) (nI x) := by
  rcases hF with ⟨rfl, rfl, rfl⟩ | ⟨rfl, rfl, rfl⟩
  · refine br_t rfl ⟨by decide, vp_in_nI hi (by decide), nm_r (e' := upd D i (nI (x % 2))) ?_ h⟩
    rw [nI_clamp (by omega), ← pk_rem (d := 2) hx (by decide) (by decide)]
    rfl
  · refine br_f (by decide) ⟨by decide, vp_in_nI hi (by decide), nm_r (e' := upd D i (nI (x % 3))) ?_ h⟩
    rw [nI_clamp (by omega), ← pk_rem (d := 3) hx (by decide) (by decide)]
    rfl
section
variable {post : Int32 → SY → Prop} {q p k : Nat}
theorem ft_y175 {D : Nat → Int32} {c : Nat → Nat} (hk : k ≤ 6) (hD : ft_R D c) (h : post (nI (ft_dsum p c k)) (nI q, nI p, nI k, D)) : ∀ t i, i + t = k → wY_product_175 post (nI q) (nI p) (nI k) D (t + 1) (nI (ft_dsum p c i)) (nI i) := by
  intro t
  induction t with
  | zero =>
    intro i hi
    have e : i = k := by omega
    rw [e]
    exact br_t (nI_le (Nat.le_refl _) (by omega)) h
  | succ t ih =>
    intro i hi
    refine br_f (nI_ge (by omega) (by omega)) ⟨vp_in_nI (by omega) (by decide), ft_yunit (by omega) (nm_r (e' := nI (ft_dsum p c (i + 1))) ?_ (nm_r (nI_1 i) (ih (i + 1) (by omega))))⟩
    rw [nI_clamp (by omega), hD i (by omega), pk_mul, nI_add]
    rfl
theorem ft_y89 (hF : ft_F q p k) : ∀ (t : Nat) (c : Nat → Nat) (D : Nat → Int32), t ≤ 12 - k → ft_R D c → (∀ m, c m < p) → (∀ D', post (nI (ft_dsum p (ft_yr p k t c) k)) (nI q, nI p, nI k, D')) → wY_product_89 post (t + 1) (nI (k - 1 + t)) (nI q) (nI p) (nI k) D := by
  have hb := ft_Fb hF
  intro t
  induction t with
  | zero =>
    intro c D _ hD _ h
    exact br_t (nI_lt (by omega) (by omega)) ⟨k + 1, ft_y175 (by omega) hD (h D) k 0 (by omega)⟩
  | succ t ih =>
    intro c D ht hD hc h
    have e : k - 1 + (t + 1) = k + t := by omega
    have e1 : nI (k + t) - nI k = nI t := by rw [pk_sub (by omega), Nat.add_sub_cancel_left]
    rw [e]
    refine br_f (nI_nlt (by omega) (by omega)) ?_
    rw [e1]
    have i1 : vp_in (nI t) 12 := vp_in_nI (by omega) (by omega)
    have i2 : vp_in (nI (k + t)) 12 := vp_in_nI (by omega) (by omega)
    have i3 : vp_in (nI (t + 1)) 12 := vp_in_nI (by omega) (by omega)
    have c1 := hc t
    have c2 := hc (t + 1)
    have c3 := hc (k + t)
    have v1 : D (nI t).toNatClampNeg + D (nI (k + t)).toNatClampNeg = nI (c t + c (k + t)) := by
      rw [nI_clamp (n := t) (by omega), nI_clamp (n := k + t) (by omega), hD t (by omega), hD (k + t) (by omega), nI_add]
    have v2 : upd D t (nI ((c t + c (k + t)) % p)) (nI (t + 1)).toNatClampNeg + upd D t (nI ((c t + c (k + t)) % p)) (nI (k + t)).toNatClampNeg = nI (c (t + 1) + c (k + t)) := by
      rw [nI_clamp (n := t + 1) (by omega), nI_clamp (n := k + t) (by omega), pk_un (j := t + 1) (by omega), pk_un (j := k + t) (by omega), hD (t + 1) (by omega), hD (k + t) (by omega), nI_add]
    have a3 : nI (k + t) + (-1) = nI (k - 1 + t) := by
      rw [show k + t = (k - 1 + t) + 1 by omega, pk_m1]
    have a4 : upd (upd (upd D t (nI ((c t + c (k + t)) % p))) (t + 1) (nI ((c (t + 1) + c (k + t)) % p))) (nI (k + t)).toNatClampNeg 0 = upd (upd (upd D t (nI ((c t + c (k + t)) % p))) (t + 1) (nI ((c (t + 1) + c (k + t)) % p))) (k + t) (nI 0) := by
      rw [nI_clamp (n := k + t) (by omega), nI_0]
    have hR : ft_R (upd (upd (upd D t (nI ((c t + c (k + t)) % p))) (t + 1) (nI ((c (t + 1) + c (k + t)) % p))) (k + t) (nI 0)) (ft_ys p k (k + t) c) := by
      refine ft_R_upd (c := fun m => if m = t + 1 then (c (t + 1) + c (k + t)) % p else if m = t then (c t + c (k + t)) % p else c m) (ft_R_upd (c := fun m => if m = t then (c t + c (k + t)) % p else c m) (ft_R_upd hD (fun m _ => rfl)) (fun m _ => rfl)) ?_
      intro m _
      rw [ft_ys_e, Nat.add_sub_cancel_left]
      by_cases z2 : m = k + t
      · rw [if_pos z2, if_pos z2]
      · rw [if_neg z2, if_neg z2]
        by_cases z1 : m = t + 1
        · rw [if_pos z1, if_pos (Or.inr z1), z1]
        · by_cases z0 : m = t
          · rw [if_neg z1, if_pos (Or.inl z0), if_pos z0, z0]
          · rw [if_neg z1, if_neg z0, if_neg (by omega)]
    refine ⟨i1, i2, ?_⟩
    rw [v1]
    refine ft_yput hF (by omega) (by omega) ?_
    dsimp only
    rw [e1, nI_1 t]
    refine ⟨i3, i2, ?_⟩
    rw [v2]
    refine ft_yput hF (by omega) (by omega) ?_
    dsimp only
    exact ⟨i2, nm_r a4 (nm_r a3 (ih _ _ (by omega) hR (fun m => ft_ys_lt (by omega) hc m) h))⟩
theorem ft_y34 {J : Int32 → Int32 → Int32 → Int32 → (Nat → Int32) → Prop} {a b i : Nat} {c : Nat → Nat} (hF : ft_F q p k) (ha : a < 2 ^ 31) (hb : b < 2 ^ 31) (hi : i < k) (hc : ∀ m, c m < p)
    (hJ : ∀ D', ft_R D' (ft_yi p a b i c k) → J (nI (i + 1)) (nI q) (nI p) (nI k) D') :
    ∀ (t j : Nat) (D : Nat → Int32), j + t = k → ft_R D (ft_yi p a b i c j) → wY_product_34 post J (nI a) (nI b) (nI i) (t + 1) (nI j) (nI q) (nI p) (nI k) D := by
  have hf := ft_Fb hF
  intro t
  induction t with
  | zero =>
    intro j D hj hD
    have e : j = k := by omega
    rw [e] at hD
    rw [e]
    exact br_t (nI_le (Nat.le_refl _) (by omega)) (nm_r (nI_1 i) (hJ D hD))
  | succ t ih =>
    intro j D hj hD
    have d1 := ft_dg_lt (p := p) (by omega) a i
    have d2 := ft_dg_lt (p := p) (by omega) b j
    have d3 : ft_dg p a i * ft_dg p b j ≤ 3 * 3 := Nat.mul_le_mul (by omega) (by omega)
    have d4 := hc (i + j)
    refine br_f (nI_ge (by omega) (by omega)) (ft_ytimes (by omega) (by omega) (by omega) (by omega) ha hb ?_)
    rw [nI_add i j, nI_clamp (by omega), hD (i + j) (by omega), ft_yi_at, nI_add]
    refine ⟨vp_in_nI (by omega) (by decide), ft_yput hF (by omega) (by omega) ?_⟩
    dsimp only
    exact nm_r (nI_1 j) (ih (j + 1) _ (by omega) (ft_R_upd hD (fun m _ => ft_yi_s p a b i c j m)))
theorem ft_y23 {a b : Nat} (hF : ft_F q p k) (ha : a < 2 ^ 31) (hb : b < 2 ^ 31) (h : ∀ D', post (nI (ft_PY p k a b)) (nI q, nI p, nI k, D')) :
    ∀ (t i : Nat) (D : Nat → Int32), i + t = k → ft_R D (ft_yc p k a b i) → wY_product_23 post (nI a) (nI b) (t + 1) (nI i) (nI q) (nI p) (nI k) D := by
  have hf := ft_Fb hF
  intro t
  induction t with
  | zero =>
    intro i D hi hD
    have e : i = k := by omega
    rw [e] at hD
    rw [e]
    have K := ft_y89 (post := post) hF (12 - k) _ D (Nat.le_refl _) hD (fun m => ft_yc_lt (by omega) k m) h
    rw [show k - 1 + (12 - k) = 11 by omega] at K
    exact br_t (nI_le (Nat.le_refl _) (by omega)) ⟨12 - k + 1, K⟩
  | succ t ih =>
    intro i D hi hD
    refine br_f (nI_ge (by omega) (by omega)) ⟨k + 1, ?_⟩
    exact ft_y34 (c := ft_yc p k a b i) hF ha hb (by omega) (fun m => ft_yc_lt (by omega) i m) (fun D' hD' => ih (i + 1) D' (by omega) hD') k 0 D (by omega) (fun m hm => (hD m hm).trans (congrArg nI (ft_yi_0 p a b i _ m).symm))
theorem ft_yprod {a b : Nat} {D : Nat → Int32} (hF : ft_F q p k) (ha : a < q) (hb : b < q) (h : ∀ D', post (nI (ft_M q a b)) (nI q, nI p, nI k, D')) : wpY_product post (nI q, nI p, nI k, D) (nI a) (nI b) := by
  have hf := ft_Fb hF
  rw [← ft_PYL hF ha hb] at h
  have L : ∀ (t i : Nat) (D : Nat → Int32), i + t = 12 → (∀ m, m < i → D m = 0) → wY_product_2 post (nI a) (nI b) (nI q) (nI p) (nI k) (t + 1) (nI i) D := by
    intro t
    induction t with
    | zero =>
      intro i D hi hD
      exact br_t (nI_le (a := 12) (by omega) (by omega)) ⟨k + 1, ft_y23 hF (by omega) (by omega) h k 0 D (by omega) (fun m hm => hD m (by omega))⟩
    | succ t ih =>
      intro i D hi hD
      refine br_f (nI_ge (b := 12) (by omega) (by decide)) ⟨vp_in_nI (by omega) (by decide), nm_r (e' := upd D i 0) (by rw [nI_clamp (by omega)]) (nm_r (nI_1 i) (ih (i + 1) _ (by omega) ?_))⟩
      intro m hm
      by_cases z : m = i
      · rw [z, pk_us]
      · rw [pk_un z]; exact hD m (by omega)
  exact ⟨13, L 12 0 D rfl (fun m hm => absurd hm (by omega))⟩
theorem ft_bit {n i : Nat} (hn : n < 2 ^ 31) (hi : i < 32) : ((nI n >>> (nI i &&& 31)) &&& 1) = nI (n / 2 ^ i % 2) := by
  have h2 : n / 2 ^ i ≤ n := Nat.div_le_self _ _
  rw [pk_shrN hn _ i (s_l i hi), pk_andN (by omega) (m := 1) 1 (by decide)]
theorem ft_y33 {J : Int32 → Int32 → Int32 → Int32 → Int32 → Int32 → (Nat → Int32) → Prop} {x2 x3 : Int32} {s i : Nat} {D : Nat → Int32} (hF : ft_F q p k) (hs : s < q) (h : ∀ D', J x3 (nI (ft_M q s s)) (nI (i + 1)) (nI q) (nI p) (nI k) D') : wY_raised_33 post J x2 x3 (nI s) (nI i) (nI q) (nI p) (nI k) D := by
  unfold wY_raised_33
  refine ft_yprod hF hs hs (fun D' => ?_)
  exact nm_r (nI_1 i) (h D')
theorem ft_yraised {a n : Nat} {D : Nat → Int32} (hF : ft_F q p k) (ha : a < q) (hn : n ≤ 1000000) (h : ∀ D', post (nI (ft_PW q a n)) (nI q, nI p, nI k, D')) : wpY_raised post (nI q, nI p, nI k, D) (nI a) (nI n) := by
  have hq := ft_FQ hF
  rw [← ft_rr_eq hq ha (by omega)] at h
  have L : ∀ (t i : Nat) (D : Nat → Int32), i + t = 20 → wY_raised_8 post (nI n) (t + 1) (nI (ft_rr q a n i)) (nI (ft_rs q a i)) (nI i) (nI q) (nI p) (nI k) D := by
    intro t
    induction t with
    | zero =>
      intro i D hi
      have e : i = 20 := by omega
      rw [e]
      exact br_t (nI_le (a := 20) (by omega) (by decide)) (h D)
    | succ t ih =>
      intro i D hi
      have hs := ft_rs_lt hq ha i
      refine br_f (nI_ge (b := 20) (by omega) (by decide)) (pk_eq (n / 2 ^ i % 2) 1 (fun hb => ?_) (fun hb => ?_) (ft_bit (by omega) (by omega)))
      · refine ft_yprod hF (ft_rr_lt hq a n i) hs (fun D' => ?_)
        dsimp only
        refine ft_y33 hF hs (fun D'' => ?_)
        have K := ih (i + 1) D'' (by omega)
        rw [show ft_rr q a n (i + 1) = ft_M q (ft_rr q a n i) (ft_rs q a i) from if_pos hb] at K
        exact K
      · refine ft_y33 hF hs (fun D'' => ?_)
        have K := ih (i + 1) D'' (by omega)
        rw [show ft_rr q a n (i + 1) = ft_rr q a n i from if_neg hb] at K
        exact K
  exact ⟨21, L 20 0 D rfl⟩
end
end
section
/-! the reference's methods, each with its plain answer -/
def ft_bad (q : Nat) (x : Int32) : Prop := x < 0 ∨ nI q ≤ x
theorem ft_arg {q : Nat} (hq : ft_Q q) (x : Int32) : ft_bad q x ∨ ∃ a : Nat, a < q ∧ x = nI a := by
  have hb := ft_Qb hq
  rcases pk_ix x (n := q) (by omega) with h | h | h
  · exact Or.inl (Or.inl h)
  · exact Or.inl (Or.inr h)
  · exact Or.inr h
/-- the first number that passes, from j on, t tries -/
def ft_fs (f : Nat → Bool) : Nat → Nat → Nat
  | 0 => fun j => j
  | t + 1 => fun j => cond (f j) j (ft_fs f t (j + 1))
/-- the number, or -1 for q -/
def ft_ans (q r : Nat) : Int32 := if r = q then -1 else nI r
theorem ft_ans_q (q : Nat) : ft_ans q q = -1 := if_pos rfl
theorem ft_ans_n {q r : Nat} (h : r ≠ q) : ft_ans q r = nI r := if_neg h
theorem ft_beqT {a b : Nat} (h : a = b) : Nat.beq a b = true := by rw [Nat.beq_eq]; exact h
theorem ft_beqF {a b : Nat} (h : a ≠ b) : Nat.beq a b = false := by
  rw [ft_bq]; exact decide_eq_false h
theorem ft_fs_t {f : Nat → Bool} {t j : Nat} (h : f j = true) : ft_fs f (t + 1) j = j := by
  show cond (f j) j (ft_fs f t (j + 1)) = j
  rw [h]; rfl
theorem ft_fs_f {f : Nat → Bool} {t j : Nat} (h : f j = false) : ft_fs f (t + 1) j = ft_fs f t (j + 1) := by
  show cond (f j) j (ft_fs f t (j + 1)) = _
  rw [h]; rfl
def ft_od (q a : Nat) : Nat → Nat → Nat → Nat
  | 0 => fun _ n => n
  | t + 1 => fun x n => cond (Nat.beq x 1) n (ft_od q a t (ft_M q x a) (n + 1))
def ft_rc (q a n : Nat) : Nat → Nat → Nat → Nat
  | 0 => fun _ c => c
  | t + 1 => fun x c => ft_rc q a n t (x + 1) (cond (Nat.beq (ft_PW q x n) a) (c + 1) c)
def ft_lg (q g a : Nat) : Nat → Nat → Nat → Nat
  | 0 => fun _ n => n
  | t + 1 => fun x n => cond (Nat.beq x a) n (ft_lg q g a t (ft_M q x g) (n + 1))
/-- how often s is a factor of q -/
def ft_st (q s : Nat) : Nat := if q = 64 then (if s = 2 then 6 else if s = 4 then 3 else if s = 8 then 2 else if s = 64 then 1 else 0) else (if s = 3 then 4 else if s = 9 then 2 else if s = 81 then 1 else 0)
def ft_ta (q s a : Nat) : Nat → Nat
  | 0 => a
  | i + 1 => ft_PW q (ft_ta q s a i) s
def ft_tr (q p k s a : Nat) : Nat → Nat
  | 0 => 0
  | i + 1 => ft_sm p (ft_tr q p k s a i) (ft_ta q s a i) k
theorem ft_ta_lt {q a : Nat} (hq : ft_Q q) (ha : a < q) (s i : Nat) : ft_ta q s a i < q := by
  cases i with
  | zero => exact ha
  | succ i => exact ft_PW_lt hq _ _
theorem ft_tr_lt {q p k : Nat} (hF : ft_F q p k) (s a i : Nat) : ft_tr q p k s a i < q := by
  have hb := ft_Fb hF
  cases i with
  | zero => exact show 0 < q by omega
  | succ i =>
    have := ft_sm_lt (p := p) (by omega) (ft_tr q p k s a i) (ft_ta q s a i) k
    rw [hb.2.2.2.2.2.2] at this
    exact this
section
variable {post : Int32 → Prop} {q p k : Nat} {D : Nat → Int32}
theorem ft_ybad1 {x : Int32} (hx : ft_bad q x) (h : post 1) : wpY_bad post (nI q, nI p, nI k, D) x := by
  refine br_c (fun _ => h) (fun h0 => br_f ?_ h)
  rcases hx with h1 | h1
  · exact absurd h1 h0
  · exact Int32.not_lt.mpr h1
theorem ft_ybad0 {a : Nat} (hq : ft_Q q) (ha : a < q) (h : post 0) : wpY_bad post (nI q, nI p, nI k, D) (nI a) := by
  have hb := ft_Qb hq
  exact br_f (nI_pos (by omega)) (br_t (nI_lt ha (by omega)) h)
theorem ft_ysteps {s : Nat} (hq : ft_Q q) (hs : s < 2 ^ 31) (h : post (nI (ft_st q s))) : wpY_steps post (nI q, nI p, nI k, D) (nI s) := by
  unfold ft_st at h
  rcases hq with rfl | rfl
  · rw [if_pos rfl] at h
    refine br_t rfl (pk_eq s 2 (fun e => ?_) (fun n2 => pk_eq s 4 (fun e => ?_) (fun n4 => pk_eq s 8 (fun e => ?_) (fun n8 => pk_eq s 64 (fun e => ?_) (fun n64 => ?_)))))
    · rw [if_pos e] at h; exact h
    · rw [if_neg n2, if_pos e] at h; exact h
    · rw [if_neg n2, if_neg n4, if_pos e] at h; exact h
    · rw [if_neg n2, if_neg n4, if_neg n8, if_pos e] at h; exact h
    · rw [if_neg n2, if_neg n4, if_neg n8, if_neg n64] at h; exact h
  · rw [if_neg (by decide)] at h
    refine br_f (by decide) (pk_eq s 3 (fun e => ?_) (fun n2 => pk_eq s 9 (fun e => ?_) (fun n4 => pk_eq s 81 (fun e => ?_) (fun n8 => ?_))))
    · rw [if_pos e] at h; exact h
    · rw [if_neg n2, if_pos e] at h; exact h
    · rw [if_neg n2, if_neg n4, if_pos e] at h; exact h
    · rw [if_neg n2, if_neg n4, if_neg n8] at h; exact h
theorem ft_st_le {s : Nat} : ft_st q s ≤ 6 := by
  unfold ft_st
  repeat' split
  all_goals decide
/-- a size that both sides refuse -/
def ft_nof (q : Nat) (x : Int32) : Prop := ∀ s : Nat, s ≤ 81 → ft_st q s ≠ 0 → x ≠ nI s
theorem ft_ysteps0 {x : Int32} (hq : ft_Q q) (hx : ft_nof q x) (h : post 0) : wpY_steps post (nI q, nI p, nI k, D) x := by
  rcases hq with rfl | rfl
  · exact br_t rfl (br_f (hx 2 (by decide) (by decide)) (br_f (hx 4 (by decide) (by decide)) (br_f (hx 8 (by decide) (by decide)) (br_f (hx 64 (by decide) (by decide)) h))))
  · exact br_f (by decide) (br_f (hx 3 (by decide) (by decide)) (br_f (hx 9 (by decide) (by decide)) (br_f (hx 81 (by decide) (by decide)) h)))
end
section
variable {post : Int32 → SY → Prop} {q p k : Nat}
theorem ft_yinv {a : Nat} (hF : ft_F q p k) (ha : a < q) (h : ∀ D', post (ft_ans q (ft_fs (fun b => Nat.beq (ft_M q a b) 1) q 0)) (nI q, nI p, nI k, D')) (D : Nat → Int32) : ∃ n12 : Nat, wY_invert_12 post (nI a) n12 0 (nI q) (nI p) (nI k) D := by
  have hb := ft_Fb hF
  have hq := ft_FQ hF
  have L : ∀ (t j : Nat) (D : Nat → Int32), j + t = q → (∀ D', post (ft_ans q (ft_fs (fun b => Nat.beq (ft_M q a b) 1) t j)) (nI q, nI p, nI k, D')) → wY_invert_12 post (nI a) (t + 1) (nI j) (nI q) (nI p) (nI k) D := by
    intro t
    induction t with
    | zero =>
      intro j D hj h
      have e : j = q := by omega
      have h' := h D
      rw [show ft_fs (fun b => Nat.beq (ft_M q a b) 1) 0 j = q from e, ft_ans_q] at h'
      exact br_t (nI_le (by omega) (by omega)) h'
    | succ t ih =>
      intro j D hj h
      have hm := ft_M_lt hq a j
      refine br_f (nI_ge (by omega) (by omega)) (ft_yprod hF ha (by omega) (fun D' => ?_))
      refine pk_eq (ft_M q a j) 1 (fun e => ?_) (fun e => ?_)
      · have h' := h D'
        rw [ft_fs_t (f := fun b => Nat.beq (ft_M q a b) 1) (ft_beqT e), ft_ans_n (by omega)] at h'
        exact h'
      · rw [ft_fs_f (f := fun b => Nat.beq (ft_M q a b) 1) (ft_beqF e)] at h
        exact nm_r (nI_1 j) (ih (j + 1) D' (by omega) h)
  exact ⟨q + 1, L q 0 D (by omega) h⟩
theorem ft_yroot {a : Nat} (hF : ft_F q p k) (ha : a < q) (h : ∀ D', post (ft_ans q (ft_fs (fun r => Nat.beq (ft_M q r r) a) q 0)) (nI q, nI p, nI k, D')) (D : Nat → Int32) : ∃ n12 : Nat, wY_root_12 post (nI a) n12 0 (nI q) (nI p) (nI k) D := by
  have hb := ft_Fb hF
  have hq := ft_FQ hF
  have L : ∀ (t j : Nat) (D : Nat → Int32), j + t = q → (∀ D', post (ft_ans q (ft_fs (fun r => Nat.beq (ft_M q r r) a) t j)) (nI q, nI p, nI k, D')) → wY_root_12 post (nI a) (t + 1) (nI j) (nI q) (nI p) (nI k) D := by
    intro t
    induction t with
    | zero =>
      intro j D hj h
      have e : j = q := by omega
      have h' := h D
      rw [show ft_fs (fun r => Nat.beq (ft_M q r r) a) 0 j = q from e, ft_ans_q] at h'
      exact br_t (nI_le (by omega) (by omega)) h'
    | succ t ih =>
      intro j D hj h
      have hm := ft_M_lt hq j j
      refine br_f (nI_ge (by omega) (by omega)) (ft_yprod hF (by omega) (by omega) (fun D' => ?_))
      refine pk_eq (ft_M q j j) a (fun e => ?_) (fun e => ?_)
      · have h' := h D'
        rw [ft_fs_t (f := fun r => Nat.beq (ft_M q r r) a) (ft_beqT e), ft_ans_n (by omega)] at h'
        exact h'
      · rw [ft_fs_f (f := fun r => Nat.beq (ft_M q r r) a) (ft_beqF e)] at h
        exact nm_r (nI_1 j) (ih (j + 1) D' (by omega) h)
  exact ⟨q + 1, L q 0 D (by omega) h⟩
theorem ft_yorder {a : Nat} (hF : ft_F q p k) (ha : a < q) (h : ∀ D', post (nI (ft_od q a 99 a 1)) (nI q, nI p, nI k, D')) (D : Nat → Int32) : ∃ n18 : Nat, wY_order_18 post (nI a) n18 (nI a) 1 (nI q) (nI p) (nI k) D := by
  have hb := ft_Fb hF
  have hq := ft_FQ hF
  have L : ∀ (t x n : Nat) (D : Nat → Int32), n + t = 100 → x < q → (∀ D', post (nI (ft_od q a t x n)) (nI q, nI p, nI k, D')) → wY_order_18 post (nI a) (t + 1) (nI x) (nI n) (nI q) (nI p) (nI k) D := by
    intro t
    induction t with
    | zero =>
      intro x n D hn hx h
      exact br_c (fun _ => h D) (fun _ => br_t (nI_le (a := 100) (by omega) (by omega)) (h D))
    | succ t ih =>
      intro x n D hn hx h
      refine pk_eq x 1 (fun e => ?_) (fun e => ?_)
      · have h' := h D
        rw [show ft_od q a (t + 1) x n = n from by
          show cond (Nat.beq x 1) n (ft_od q a t (ft_M q x a) (n + 1)) = n
          rw [ft_beqT e]; rfl] at h'
        exact h'
      · rw [show ft_od q a (t + 1) x n = ft_od q a t (ft_M q x a) (n + 1) from by
          show cond (Nat.beq x 1) n (ft_od q a t (ft_M q x a) (n + 1)) = _
          rw [ft_beqF e]; rfl] at h
        refine br_f (nI_ge (b := 100) (by omega) (by decide)) (ft_yprod hF hx ha (fun D' => ?_))
        exact nm_r (nI_1 n) (ih _ _ D' (by omega) (ft_M_lt hq x a) h)
  exact ⟨100, L 99 a 1 D (by omega) ha h⟩
theorem ft_yroots {a n : Nat} (hF : ft_F q p k) (ha : a < q) (hn : n ≤ 1000000) (h : ∀ D', post (nI (ft_rc q a n q 0 0)) (nI q, nI p, nI k, D')) (D : Nat → Int32) : ∃ n26 : Nat, wY_roots_26 post (nI a) (nI n) n26 0 0 (nI q) (nI p) (nI k) D := by
  have hb := ft_Fb hF
  have hq := ft_FQ hF
  have L : ∀ (t x c : Nat) (D : Nat → Int32), x + t = q → (∀ D', post (nI (ft_rc q a n t x c)) (nI q, nI p, nI k, D')) → wY_roots_26 post (nI a) (nI n) (t + 1) (nI c) (nI x) (nI q) (nI p) (nI k) D := by
    intro t
    induction t with
    | zero =>
      intro x c D hx h
      exact br_t (nI_le (by omega) (by omega)) (h D)
    | succ t ih =>
      intro x c D hx h
      have hm := ft_PW_lt hq x n
      refine br_f (nI_ge (by omega) (by omega)) (ft_yraised hF (by omega) hn (fun D' => ?_))
      have h' : ∀ D', post (nI (ft_rc q a n t (x + 1) (cond (Nat.beq (ft_PW q x n) a) (c + 1) c))) (nI q, nI p, nI k, D') := h
      refine pk_eq (ft_PW q x n) a (fun e => ?_) (fun e => ?_)
      · rw [ft_beqT e] at h'
        exact nm_r (nI_1 c) (nm_r (nI_1 x) (ih _ _ D' (by omega) h'))
      · rw [ft_beqF e] at h'
        exact nm_r (nI_1 x) (ih _ _ D' (by omega) h')
  exact ⟨q + 1, L q 0 0 D (by omega) h⟩
theorem ft_ytrace {a s : Nat} (hF : ft_F q p k) (ha : a < q) (hs : s ≤ 81) (h : ∀ D', post (nI (ft_tr q p k s a (ft_st q s))) (nI q, nI p, nI k, D')) (D : Nat → Int32) : ∃ n26 : Nat, wY_trace_26 post (nI s) n26 0 (nI a) 0 (nI q) (nI p) (nI k) D := by
  have hb := ft_Fb hF
  have hq := ft_FQ hF
  have hst : ft_st q s ≤ 6 := ft_st_le
  have L : ∀ (t i : Nat) (D : Nat → Int32), i + t = ft_st q s → wY_trace_26 post (nI s) (t + 1) (nI (ft_tr q p k s a i)) (nI (ft_ta q s a i)) (nI i) (nI q) (nI p) (nI k) D := by
    intro t
    induction t with
    | zero =>
      intro i D hi
      have e : i = ft_st q s := by omega
      unfold wY_trace_26
      refine ft_ysteps hq (by omega) (br_t (nI_le (by omega) (by omega)) ?_)
      rw [e]
      exact h D
    | succ t ih =>
      intro i D hi
      have h1 := ft_ta_lt hq ha s i
      have h2 := ft_tr_lt hF s a i
      unfold wY_trace_26
      refine ft_ysteps hq (by omega) (br_f (nI_ge (by omega) (by omega)) (ft_ysum (by omega) (by omega) (by omega) (by omega) (by omega) (ft_yraised hF h1 (by omega) (fun D' => ?_))))
      exact nm_r (nI_1 i) (ih (i + 1) D' (by omega))
  exact ⟨ft_st q s + 1, L (ft_st q s) 0 D (by omega)⟩
theorem ft_yhome {a : Nat} (hF : ft_F q p k) (ha : a < q) (h : ∀ D', post (nI (ft_fs (fun s => cond (Nat.beq (ft_st q s) 0) false (Nat.beq (ft_PW q a s) a)) (q - 2) 2)) (nI q, nI p, nI k, D')) (D : Nat → Int32) : ∃ n12 : Nat, wY_home_12 post (nI a) n12 2 (nI q) (nI p) (nI k) D := by
  have hb := ft_Fb hF
  have hq := ft_FQ hF
  have L : ∀ (t j : Nat) (D : Nat → Int32), j + t = q → (∀ D', post (nI (ft_fs (fun s => cond (Nat.beq (ft_st q s) 0) false (Nat.beq (ft_PW q a s) a)) t j)) (nI q, nI p, nI k, D')) → wY_home_12 post (nI a) (t + 1) (nI j) (nI q) (nI p) (nI k) D := by
    intro t
    induction t with
    | zero =>
      intro j D hj h
      have e : j = q := by omega
      have h' := h D
      rw [show ft_fs (fun s => cond (Nat.beq (ft_st q s) 0) false (Nat.beq (ft_PW q a s) a)) 0 j = q from e] at h'
      exact br_t (nI_le (by omega) (by omega)) h'
    | succ t ih =>
      intro j D hj h
      have hm := ft_PW_lt hq a j
      have hst : ft_st q j ≤ 6 := ft_st_le
      refine br_f (nI_ge (by omega) (by omega)) (ft_ysteps hq (by omega) ?_)
      refine pk_le (ft_st q j) 0 (fun e => ?_) (fun e => ?_)
      · have e0 : ft_st q j = 0 := by omega
        rw [ft_fs_f (by show cond (Nat.beq (ft_st q j) 0) false (Nat.beq (ft_PW q a j) a) = false; rw [e0]; rfl)] at h
        exact nm_r (nI_1 j) (ih (j + 1) D (by omega) h)
      · have e0 : Nat.beq (ft_st q j) 0 = false := ft_beqF (by omega)
        refine ft_yraised hF ha (by omega) (fun D' => ?_)
        refine pk_eq (ft_PW q a j) a (fun e => ?_) (fun e => ?_)
        · have h' := h D'
          rw [ft_fs_t (by show cond (Nat.beq (ft_st q j) 0) false (Nat.beq (ft_PW q a j) a) = true; rw [e0, ft_beqT e]; rfl)] at h'
          exact h'
        · rw [ft_fs_f (by show cond (Nat.beq (ft_st q j) 0) false (Nat.beq (ft_PW q a j) a) = false; rw [e0, ft_beqF e]; rfl)] at h
          exact nm_r (nI_1 j) (ih (j + 1) D' (by omega) h)
  exact ⟨q - 2 + 1, L (q - 2) 2 D (by omega) h⟩
theorem ft_ylog {g a : Nat} (hF : ft_F q p k) (hg : g < q) (ha : a < q) (h : ∀ D', post (ft_ans q (ft_lg q g a q 1 0)) (nI q, nI p, nI k, D')) (D : Nat → Int32) : ∃ n31 : Nat, wY_logarithm_31 post (nI g) (nI a) n31 1 0 (nI q) (nI p) (nI k) D := by
  have hb := ft_Fb hF
  have hq := ft_FQ hF
  have L : ∀ (t x n : Nat) (D : Nat → Int32), n + t = q → x < q → (∀ D', post (ft_ans q (ft_lg q g a t x n)) (nI q, nI p, nI k, D')) → wY_logarithm_31 post (nI g) (nI a) (t + 1) (nI x) (nI n) (nI q) (nI p) (nI k) D := by
    intro t
    induction t with
    | zero =>
      intro x n D hn hx h
      have e : n = q := by omega
      have h' := h D
      rw [show ft_lg q g a 0 x n = q from e, ft_ans_q] at h'
      exact br_t (nI_le (by omega) (by omega)) h'
    | succ t ih =>
      intro x n D hn hx h
      refine br_f (nI_ge (by omega) (by omega)) (pk_eq x a (fun e => ?_) (fun e => ?_))
      · have h' := h D
        rw [show ft_lg q g a (t + 1) x n = n from by
          show cond (Nat.beq x a) n (ft_lg q g a t (ft_M q x g) (n + 1)) = n
          rw [ft_beqT e]; rfl, ft_ans_n (by omega)] at h'
        exact h'
      · rw [show ft_lg q g a (t + 1) x n = ft_lg q g a t (ft_M q x g) (n + 1) from by
          show cond (Nat.beq x a) n (ft_lg q g a t (ft_M q x g) (n + 1)) = _
          rw [ft_beqF e]; rfl] at h
        refine ft_yprod hF hx hg (fun D' => ?_)
        exact nm_r (nI_1 n) (ih _ _ D' (by omega) (ft_M_lt hq x g) h)
  exact ⟨q + 1, L q 1 0 D (by omega) (by omega) h⟩
end
end
section
/-! the component's private methods, each with its plain answer -/
def ft_dv : Nat → Nat → Nat → Nat
  | 0 => fun _ b => b
  | s + 1 => fun a b => cond (Nat.beq a 0) b (ft_dv s (b % a) a)
theorem ft_dv_0 (s b : Nat) : ft_dv (s + 1) 0 b = b := rfl
theorem ft_dv_s {s a b : Nat} (h : a ≠ 0) : ft_dv (s + 1) a b = ft_dv s (b % a) a := by
  show cond (Nat.beq a 0) b (ft_dv s (b % a) a) = _
  rw [ft_b0 h]; rfl
/-- the coefficient that Euclid's steps give; t of them at most -/
def ft_iv : Nat → Nat → Nat → Int → Int → Int
  | 0 => fun _ _ u _ => u
  | t + 1 => fun a b u v => cond (Nat.beq b 0) u (ft_iv t b (a % b) v (u - ((a / b : Nat) : Int) * v))
theorem ft_iv_0 (t a : Nat) (u v : Int) : ft_iv (t + 1) a 0 u v = u := rfl
theorem ft_iv_s {t a b : Nat} {u v : Int} (h : b ≠ 0) : ft_iv (t + 1) a b u v = ft_iv t b (a % b) v (u - ((a / b : Nat) : Int) * v) := by
  show cond (Nat.beq b 0) u (ft_iv t b (a % b) v (u - ((a / b : Nat) : Int) * v)) = _
  rw [ft_b0 h]; rfl
/-- small, and its remainder -/
def ft_ivr (m : Nat) (u : Int) : Int := if 0 ≤ u then u else u + m
def ft_ivok (m : Nat) (u : Int) : Prop := -1000 ≤ u ∧ u ≤ 1000 ∧ 0 ≤ u + m
def ft_hm (q p a : Nat) : Nat → Nat → Nat
  | 0 => fun _ => q
  | t + 1 => fun s => cond (Nat.ble q s) q (cond (Nat.beq (ft_st q s) 0) (ft_hm q p a t (s * p)) (cond (Nat.beq (ft_PW q a s) a) s (ft_hm q p a t (s * p))))
theorem ft_iI (n : Nat) : nI n = Int32.ofInt (n : Int) := Int32.ofInt_eq_ofNat.symm
theorem ft_st_pow {q s : Nat} (hq : ft_Q q) (h : ft_st q s ≠ 0) : s ^ ft_st q s = q ∧ 2 ≤ s ∧ s ≤ 81 := by
  unfold ft_st at h ⊢
  rcases hq with rfl | rfl
  · rw [if_pos rfl] at h ⊢
    by_cases n2 : s = 2
    · subst n2; decide
    · by_cases n4 : s = 4
      · subst n4; decide
      · by_cases n8 : s = 8
        · subst n8; decide
        · by_cases n64 : s = 64
          · subst n64; decide
          · rw [if_neg n2, if_neg n4, if_neg n8, if_neg n64] at h
            exact absurd rfl h
  · rw [if_neg (by decide)] at h ⊢
    by_cases n2 : s = 3
    · subst n2; decide
    · by_cases n4 : s = 9
      · subst n4; decide
      · by_cases n8 : s = 81
        · subst n8; decide
        · rw [if_neg n2, if_neg n4, if_neg n8] at h
          exact absurd rfl h
theorem ft_fcase (q : Nat) (x : Int32) : ft_nof q x ∨ ∃ s : Nat, s ≤ 81 ∧ ft_st q s ≠ 0 ∧ x = nI s := by
  by_cases h : ∃ s : Nat, s ≤ 81 ∧ ft_st q s ≠ 0 ∧ x = nI s
  · exact Or.inr h
  · exact Or.inl (fun s h1 h2 h3 => h ⟨s, h1, h2, h3⟩)
section
variable {post : Int32 → Prop} {q p k : Nat} {A E C : Nat → Int32}
theorem ft_xel0 {x : Int32} (hx : ft_bad q x) (h : post 0) : wpX_isElement post (nI q, nI p, nI k, A, E, C) x := by
  rcases hx with h1 | h1
  · exact br_t h1 h
  · exact br_c (fun _ => h) (fun _ => br_t h1 h)
theorem ft_xel1 {a : Nat} (hq : ft_Q q) (ha : a < q) (h : post 1) : wpX_isElement post (nI q, nI p, nI k, A, E, C) (nI a) := by
  have hb := ft_Qb hq
  exact br_f (nI_pos (by omega)) (br_f (nI_ge ha (by omega)) h)
theorem ft_xsum {a b : Nat} (hp0 : 0 < p) (hp : p ≤ 3) (hk : k ≤ 6) (ha : a < 2 ^ 31) (hb : b < 2 ^ 31) (h : post (nI (ft_sm p a b k))) : wpX_sumOf post (nI q, nI p, nI k, A, E, C) (nI a) (nI b) := by
  have L : ∀ t i, i + t = k → wX_sumOf_14 post (nI q) (nI p) (nI k) A E C (t + 1) (nI (ft_sm p a b i)) (nI (p ^ i)) (nI (a / p ^ i)) (nI (b / p ^ i)) (nI i) := by
    intro t
    induction t with
    | zero =>
      intro i hi
      have e : i = k := by omega
      rw [e]
      exact br_t (nI_le (Nat.le_refl _) (by omega)) h
    | succ t ih =>
      intro i hi
      have z : ¬ nI p = 0 := nI_ne0 hp0 (by omega)
      have d1 := ft_dg_lt hp0 a i
      have d2 := ft_dg_lt hp0 b i
      refine br_f (nI_ge (by omega) (by omega)) ⟨z, z, z, nm_r (e' := nI (ft_sm p a b (i + 1))) ?_ (nm_r (e' := nI (p ^ (i + 1))) ?_ ⟨z, nm_r (e' := nI (a / p ^ (i + 1))) ?_ ⟨z, nm_r (e' := nI (b / p ^ (i + 1))) ?_ (nm_r (nI_1 i) (ih (i + 1) (by omega)))⟩⟩)⟩
      · rw [pk_rem (ft_divlt p i ha) hp0 (by omega), pk_rem (ft_divlt p i hb) hp0 (by omega)]
        show nI _ + (nI (ft_dg p a i) + nI (ft_dg p b i) - (nI (ft_dg p a i) + nI (ft_dg p b i)) / nI p * nI p) * nI (p ^ i) = _
        rw [nI_add, pk_rem (by omega) hp0 (by omega), pk_mul, nI_add]
        rfl
      · rw [pk_mul, Nat.pow_succ]
      · rw [pk_div (ft_divlt p i ha) hp0 (by omega), ft_divp]
      · rw [pk_div (ft_divlt p i hb) hp0 (by omega), ft_divp]
  have K := L k 0 (by omega)
  rw [Nat.pow_zero, Nat.div_one, Nat.div_one] at K
  exact ⟨k + 1, K⟩
theorem ft_xtimes {a b : Nat} (hF : ft_F q p k) (hT : ft_T q A E) (ha : a < q) (hb : b < q) (h : post (nI (ft_M q a b))) : wpX_productOf post (nI q, nI p, nI k, A, E, C) (nI a) (nI b) := by
  have hf := ft_Fb hF
  have hq := ft_FQ hF
  refine pk_eq a 0 (fun e => ?_) (fun na => pk_eq b 0 (fun e => ?_) (fun nb => ?_))
  · rw [e, ft_M0] at h; exact h
  · rw [e, ft_M0r] at h; exact h
  · have xa := ft_exL hq na ha
    have xb := ft_exL hq nb hb
    rw [nI_clamp (n := a) (by omega), nI_clamp (n := b) (by omega), hT.2 a na ha, hT.2 b nb hb, nI_add]
    refine ⟨vp_in_nI (by omega) (by decide), vp_in_nI (by omega) (by decide), vp_in_nI (by omega) (by decide), ?_⟩
    rw [nI_clamp (by omega), hT.1 _ (by omega), ← ft_Mne na nb]
    exact h
theorem ft_xpow {a n : Nat} (hF : ft_F q p k) (hT : ft_T q A E) (ha : a < q) (hn : n ≤ 1000000) (h : post (nI (ft_PW q a n))) : wpX_powerOf post (nI q, nI p, nI k, A, E, C) (nI a) (nI n) := by
  have hf := ft_Fb hF
  have hq := ft_FQ hF
  refine pk_eq n 0 (fun e => ?_) (fun nn => pk_eq a 0 (fun e => ?_) (fun na => ?_))
  · rw [e, ft_PW0] at h; exact h
  · rw [e, ft_PWz nn] at h; exact h
  · have xa := ft_exL hq na ha
    have hm : ft_ex q a * n ≤ 81 * 1000000 := Nat.mul_le_mul (by omega) hn
    have hr : ft_ex q a * n % (q - 1) < q - 1 := Nat.mod_lt _ (by omega)
    have z : ¬ lN (q - 1) = lN 0 := by rw [lN_eq (by omega) (by omega)]; omega
    rw [nI_clamp (n := a) (by omega), hT.2 a na ha, ft_qm1 (by omega), nI_l (n := q - 1) (by omega), nI_l (n := ft_ex q a) (by omega), nI_l (n := n) (by omega), lN_mul, pk_lRem (by omega) (by omega) (by omega), lN_i]
    refine ⟨vp_in_nI (by omega) (by decide), z, vp_in_nI (by omega) (by decide), ?_⟩
    rw [nI_clamp (by omega), hT.1 _ (by omega), ft_pw_mod, ← ft_PWne hq na]
    exact h
theorem ft_xdiv {a b : Nat} (ha : a < 2 ^ 31) (hb : b < 2 ^ 31) (h : post (nI (ft_dv 40 a b))) : wpX_divisor post (nI a) (nI b) := by
  have L : ∀ t s a b, s + t = 40 → a < 2 ^ 31 → b < 2 ^ 31 → post (nI (ft_dv t a b)) → wX_divisor_7 post (t + 1) (nI a) (nI b) (nI s) := by
    intro t
    induction t with
    | zero =>
      intro s a b hs ha hb h
      exact br_t (nI_le (a := 40) (by omega) (by omega)) h
    | succ t ih =>
      intro s a b hs ha hb h
      refine br_f (nI_ge (b := 40) (by omega) (by decide)) (pk_le a 0 (fun e => ?_) (fun e => ?_))
      · have e0 : a = 0 := by omega
        rw [e0, ft_dv_0] at h
        exact h
      · have hr := Nat.mod_lt b e
        rw [ft_dv_s (by omega)] at h
        exact ⟨nI_ne0 e ha, nm_r (pk_rem hb e ha) (nm_r (nI_1 s) (ih (s + 1) _ _ (by omega) (by omega) ha h))⟩
  exact ⟨41, L 40 0 a b rfl ha hb h⟩
theorem ft_xfld {s : Nat} (hF : ft_F q p k) (hs : s < 2 ^ 31) (h1 : ft_st q s ≠ 0 → post 1) (h0 : ft_st q s = 0 → post 0) : wpX_isField post (nI q, nI p, nI k, A, E, C) (nI s) := by
  unfold ft_st at h1 h0
  rcases hF with ⟨rfl, rfl, rfl⟩ | ⟨rfl, rfl, rfl⟩
  · rw [if_pos rfl] at h1 h0
    refine br_t rfl (pk_eq s 2 (fun e => ?_) (fun n2 => pk_eq s 4 (fun e => ?_) (fun n4 => pk_eq s 8 (fun e => ?_) (fun n8 => pk_eq s 64 (fun e => ?_) (fun n64 => ?_)))))
    · exact h1 (by rw [if_pos e]; decide)
    · exact h1 (by rw [if_neg n2, if_pos e]; decide)
    · exact h1 (by rw [if_neg n2, if_neg n4, if_pos e]; decide)
    · exact h1 (by rw [if_neg n2, if_neg n4, if_neg n8, if_pos e]; decide)
    · exact h0 (by rw [if_neg n2, if_neg n4, if_neg n8, if_neg n64])
  · rw [if_neg (by decide)] at h1 h0
    refine br_f (by decide) (pk_eq s 3 (fun e => ?_) (fun n2 => pk_eq s 9 (fun e => ?_) (fun n4 => pk_eq s 81 (fun e => ?_) (fun n8 => ?_))))
    · exact h1 (by rw [if_pos e]; decide)
    · exact h1 (by rw [if_neg n2, if_pos e]; decide)
    · exact h1 (by rw [if_neg n2, if_neg n4, if_pos e]; decide)
    · exact h0 (by rw [if_neg n2, if_neg n4, if_neg n8])
theorem ft_xfld0 {x : Int32} (hF : ft_F q p k) (hx : ft_nof q x) (h : post 0) : wpX_isField post (nI q, nI p, nI k, A, E, C) x := by
  rcases hF with ⟨rfl, rfl, rfl⟩ | ⟨rfl, rfl, rfl⟩
  · exact br_t rfl (br_f (hx 2 (by decide) (by decide)) (br_f (hx 4 (by decide) (by decide)) (br_f (hx 8 (by decide) (by decide)) (br_f (hx 64 (by decide) (by decide)) h))))
  · exact br_f (by decide) (br_f (hx 3 (by decide) (by decide)) (br_f (hx 9 (by decide) (by decide)) (br_f (hx 81 (by decide) (by decide)) h)))
theorem ft_xtrace {a s : Nat} (hF : ft_F q p k) (hT : ft_T q A E) (ha : a < q) (hs : ft_st q s ≠ 0) (h : post (nI (ft_tr q p k s a (ft_st q s)))) : ∃ n26 : Nat, wX_trace_26 post (nI s) (nI q) (nI p) (nI k) A E C n26 0 (nI a) (nI s) := by
  have hb := ft_Fb hF
  have hq := ft_FQ hF
  have ⟨hp, s2, s81⟩ := ft_st_pow hq hs
  have L : ∀ t i, i + t = ft_st q s → wX_trace_26 post (nI s) (nI q) (nI p) (nI k) A E C (t + 1) (nI (ft_tr q p k s a i)) (nI (ft_ta q s a i)) (nI (s ^ (i + 1))) := by
    intro t
    induction t with
    | zero =>
      intro i hi
      have e : i = ft_st q s := by omega
      have h1 : s ^ (ft_st q s + 1) = q * s := by rw [Nat.pow_succ, hp]
      have h2 : q * 2 ≤ q * s := Nat.mul_le_mul_left q s2
      have h3 : q * s ≤ 81 * 81 := Nat.mul_le_mul (by omega) s81
      rw [e, h1]
      exact br_t (nI_lt (by omega) (by omega)) h
    | succ t ih =>
      intro i hi
      have h1 := ft_ta_lt hq ha s i
      have h2 := ft_tr_lt hF s a i
      have h3 : s ^ (i + 1) ≤ q := by
        have := Nat.pow_le_pow_right (n := s) (by omega) (show i + 1 ≤ ft_st q s by omega)
        rw [hp] at this
        exact this
      refine br_f (nI_nlt h3 (by omega)) (ft_xsum (by omega) (by omega) (by omega) (by omega) (by omega) (ft_xpow hF hT h1 (by omega) (nm_r (e' := nI (s ^ (i + 1 + 1))) ?_ (ih (i + 1) (by omega)))))
      rw [pk_mul, ← Nat.pow_succ]
  have K := L (ft_st q s) 0 (by omega)
  rw [show s ^ (0 + 1) = s from Nat.pow_one s] at K
  exact ⟨ft_st q s + 1, K⟩
theorem ft_xhome {a : Nat} (hF : ft_F q p k) (hT : ft_T q A E) (ha : a < q) (h : post (nI (ft_hm q p a 5 p))) : ∃ n15 : Nat, wX_home_15 post (nI a) (nI q) (nI p) (nI k) A E C n15 (nI p) := by
  have hb := ft_Fb hF
  have hq := ft_FQ hF
  have L : ∀ t s, s ≤ 243 → q ≤ s * p ^ t → post (nI (ft_hm q p a t s)) → wX_home_15 post (nI a) (nI q) (nI p) (nI k) A E C (t + 1) (nI s) := by
    intro t
    induction t with
    | zero =>
      intro s hs hl h
      rw [Nat.pow_zero, Nat.mul_one] at hl
      exact br_t (nI_le hl (by omega)) h
    | succ t ih =>
      intro s hs hl h
      have h' : post (nI (cond (Nat.ble q s) q (cond (Nat.beq (ft_st q s) 0) (ft_hm q p a t (s * p)) (cond (Nat.beq (ft_PW q a s) a) s (ft_hm q p a t (s * p)))))) := h
      refine pk_le q s (fun c => ?_) (fun c => ?_)
      · rw [show Nat.ble q s = true by rw [Nat.ble_eq]; exact c] at h'
        exact h'
      · have hw := ft_PW_lt hq a s
        have h3 : s * p ≤ 81 * 3 := Nat.mul_le_mul (by omega) (by omega)
        have h4 : q ≤ s * p * p ^ t := by
          rw [Nat.mul_assoc, Nat.mul_comm p, ← Nat.pow_succ]; exact hl
        rw [show Nat.ble q s = false by rw [Bool.eq_false_iff]; intro w; rw [Nat.ble_eq] at w; omega] at h'
        refine ft_xfld hF (by omega) (fun z => ?_) (fun z => ?_)
        · refine br_f (by decide) (ft_xpow hF hT ha (by omega) ?_)
          rw [ft_beqF z] at h'
          refine pk_eq (ft_PW q a s) a (fun e => ?_) (fun e => ?_)
          · rw [ft_beqT e] at h'; exact h'
          · rw [ft_beqF e] at h'; exact nm_r (pk_mul s p) (ih _ (by omega) h4 h')
        · rw [ft_beqT z] at h'
          exact br_t rfl (nm_r (pk_mul s p) (ih _ (by omega) h4 h'))
  refine ⟨6, L 5 p (by omega) ?_ h⟩
  rcases hF with ⟨rfl, rfl, rfl⟩ | ⟨rfl, rfl, rfl⟩ <;> decide
theorem ft_x68 {m : Nat} {u : Int} (hm : m ≤ 1000) (hu : ft_ivok m u) (h : post (nI (ft_ivr m u).toNat)) : wX_inverseModulo_68 post (nI m) (Int32.ofInt u) := by
  obtain ⟨h1, h2, h3⟩ := hu
  have e : (Int32.ofInt u).toInt = u := Int32.toInt_ofInt_of_le (by omega) (by omega)
  have z : (0 : Int32).toInt = 0 := by decide
  have c : (0 : Int32) ≤ Int32.ofInt u ↔ 0 ≤ u := by rw [Int32.le_iff_toInt_le, e, z]
  unfold ft_ivr at h
  unfold wX_inverseModulo_68
  by_cases hc : 0 ≤ u
  · refine br_t (c.mpr hc) ?_
    rw [if_pos hc, ft_iI, Int.toNat_of_nonneg hc] at h
    exact h
  · refine br_f (fun w => hc (c.mp w)) ?_
    rw [if_neg hc, ft_iI, Int.toNat_of_nonneg h3, Int32.ofInt_add, ← ft_iI] at h
    exact h
theorem ft_xinv {x m : Nat} (hx : x < 2 ^ 31) (hm0 : 0 < m) (hm : m ≤ 1000) (hu : ft_ivok m (ft_iv 20 m (x % m) 0 1)) (h : post (nI (ft_ivr m (ft_iv 20 m (x % m) 0 1)).toNat)) : wpX_inverseModulo post (nI x) (nI m) := by
  have L : ∀ t s a b u v, s + t = 20 → a < 2 ^ 31 → b < 2 ^ 31 → ft_ivok m (ft_iv t a b u v) → post (nI (ft_ivr m (ft_iv t a b u v)).toNat) → wX_inverseModulo_15 post (nI m) (t + 1) (nI a) (nI b) (Int32.ofInt u) (Int32.ofInt v) (nI s) := by
    intro t
    induction t with
    | zero =>
      intro s a b u v hs ha hb hu h
      exact br_t (nI_le (a := 20) (by omega) (by omega)) (ft_x68 hm hu h)
    | succ t ih =>
      intro s a b u v hs ha hb hu h
      refine br_f (nI_ge (b := 20) (by omega) (by decide)) (pk_le b 0 (fun e => ?_) (fun e => ?_))
      · have e0 : b = 0 := by omega
        rw [e0, ft_iv_0] at hu h
        exact ft_x68 hm hu h
      · have hr := Nat.mod_lt a e
        rw [ft_iv_s (by omega)] at hu h
        have a1 : nI a / nI b = nI (a / b) := pk_div ha e hb
        have a2 : nI a - nI (a / b) * nI b = nI (a % b) := by rw [← a1]; exact pk_rem ha e hb
        have a3 : Int32.ofInt u - nI (a / b) * Int32.ofInt v = Int32.ofInt (u - ((a / b : Nat) : Int) * v) := by
          rw [Int32.ofInt_sub, Int32.ofInt_mul, ft_iI]
        exact ⟨nI_ne0 e hb, nm_r a1 (nm_r a2 (nm_r a3 (nm_r (nI_1 s) (ih (s + 1) _ _ _ _ (by omega) hb (by omega) hu h))))⟩
  have hr := Nat.mod_lt x hm0
  unfold wpX_inverseModulo
  refine ⟨nI_ne0 hm0 (by omega), nm_r (pk_rem hx hm0 (by omega)) ⟨21, ?_⟩⟩
  exact L 20 0 m (x % m) 0 1 rfl (by omega) (by omega) hu h
end
end
section
/-! the plain laws, by trying all elements -/
theorem ft_dv63 : ft_ck (fun e => Nat.beq (ft_dv 40 e 63) (Nat.gcd e 63) && Nat.beq (ft_dv 38 e 63) (Nat.gcd e 63)) 64 = true := by decide +kernel
theorem ft_dv80 : ft_ck (fun e => Nat.beq (ft_dv 40 e 80) (Nat.gcd e 80) && Nat.beq (ft_dv 38 e 80) (Nat.gcd e 80)) 81 = true := by decide +kernel
theorem ft_dvg {N : Nat} (hN : 0 < N) (h : ∀ e, e < N + 1 → ft_dv 40 e N = Nat.gcd e N ∧ ft_dv 38 e N = Nat.gcd e N) (n : Nat) : ft_dv 40 n N = Nat.gcd n N := by
  by_cases hn : n < N + 1
  · exact (h n hn).1
  · have hr := Nat.mod_lt n hN
    rw [ft_dv_s (by omega), Nat.mod_eq_of_lt (by omega), ft_dv_s (by omega), (h (n % N) (by omega)).2, Nat.gcd_comm n N, Nat.gcd_rec N n]
theorem ft_dvL {q : Nat} (hq : ft_Q q) (n : Nat) : ft_dv 40 n (q - 1) = Nat.gcd n (q - 1) := by
  rcases hq with rfl | rfl
  · refine ft_dvg (N := 63) (by decide) (fun e he => ?_) n
    have h := ft_ck_of ft_dv63 e he
    rw [Bool.and_eq_true, Nat.beq_eq, Nat.beq_eq] at h
    exact h
  · refine ft_dvg (N := 80) (by decide) (fun e he => ?_) n
    have h := ft_ck_of ft_dv80 e he
    rw [Bool.and_eq_true, Nat.beq_eq, Nat.beq_eq] at h
    exact h
theorem ft_in64 : ft_ck (fun a => Nat.beq (ft_fs (fun b => Nat.beq (ft_M 64 a b) 1) 64 0) (cond (Nat.beq a 0) 64 (ft_pw 64 (63 - ft_ex 64 a)))) 64 = true := by decide +kernel
theorem ft_in81 : ft_ck (fun a => Nat.beq (ft_fs (fun b => Nat.beq (ft_M 81 a b) 1) 81 0) (cond (Nat.beq a 0) 81 (ft_pw 81 (80 - ft_ex 81 a)))) 81 = true := by decide +kernel
theorem ft_inL {q a : Nat} (hq : ft_Q q) (ha : a < q) : ft_fs (fun b => Nat.beq (ft_M q a b) 1) q 0 = cond (Nat.beq a 0) q (ft_pw q (q - 1 - ft_ex q a)) := by
  rcases hq with rfl | rfl
  · exact Nat.eq_of_beq_eq_true (ft_ck_of ft_in64 a ha)
  · exact Nat.eq_of_beq_eq_true (ft_ck_of ft_in81 a ha)
def ft_rx (q a : Nat) : Nat := cond (Nat.beq a 0) 0 (cond (Nat.beq q 64) (ft_pw q (ft_ex q a * 32 % 63)) (cond (Nat.beq (ft_ex q a % 2) 0) (cond (Nat.ble (ft_pw q (ft_ex q a / 2 + 40)) (ft_pw q (ft_ex q a / 2))) (ft_pw q (ft_ex q a / 2 + 40)) (ft_pw q (ft_ex q a / 2))) q))
theorem ft_ro64 : ft_ck (fun a => Nat.beq (ft_fs (fun r => Nat.beq (ft_M 64 r r) a) 64 0) (ft_rx 64 a)) 64 = true := by decide +kernel
theorem ft_ro81 : ft_ck (fun a => Nat.beq (ft_fs (fun r => Nat.beq (ft_M 81 r r) a) 81 0) (ft_rx 81 a)) 81 = true := by decide +kernel
theorem ft_roL {q a : Nat} (hq : ft_Q q) (ha : a < q) : ft_fs (fun r => Nat.beq (ft_M q r r) a) q 0 = ft_rx q a := by
  rcases hq with rfl | rfl
  · exact Nat.eq_of_beq_eq_true (ft_ck_of ft_ro64 a ha)
  · exact Nat.eq_of_beq_eq_true (ft_ck_of ft_ro81 a ha)
theorem ft_od64 : ft_ck (fun a => Nat.beq a 0 || Nat.beq (ft_od 64 a 99 a 1) (63 / Nat.gcd (ft_ex 64 a) 63)) 64 = true := by decide +kernel
theorem ft_od81 : ft_ck (fun a => Nat.beq a 0 || Nat.beq (ft_od 81 a 99 a 1) (80 / Nat.gcd (ft_ex 81 a) 80)) 81 = true := by decide +kernel
theorem ft_odL {q a : Nat} (hq : ft_Q q) (h0 : a ≠ 0) (ha : a < q) : ft_od q a 99 a 1 = (q - 1) / Nat.gcd (ft_ex q a) (q - 1) := by
  rcases hq with rfl | rfl
  · have h := ft_ck_of ft_od64 a ha
    rw [ft_b0 h0, Bool.false_or, Nat.beq_eq] at h
    exact h
  · have h := ft_ck_of ft_od81 a ha
    rw [ft_b0 h0, Bool.false_or, Nat.beq_eq] at h
    exact h
theorem ft_hm64 : ft_ck (fun a => Nat.beq (ft_fs (fun s => cond (Nat.beq (ft_st 64 s) 0) false (Nat.beq (ft_PW 64 a s) a)) 62 2) (ft_hm 64 2 a 5 2)) 64 = true := by decide +kernel
theorem ft_hm81 : ft_ck (fun a => Nat.beq (ft_fs (fun s => cond (Nat.beq (ft_st 81 s) 0) false (Nat.beq (ft_PW 81 a s) a)) 79 2) (ft_hm 81 3 a 5 3)) 81 = true := by decide +kernel
theorem ft_hmL {q p k a : Nat} (hF : ft_F q p k) (ha : a < q) : ft_fs (fun s => cond (Nat.beq (ft_st q s) 0) false (Nat.beq (ft_PW q a s) a)) (q - 2) 2 = ft_hm q p a 5 p := by
  rcases hF with ⟨rfl, rfl, rfl⟩ | ⟨rfl, rfl, rfl⟩
  · exact Nat.eq_of_beq_eq_true (ft_ck_of ft_hm64 a ha)
  · exact Nat.eq_of_beq_eq_true (ft_ck_of ft_hm81 a ha)
/-- logarithms: the divisor, the modulus, the inverse -/
def ft_lm (q e : Nat) : Nat := (q - 1) / Nat.gcd e (q - 1)
def ft_lu (q e : Nat) : Int := ft_iv 20 (ft_lm q e) (e / Nat.gcd e (q - 1) % ft_lm q e) 0 1
def ft_lx (q g a : Nat) : Nat := cond (Nat.beq (ft_ex q a % Nat.gcd (ft_ex q g) (q - 1)) 0) (ft_ex q a / Nat.gcd (ft_ex q g) (q - 1) * (ft_ivr (ft_lm q (ft_ex q g)) (ft_lu q (ft_ex q g))).toNat % ft_lm q (ft_ex q g)) q
theorem ft_lu64 : ft_ck (fun e => decide (-1000 ≤ ft_lu 64 e) && (decide (ft_lu 64 e ≤ 1000) && (decide (0 ≤ ft_lu 64 e + (ft_lm 64 e : Nat)) && decide (ft_ivr (ft_lm 64 e) (ft_lu 64 e) ≤ 1000)))) 63 = true := by decide +kernel
theorem ft_lu81 : ft_ck (fun e => decide (-1000 ≤ ft_lu 81 e) && (decide (ft_lu 81 e ≤ 1000) && (decide (0 ≤ ft_lu 81 e + (ft_lm 81 e : Nat)) && decide (ft_ivr (ft_lm 81 e) (ft_lu 81 e) ≤ 1000)))) 80 = true := by decide +kernel
theorem ft_luL {q e : Nat} (hq : ft_Q q) (he : e < q - 1) : ft_ivok (ft_lm q e) (ft_lu q e) ∧ (ft_ivr (ft_lm q e) (ft_lu q e)).toNat ≤ 1000 := by
  have K : (-1000 ≤ ft_lu q e ∧ ft_lu q e ≤ 1000 ∧ 0 ≤ ft_lu q e + (ft_lm q e : Nat) ∧ ft_ivr (ft_lm q e) (ft_lu q e) ≤ 1000) := by
    rcases hq with rfl | rfl
    · have h := ft_ck_of ft_lu64 e he
      simp only [Bool.and_eq_true, decide_eq_true_eq] at h
      exact h
    · have h := ft_ck_of ft_lu81 e he
      simp only [Bool.and_eq_true, decide_eq_true_eq] at h
      exact h
  exact ⟨⟨K.1, K.2.1, K.2.2.1⟩, by have := K.2.2.2; omega⟩
theorem ft_lg64 : ft_ck (fun g => ft_ck (fun a => Nat.beq g 0 || (Nat.beq a 0 || Nat.beq (ft_lg 64 g a 64 1 0) (ft_lx 64 g a))) 64) 64 = true := by decide +kernel
end
section
/-! the plain laws of logarithm and roots -/
theorem ft_lg81 : ft_ck (fun g => ft_ck (fun a => Nat.beq g 0 || (Nat.beq a 0 || Nat.beq (ft_lg 81 g a 81 1 0) (ft_lx 81 g a))) 81) 81 = true := by decide +kernel
theorem ft_lgL {q g a : Nat} (hq : ft_Q q) (hg0 : g ≠ 0) (h0 : a ≠ 0) (hg : g < q) (ha : a < q) : ft_lg q g a q 1 0 = ft_lx q g a := by
  rcases hq with rfl | rfl
  · have h := ft_ck_of (ft_ck_of ft_lg64 g hg) a ha
    rw [ft_b0 hg0, ft_b0 h0, Bool.false_or, Bool.false_or, Nat.beq_eq] at h
    exact h
  · have h := ft_ck_of (ft_ck_of ft_lg81 g hg) a ha
    rw [ft_b0 hg0, ft_b0 h0, Bool.false_or, Bool.false_or, Nat.beq_eq] at h
    exact h
theorem ft_rc_c {q a n m : Nat} (h : ∀ x, ft_PW q x n = ft_PW q x m) : ∀ t x c, ft_rc q a n t x c = ft_rc q a m t x c := by
  intro t
  induction t with
  | zero => intro x c; rfl
  | succ t ih =>
    intro x c
    show ft_rc q a n t (x + 1) (cond (Nat.beq (ft_PW q x n) a) (c + 1) c) = ft_rc q a m t (x + 1) (cond (Nat.beq (ft_PW q x m) a) (c + 1) c)
    rw [h, ih]
def ft_rcx (q a n : Nat) : Nat := cond (Nat.beq a 0) 1 (cond (Nat.beq (ft_ex q a % Nat.gcd n (q - 1)) 0) (Nat.gcd n (q - 1)) 0)
theorem ft_rc64 : ft_ck (fun m => ft_ck (fun a => Nat.beq (ft_rc 64 a (m + 63) 64 0 0) (ft_rcx 64 a (m + 63))) 64) 63 = true := by decide +kernel
theorem ft_rc81 : ft_ck (fun m => ft_ck (fun a => Nat.beq (ft_rc 81 a (m + 80) 81 0 0) (ft_rcx 81 a (m + 80))) 81) 80 = true := by decide +kernel
theorem ft_rcL {q a n : Nat} (hq : ft_Q q) (hn : n ≠ 0) (ha : a < q) : ft_rc q a n q 0 0 = ft_rcx q a n := by
  have hb := ft_Qb hq
  have hm : n % (q - 1) < q - 1 := Nat.mod_lt _ (by omega)
  have K : ft_rc q a (n % (q - 1) + (q - 1)) q 0 0 = ft_rcx q a (n % (q - 1) + (q - 1)) := by
    rcases hq with rfl | rfl
    · exact Nat.eq_of_beq_eq_true (ft_ck_of (ft_ck_of ft_rc64 _ hm) a ha)
    · exact Nat.eq_of_beq_eq_true (ft_ck_of (ft_ck_of ft_rc81 _ hm) a ha)
  have e1 : ft_rc q a n q 0 0 = ft_rc q a (n % (q - 1) + (q - 1)) q 0 0 := by
    refine ft_rc_c (fun x => ?_) q 0 0
    by_cases h0 : x = 0
    · rw [h0, ft_PWz hn, ft_PWz (by omega)]
    · rw [ft_PWne hq h0, ft_PWne hq h0]
      apply ft_pw_eq
      rw [Nat.mul_mod, Nat.mul_mod (ft_ex q x) (n % (q - 1) + (q - 1)), Nat.add_mod_right, Nat.mod_mod]
  have e2 : Nat.gcd (n % (q - 1) + (q - 1)) (q - 1) = Nat.gcd n (q - 1) := by
    rw [Nat.gcd_comm _ (q - 1), Nat.gcd_rec (q - 1), Nat.add_mod_right, Nat.mod_mod, ← Nat.gcd_rec, Nat.gcd_comm]
  rw [e1, K]
  unfold ft_rcx
  rw [e2]
end
section
/-! what is owed -/
theorem ft_num (x : Int32) : x < 0 ∨ (¬ x < 0 ∧ (1000000 : Int32) < x) ∨ ∃ n : Nat, n ≤ 1000000 ∧ x = nI n := by
  by_cases h0 : x < 0
  · exact Or.inl h0
  · by_cases h1 : (1000000 : Int32) < x
    · exact Or.inr (Or.inl ⟨h0, h1⟩)
    · exact Or.inr (Or.inr (nI_of2 (M := 1000000) (n := 1000000) (by decide) h0 (Int32.not_lt.mp h1)))
theorem ft_num1 (x : Int32) : x < 1 ∨ (¬ x < 1 ∧ ¬ x ≤ 1000000) ∨ ∃ n : Nat, n ≠ 0 ∧ n ≤ 1000000 ∧ x = nI n := by
  by_cases h0 : x < 1
  · exact Or.inl h0
  · by_cases h1 : x ≤ 1000000
    · have h2 : ¬ x < 0 := fun w => h0 (Int32.lt_trans w (by decide))
      obtain ⟨n, hn, rfl⟩ := nI_of2 (M := 1000000) (n := 1000000) (by decide) h2 h1
      refine Or.inr (Or.inr ⟨n, fun w => h0 ?_, hn, rfl⟩)
      rw [w]; decide
    · exact Or.inr (Or.inl ⟨h0, h1⟩)
/-- the relation at the head of a turn: one field, its tables in the component -/
def i_Rel (k : Nat) (u : SX) (v : SY) : Prop := ∃ (q p d : Nat) (A E C D : Nat → Int32), ft_F q p d ∧ ft_T q A E ∧ u = (nI q, nI p, nI d, A, E, C) ∧ v = (nI q, nI p, nI d, D)
theorem i_up {k : Nat} {u : SX} {v : SY} (h : i_Rel k u v) : i_Rel (k + 3) u v := h
theorem ft_rel {q p d : Nat} {A E : Nat → Int32} (k : Nat) (C : Nat → Int32) (hF : ft_F q p d) (hT : ft_T q A E) (D : Nat → Int32) : i_Rel k (nI q, nI p, nI d, A, E, C) (nI q, nI p, nI d, D) := ⟨q, p, d, A, E, C, D, hF, hT, rfl, rfl⟩
theorem ft_F64 : ft_F 64 2 6 := Or.inl ⟨rfl, rfl, rfl⟩
theorem ft_F81 : ft_F 81 3 4 := Or.inr ⟨rfl, rfl, rfl⟩
theorem i_vc0 : wpX_init (fun u => wpY_init (fun v => i_Rel 0 u v)) := by
  unfold wpX_init
  refine ft_xbuild (q := 64) (p := 2) (k := 6) ft_F64 (fun A E C hT => ?_)
  exact ft_rel 0 C ft_F64 hT _
theorem i_vc_use {k : Nat} {u : SX} {v : SY} (I : i_Rel k u v) (hk : k + 3 ≤ 1536) (v1 : Int32) : wpX_use (fun r u' => wpY_use (fun r' v' => r' = r ∧ i_Rel (k + 3) u' v') v v1) u v1 := by
  obtain ⟨q, p, d, A, E, C, D, hF, hT, rfl, rfl⟩ := I
  unfold wpX_use
  dsimp only
  refine br_c (fun e => ?_) (fun n64 => br_c (fun e => ?_) (fun n81 => ?_))
  · subst e
    refine br_t rfl (br_t rfl ?_)
    unfold wX_use_39
    refine ft_xbuild (q := 64) (p := 2) (k := 6) ft_F64 (fun A' E' C' hT' => ?_)
    exact br_t rfl (br_t rfl (br_t rfl ⟨rfl, ft_rel (k + 3) C' ft_F64 hT' D⟩))
  · subst e
    refine br_f (by decide) (br_f (by decide) ?_)
    unfold wX_use_39
    refine ft_xbuild (q := 81) (p := 3) (k := 4) ft_F81 (fun A' E' C' hT' => ?_)
    exact br_f (by decide) (br_t rfl (br_f (by decide) (br_f (by decide) ⟨rfl, ft_rel (k + 3) C' ft_F81 hT' D⟩)))
  · exact br_f n64 (br_f n81 ⟨rfl, ft_rel (k + 3) C hF hT D⟩)
theorem i_vc_add {k : Nat} {u : SX} {v : SY} (I : i_Rel k u v) (hk : k + 3 ≤ 1536) (v1 : Int32) (v2 : Int32) : wpX_add (fun r => wpY_add (fun r' => r' = r ∧ i_Rel (k + 3) u v) v v1 v2) u v1 v2 := by
  obtain ⟨q, p, d, A, E, C, D, hF, hT, rfl, rfl⟩ := I
  have hR := ft_rel (k + 3) C hF hT
  have hq := ft_FQ hF
  have hb := ft_Fb hF
  unfold wpX_add wpY_add
  dsimp only
  rcases ft_arg hq v1 with h1 | ⟨a, ha, rfl⟩
  · exact ft_xel0 h1 (br_t rfl (ft_ybad1 h1 (br_f (by decide) ⟨rfl, hR D⟩)))
  · rcases ft_arg hq v2 with h2 | ⟨b, hb2, rfl⟩
    · exact ft_xel1 hq ha (br_f (by decide) (ft_xel0 h2 (br_t rfl (ft_ybad0 hq ha (br_t rfl (ft_ybad1 h2 (br_f (by decide) ⟨rfl, hR D⟩)))))))
    · exact ft_xel1 hq ha (br_f (by decide) (ft_xel1 hq hb2 (br_f (by decide) (ft_xsum (by omega) (by omega) (by omega) (by omega) (by omega) (ft_ybad0 hq ha (br_t rfl (ft_ybad0 hq hb2 (br_t rfl (ft_ysum (by omega) (by omega) (by omega) (by omega) (by omega) ⟨rfl, hR D⟩)))))))))
theorem i_vc_multiply {k : Nat} {u : SX} {v : SY} (I : i_Rel k u v) (hk : k + 3 ≤ 1536) (v1 : Int32) (v2 : Int32) : wpX_multiply (fun r => wpY_multiply (fun r' v' => r' = r ∧ i_Rel (k + 3) u v') v v1 v2) u v1 v2 := by
  obtain ⟨q, p, d, A, E, C, D, hF, hT, rfl, rfl⟩ := I
  have hR := ft_rel (k + 3) C hF hT
  have hq := ft_FQ hF
  unfold wpX_multiply wpY_multiply
  dsimp only
  rcases ft_arg hq v1 with h1 | ⟨a, ha, rfl⟩
  · exact ft_xel0 h1 (br_t rfl (ft_ybad1 h1 (br_f (by decide) ⟨rfl, hR D⟩)))
  · rcases ft_arg hq v2 with h2 | ⟨b, hb2, rfl⟩
    · exact ft_xel1 hq ha (br_f (by decide) (ft_xel0 h2 (br_t rfl (ft_ybad0 hq ha (br_t rfl (ft_ybad1 h2 (br_f (by decide) ⟨rfl, hR D⟩)))))))
    · exact ft_xel1 hq ha (br_f (by decide) (ft_xel1 hq hb2 (br_f (by decide) (ft_xtimes hF hT ha hb2 (ft_ybad0 hq ha (br_t rfl (ft_ybad0 hq hb2 (br_t rfl (ft_yprod hF ha hb2 (fun D' => ⟨rfl, hR D'⟩))))))))))
theorem i_vc_invert {k : Nat} {u : SX} {v : SY} (I : i_Rel k u v) (hk : k + 3 ≤ 1536) (v1 : Int32) : wpX_invert (fun r => wpY_invert (fun r' v' => r' = r ∧ i_Rel (k + 3) u v') v v1) u v1 := by
  obtain ⟨q, p, d, A, E, C, D, hF, hT, rfl, rfl⟩ := I
  have hR := ft_rel (k + 3) C hF hT
  have hq := ft_FQ hF
  have hb := ft_Qb hq
  unfold wpX_invert wpY_invert
  dsimp only
  rcases ft_arg hq v1 with h1 | ⟨a, ha, rfl⟩
  · exact ft_xel0 h1 (br_t rfl (ft_ybad1 h1 (br_f (by decide) ⟨rfl, hR D⟩)))
  · refine ft_xel1 hq ha (br_f (by decide) (pk_eq a 0 (fun e => ?_) (fun na => ?_)))
    · refine ft_ybad0 hq ha (br_t rfl (ft_yinv hF ha (fun D' => ⟨?_, hR D'⟩) D))
      rw [ft_inL hq ha, e]
      exact ft_ans_q q
    · have xa := ft_exL hq na ha
      have hw := ft_pwL hq (q - 1 - ft_ex q a)
      rw [nI_clamp (n := a) (by omega), hT.2 a na ha, ft_qm1 (by omega), pk_sub (by omega)]
      refine ⟨vp_in_nI (by omega) (by decide), vp_in_nI (by omega) (by decide), ?_⟩
      rw [nI_clamp (n := q - 1 - ft_ex q a) (by omega), hT.1 _ (by omega)]
      refine ft_ybad0 hq ha (br_t rfl (ft_yinv hF ha (fun D' => ⟨?_, hR D'⟩) D))
      rw [ft_inL hq ha, ft_b0 na]
      exact ft_ans_n (Nat.ne_of_lt hw.2.1)
theorem i_vc_power {k : Nat} {u : SX} {v : SY} (I : i_Rel k u v) (hk : k + 3 ≤ 1536) (v1 : Int32) (v2 : Int32) : wpX_power (fun r => wpY_power (fun r' v' => r' = r ∧ i_Rel (k + 3) u v') v v1 v2) u v1 v2 := by
  obtain ⟨q, p, d, A, E, C, D, hF, hT, rfl, rfl⟩ := I
  have hR := ft_rel (k + 3) C hF hT
  have hq := ft_FQ hF
  unfold wpX_power wpY_power
  dsimp only
  rcases ft_arg hq v1 with h1 | ⟨a, ha, rfl⟩
  · exact ft_xel0 h1 (br_t rfl (ft_ybad1 h1 (br_f (by decide) ⟨rfl, hR D⟩)))
  · rcases ft_num v2 with h2 | ⟨h2, h3⟩ | ⟨n, hn, rfl⟩
    · exact ft_xel1 hq ha (br_f (by decide) (br_t h2 (ft_ybad0 hq ha (br_t rfl (br_t h2 ⟨rfl, hR D⟩)))))
    · exact ft_xel1 hq ha (br_f (by decide) (br_f h2 (br_t h3 (ft_ybad0 hq ha (br_t rfl (br_f h2 (br_f (Int32.not_le.mpr h3) ⟨rfl, hR D⟩)))))))
    · have n0 : ¬ nI n < 0 := nI_pos (by omega)
      have n1 : ¬ (1000000 : Int32) < nI n := nI_nlt (a := 1000000) hn (by decide)
      exact ft_xel1 hq ha (br_f (by decide) (br_f n0 (br_f n1 (ft_xpow hF hT ha hn (ft_ybad0 hq ha (br_t rfl (br_f n0 (br_t (Int32.not_lt.mp n1) (ft_yraised hF ha hn (fun D' => ⟨rfl, hR D'⟩))))))))))
theorem i_vc_order {k : Nat} {u : SX} {v : SY} (I : i_Rel k u v) (hk : k + 3 ≤ 1536) (v1 : Int32) : wpX_order (fun r => wpY_order (fun r' v' => r' = r ∧ i_Rel (k + 3) u v') v v1) u v1 := by
  obtain ⟨q, p, d, A, E, C, D, hF, hT, rfl, rfl⟩ := I
  have hR := ft_rel (k + 3) C hF hT
  have hq := ft_FQ hF
  have hb := ft_Qb hq
  unfold wpX_order wpY_order
  dsimp only
  rcases ft_arg hq v1 with h1 | ⟨a, ha, rfl⟩
  · exact ft_xel0 h1 (br_t rfl (ft_ybad1 h1 (br_f (by decide) ⟨rfl, hR D⟩)))
  · refine ft_xel1 hq ha (br_f (by decide) (pk_eq a 0 (fun e => ?_) (fun na => ?_)))
    · subst e
      exact ft_ybad0 hq ha (br_t rfl (br_t rfl ⟨rfl, hR D⟩))
    · have xa := ft_exL hq na ha
      have g0 : 0 < Nat.gcd (ft_ex q a) (q - 1) := Nat.gcd_pos_of_pos_right _ (by omega)
      have g1 : Nat.gcd (ft_ex q a) (q - 1) ≤ q - 1 := Nat.gcd_le_right _ (by omega)
      rw [nI_clamp (n := a) (by omega), hT.2 a na ha, ft_qm1 (by omega)]
      refine ⟨vp_in_nI (by omega) (by decide), ft_xdiv (by omega) (by omega) ?_⟩
      rw [ft_dvL hq]
      refine ⟨nI_ne0 g0 (by omega), ?_⟩
      rw [pk_div (by omega) g0 (by omega)]
      refine ft_ybad0 hq ha (br_t rfl (br_f (nI_ne0 (by omega) (by omega)) (ft_yorder hF ha (fun D' => ⟨?_, hR D'⟩) D)))
      rw [ft_odL hq na ha]
theorem i_vc_root {k : Nat} {u : SX} {v : SY} (I : i_Rel k u v) (hk : k + 3 ≤ 1536) (v1 : Int32) : wpX_root (fun r => wpY_root (fun r' v' => r' = r ∧ i_Rel (k + 3) u v') v v1) u v1 := by
  obtain ⟨q, p, d, A, E, C, D, hF, hT, rfl, rfl⟩ := I
  have hR := ft_rel (k + 3) C hF hT
  have hq := ft_FQ hF
  have hb := ft_Qb hq
  unfold wpX_root wpY_root
  dsimp only
  rcases ft_arg hq v1 with h1 | ⟨a, ha, rfl⟩
  · exact ft_xel0 h1 (br_t rfl (ft_ybad1 h1 (br_f (by decide) ⟨rfl, hR D⟩)))
  · have Y : ∀ r : Int32, ft_ans q (ft_rx q a) = r → wpY_bad (fun r_1 => ((r_1 = 0 → ∃ n12 : Nat, wY_root_12 (fun r' v' => r' = r ∧ i_Rel (k + 3) (nI q, nI p, nI d, A, E, C) v') (nI a) n12 0 (nI q) (nI p) (nI d) D) ∧ (¬ r_1 = 0 → -1 = r ∧ i_Rel (k + 3) (nI q, nI p, nI d, A, E, C) (nI q, nI p, nI d, D)))) (nI q, nI p, nI d, D) (nI a) := by
      intro r hr
      refine ft_ybad0 hq ha (br_t rfl (ft_yroot hF ha (fun D' => ⟨?_, hR D'⟩) D))
      rw [ft_roL hq ha]
      exact hr
    refine ft_xel1 hq ha (br_f (by decide) (pk_eq a 0 (fun e => Y 0 ?_) (fun na => ?_)))
    · rw [e]
      exact ft_ans_n (r := 0) (by omega)
    · have xa := ft_exL hq na ha
      refine ⟨vp_in_nI (by omega) (by decide), nm_r (e' := nI (ft_ex q a)) (by rw [nI_clamp (by omega), hT.2 a na ha]) ?_⟩
      rcases hF with ⟨rfl, rfl, rfl⟩ | ⟨rfl, rfl, rfl⟩
      · have e1 : nI (ft_ex 64 a) * 32 - nI (ft_ex 64 a) * 32 / 63 * 63 = nI (ft_ex 64 a * 32 % 63) := by
          show nI (ft_ex 64 a) * nI 32 - nI (ft_ex 64 a) * nI 32 / nI 63 * nI 63 = _
          rw [pk_mul, pk_rem (by omega) (by decide) (by decide)]
        have hr : ft_ex 64 a * 32 % 63 < 63 := Nat.mod_lt _ (by decide)
        have hw := ft_pwL hq (ft_ex 64 a * 32 % 63)
        rw [e1]
        refine br_t rfl ⟨by decide, vp_in_nI (by omega) (by decide), ?_⟩
        rw [nI_clamp (by omega), hT.1 _ (by omega)]
        refine Y _ ?_
        unfold ft_rx
        rw [ft_b0 na]
        exact ft_ans_n (Nat.ne_of_lt hw.2.1)
      · have e1 : nI (ft_ex 81 a) &&& 1 = nI (ft_ex 81 a % 2) := pk_andN (by omega) (m := 1) 1 (by decide)
        have e2 : nI (ft_ex 81 a) / 2 = nI (ft_ex 81 a / 2) := pk_div (d := 2) (by omega) (by decide) (by decide)
        have e3 : nI (ft_ex 81 a / 2) + 40 = nI (ft_ex 81 a / 2 + 40) := nI_add _ 40
        have w1 := ft_pwL hq (ft_ex 81 a / 2)
        have w2 := ft_pwL hq (ft_ex 81 a / 2 + 40)
        rw [e1, e2, e3]
        refine br_f (by decide) (pk_eq (ft_ex 81 a % 2) 0 (fun z => ?_) (fun z => ?_))
        · refine ⟨by decide, vp_in_nI (by omega) (by decide), nm_r (e' := nI (ft_pw 81 (ft_ex 81 a / 2))) (by rw [nI_clamp (by omega), hT.1 _ (by omega)]) ⟨by decide, vp_in_nI (by omega) (by decide), nm_r (e' := nI (ft_pw 81 (ft_ex 81 a / 2 + 40))) (by rw [nI_clamp (by omega), hT.1 _ (by omega)]) (pk_le (ft_pw 81 (ft_ex 81 a / 2 + 40)) (ft_pw 81 (ft_ex 81 a / 2)) (fun c => Y _ ?_) (fun c => Y _ ?_))⟩⟩
          · unfold ft_rx
            rw [ft_b0 na, z, show Nat.ble (ft_pw 81 (ft_ex 81 a / 2 + 40)) (ft_pw 81 (ft_ex 81 a / 2)) = true by rw [Nat.ble_eq]; exact c]
            exact ft_ans_n (Nat.ne_of_lt w2.2.1)
          · unfold ft_rx
            rw [ft_b0 na, z, show Nat.ble (ft_pw 81 (ft_ex 81 a / 2 + 40)) (ft_pw 81 (ft_ex 81 a / 2)) = false by rw [Bool.eq_false_iff]; intro w; rw [Nat.ble_eq] at w; omega]
            exact ft_ans_n (Nat.ne_of_lt w1.2.1)
        · refine Y _ ?_
          unfold ft_rx
          rw [ft_b0 na, ft_beqF z]
          exact ft_ans_q 81
theorem i_vc_roots {k : Nat} {u : SX} {v : SY} (I : i_Rel k u v) (hk : k + 3 ≤ 1536) (v1 : Int32) (v2 : Int32) : wpX_roots (fun r => wpY_roots (fun r' v' => r' = r ∧ i_Rel (k + 3) u v') v v1 v2) u v1 v2 := by
  obtain ⟨q, p, d, A, E, C, D, hF, hT, rfl, rfl⟩ := I
  have hR := ft_rel (k + 3) C hF hT
  have hq := ft_FQ hF
  have hb := ft_Qb hq
  unfold wpX_roots wpY_roots
  dsimp only
  rcases ft_arg hq v1 with h1 | ⟨a, ha, rfl⟩
  · exact ft_xel0 h1 (br_t rfl (ft_ybad1 h1 (br_f (by decide) ⟨rfl, hR D⟩)))
  · rcases ft_num1 v2 with h2 | ⟨h2, h3⟩ | ⟨n, hn0, hn, rfl⟩
    · exact ft_xel1 hq ha (br_f (by decide) (br_t h2 (ft_ybad0 hq ha (br_t rfl (br_t h2 ⟨rfl, hR D⟩)))))
    · exact ft_xel1 hq ha (br_f (by decide) (br_f h2 (br_f h3 (ft_ybad0 hq ha (br_t rfl (br_f h2 (br_f h3 ⟨rfl, hR D⟩)))))))
    · have n0 : ¬ nI n < 1 := nI_nlt (b := 1) (by omega) (by omega)
      have n1 : nI n ≤ 1000000 := nI_le (b := 1000000) hn (by decide)
      have hL := ft_rcL hq hn0 ha
      refine ft_xel1 hq ha (br_f (by decide) (br_f n0 (br_t n1 (pk_eq a 0 (fun e => ?_) (fun na => ?_)))))
      · refine ft_ybad0 hq ha (br_t rfl (br_f n0 (br_t n1 (ft_yroots hF ha hn (fun D' => ⟨?_, hR D'⟩) D))))
        rw [hL, e]
        rfl
      · have xa := ft_exL hq na ha
        have g0 : 0 < Nat.gcd n (q - 1) := Nat.gcd_pos_of_pos_right _ (by omega)
        have g1 : Nat.gcd n (q - 1) ≤ q - 1 := Nat.gcd_le_right _ (by omega)
        have hm : ft_ex q a % Nat.gcd n (q - 1) ≤ ft_ex q a := Nat.mod_le _ _
        rw [ft_qm1 (by omega)]
        refine ft_xdiv (by omega) (by omega) ?_
        rw [ft_dvL hq, nI_clamp (n := a) (by omega), hT.2 a na ha, pk_rem (by omega) g0 (by omega)]
        refine ⟨vp_in_nI (by omega) (by decide), nI_ne0 g0 (by omega), pk_eq (ft_ex q a % Nat.gcd n (q - 1)) 0 (fun z => ?_) (fun z => ?_)⟩
        · refine ft_ybad0 hq ha (br_t rfl (br_f n0 (br_t n1 (ft_yroots hF ha hn (fun D' => ⟨?_, hR D'⟩) D))))
          rw [hL]
          unfold ft_rcx
          rw [ft_b0 na, ft_beqT z]
          rfl
        · refine ft_ybad0 hq ha (br_t rfl (br_f n0 (br_t n1 (ft_yroots hF ha hn (fun D' => ⟨?_, hR D'⟩) D))))
          rw [hL]
          unfold ft_rcx
          rw [ft_b0 na, ft_beqF z]
          rfl
theorem i_vc_trace {k : Nat} {u : SX} {v : SY} (I : i_Rel k u v) (hk : k + 3 ≤ 1536) (v1 : Int32) (v2 : Int32) : wpX_trace (fun r => wpY_trace (fun r' v' => r' = r ∧ i_Rel (k + 3) u v') v v1 v2) u v1 v2 := by
  obtain ⟨q, p, d, A, E, C, D, hF, hT, rfl, rfl⟩ := I
  have hR := ft_rel (k + 3) C hF hT
  have hq := ft_FQ hF
  unfold wpX_trace wpY_trace
  dsimp only
  rcases ft_arg hq v1 with h1 | ⟨a, ha, rfl⟩
  · exact ft_xel0 h1 (br_t rfl (ft_ybad1 h1 (br_f (by decide) ⟨rfl, hR D⟩)))
  · rcases ft_fcase q v2 with h2 | ⟨s, hs, hs0, rfl⟩
    · exact ft_xel1 hq ha (br_f (by decide) (ft_xfld0 hF h2 (br_t rfl (ft_ybad0 hq ha (br_t rfl (ft_ysteps0 hq h2 (br_t rfl ⟨rfl, hR D⟩)))))))
    · have hst : ft_st q s ≤ 6 := ft_st_le
      refine ft_xel1 hq ha (br_f (by decide) (ft_xfld hF (by omega) (fun _ => br_f (by decide) (ft_xtrace hF hT ha hs0 ?_)) (fun z => absurd z hs0)))
      exact ft_ybad0 hq ha (br_t rfl (ft_ysteps hq (by omega) (br_f (nI_ne0 (by omega) (by omega)) (ft_ytrace hF ha hs (fun D' => ⟨rfl, hR D'⟩) D))))
theorem i_vc_home {k : Nat} {u : SX} {v : SY} (I : i_Rel k u v) (hk : k + 3 ≤ 1536) (v1 : Int32) : wpX_home (fun r => wpY_home (fun r' v' => r' = r ∧ i_Rel (k + 3) u v') v v1) u v1 := by
  obtain ⟨q, p, d, A, E, C, D, hF, hT, rfl, rfl⟩ := I
  have hR := ft_rel (k + 3) C hF hT
  have hq := ft_FQ hF
  unfold wpX_home wpY_home
  dsimp only
  rcases ft_arg hq v1 with h1 | ⟨a, ha, rfl⟩
  · exact ft_xel0 h1 (br_t rfl (ft_ybad1 h1 (br_f (by decide) ⟨rfl, hR D⟩)))
  · refine ft_xel1 hq ha (br_f (by decide) (ft_xhome hF hT ha ?_))
    refine ft_ybad0 hq ha (br_t rfl (ft_yhome hF ha (fun D' => ⟨?_, hR D'⟩) D))
    rw [ft_hmL hF ha]
theorem i_vc_logarithm {k : Nat} {u : SX} {v : SY} (I : i_Rel k u v) (hk : k + 3 ≤ 1536) (v1 : Int32) (v2 : Int32) : wpX_logarithm (fun r => wpY_logarithm (fun r' v' => r' = r ∧ i_Rel (k + 3) u v') v v1 v2) u v1 v2 := by
  obtain ⟨q, p, d, A, E, C, D, hF, hT, rfl, rfl⟩ := I
  have hR := ft_rel (k + 3) C hF hT
  have hq := ft_FQ hF
  have hb := ft_Qb hq
  unfold wpX_logarithm wpY_logarithm
  dsimp only
  rcases ft_arg hq v1 with h1 | ⟨g, hg, rfl⟩
  · exact ft_xel0 h1 (br_t rfl (ft_ybad1 h1 (br_f (by decide) ⟨rfl, hR D⟩)))
  · rcases ft_arg hq v2 with h2 | ⟨a, ha, rfl⟩
    · exact ft_xel1 hq hg (br_f (by decide) (ft_xel0 h2 (br_t rfl (ft_ybad0 hq hg (br_t rfl (ft_ybad1 h2 (br_f (by decide) ⟨rfl, hR D⟩)))))))
    · refine ft_xel1 hq hg (br_f (by decide) (ft_xel1 hq ha (br_f (by decide) (pk_eq g 0 (fun e => ?_) (fun ng => pk_eq a 0 (fun e => ?_) (fun na => ?_))))))
      · subst e
        exact ft_ybad0 hq hg (br_t rfl (ft_ybad0 hq ha (br_t rfl (br_t rfl ⟨rfl, hR D⟩))))
      · subst e
        exact ft_ybad0 hq hg (br_t rfl (ft_ybad0 hq ha (br_t rfl (br_f (nI_ne0 (by omega) (by omega)) (br_t rfl ⟨rfl, hR D⟩)))))
      · have xg := ft_exL hq ng hg
        have xa := ft_exL hq na ha
        have zg : ¬ nI g = 0 := nI_ne0 (by omega) (by omega)
        have za : ¬ nI a = 0 := nI_ne0 (by omega) (by omega)
        have hL := ft_lgL hq ng na hg ha
        have hU := ft_luL hq xg.2
        have g0 : 0 < Nat.gcd (ft_ex q g) (q - 1) := Nat.gcd_pos_of_pos_right _ (by omega)
        have g1 : Nat.gcd (ft_ex q g) (q - 1) ≤ q - 1 := Nat.gcd_le_right _ (by omega)
        have m0 : 0 < ft_lm q (ft_ex q g) := Nat.div_pos g1 g0
        have m1 : ft_lm q (ft_ex q g) ≤ q - 1 := Nat.div_le_self _ _
        have hm : ft_ex q a % Nat.gcd (ft_ex q g) (q - 1) ≤ ft_ex q a := Nat.mod_le _ _
        have hd1 : ft_ex q a / Nat.gcd (ft_ex q g) (q - 1) ≤ ft_ex q a := Nat.div_le_self _ _
        have hd2 : ft_ex q g / Nat.gcd (ft_ex q g) (q - 1) ≤ ft_ex q g := Nat.div_le_self _ _
        have ia : vp_in (nI a) 81 := vp_in_nI (by omega) (by decide)
        have ig : vp_in (nI g) 81 := vp_in_nI (by omega) (by decide)
        have zd : ¬ nI (Nat.gcd (ft_ex q g) (q - 1)) = 0 := nI_ne0 g0 (by omega)
        have em : nI (q - 1) / nI (Nat.gcd (ft_ex q g) (q - 1)) = nI (ft_lm q (ft_ex q g)) := pk_div (by omega) g0 (by omega)
        rw [nI_clamp (n := g) (by omega), hT.2 g ng hg, nI_clamp (n := a) (by omega), hT.2 a na ha, ft_qm1 (by omega)]
        refine ⟨ig, ft_xdiv (by omega) (by omega) ?_⟩
        rw [ft_dvL hq, pk_rem (by omega) g0 (by omega)]
        refine ⟨ia, zd, pk_eq (ft_ex q a % Nat.gcd (ft_ex q g) (q - 1)) 0 (fun z => ⟨zd, nm_r em ⟨ig, zd, ?_⟩⟩) (fun z => ?_)⟩
        · rw [pk_div (by omega) g0 (by omega), pk_div (by omega) g0 (by omega)]
          refine ft_xinv (by omega) m0 (by omega) hU.1 ⟨ia, zd, nI_ne0 m0 (by omega), ?_⟩
          have hp : ft_ex q a / Nat.gcd (ft_ex q g) (q - 1) * (ft_ivr (ft_lm q (ft_ex q g)) (ft_lu q (ft_ex q g))).toNat ≤ 81 * 1000 := Nat.mul_le_mul (by omega) hU.2
          have hr : ft_ex q a / Nat.gcd (ft_ex q g) (q - 1) * (ft_ivr (ft_lm q (ft_ex q g)) (ft_lu q (ft_ex q g))).toNat % ft_lm q (ft_ex q g) < ft_lm q (ft_ex q g) := Nat.mod_lt _ m0
          show wpY_bad _ _ _
          refine ft_ybad0 hq hg (br_t rfl (ft_ybad0 hq ha (br_t rfl (br_f zg (br_f za (ft_ylog hF hg ha (fun D' => ⟨?_, hR D'⟩) D))))))
          rw [hL]
          unfold ft_lx
          rw [ft_beqT z]
          show ft_ans q (ft_ex q a / Nat.gcd (ft_ex q g) (q - 1) * (ft_ivr (ft_lm q (ft_ex q g)) (ft_lu q (ft_ex q g))).toNat % ft_lm q (ft_ex q g)) = nI (ft_ex q a / Nat.gcd (ft_ex q g) (q - 1)) * nI (ft_ivr (ft_lm q (ft_ex q g)) (ft_lu q (ft_ex q g))).toNat - nI (ft_ex q a / Nat.gcd (ft_ex q g) (q - 1)) * nI (ft_ivr (ft_lm q (ft_ex q g)) (ft_lu q (ft_ex q g))).toNat / nI (ft_lm q (ft_ex q g)) * nI (ft_lm q (ft_ex q g))
          rw [ft_ans_n (by omega), pk_mul, pk_rem (by omega) m0 (by omega)]
        · refine ft_ybad0 hq hg (br_t rfl (ft_ybad0 hq ha (br_t rfl (br_f zg (br_f za (ft_ylog hF hg ha (fun D' => ⟨?_, hR D'⟩) D))))))
          rw [hL]
          unfold ft_lx
          rw [ft_beqF z]
          exact ft_ans_q q
end
