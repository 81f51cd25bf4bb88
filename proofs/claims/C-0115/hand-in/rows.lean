section
/-! rows pasted out of kit/rows (PURE-ROWS, BITS): pk_*, nx_and, s_l -/
theorem pk_us {f : Nat → Int32} {k : Nat} {x : Int32} : upd f k x k = x := if_pos rfl
theorem pk_un {f : Nat → Int32} {k j : Nat} {x : Int32} (h : j ≠ k) : upd f k x j = f j := if_neg h
theorem pk_sub {a b : Nat} (h : b ≤ a) : nI a - nI b = nI (a - b) := by
  obtain ⟨c, rfl⟩ : ∃ c, a = c + b := ⟨a - b, by omega⟩
  rw [← nI_add, Int32.add_sub_cancel, Nat.add_sub_cancel]
theorem pk_m1 (n : Nat) : nI (n + 1) + (-1) = nI n := by
  rw [← nI_1, Int32.add_assoc, show (1 : Int32) + (-1) = 0 from rfl, Int32.add_zero]
theorem pk_mul (a b : Nat) : nI a * nI b = nI (a * b) := (Int32.ofNat_mul a b).symm
theorem pk_le {x y : Int32} {A B : Prop} (a b : Nat) (f : a ≤ b → A) (g : b < a → B) (hx : x = nI a := by rfl) (hy : y = nI b := by rfl) (ha : a < 2 ^ 31 := by omega) (hb : b < 2 ^ 31 := by omega) : (x ≤ y → A) ∧ (¬ x ≤ y → B) := by
  subst hx hy
  rw [nI_leI ha hb]
  exact ⟨f, fun z => g (by omega)⟩
theorem pk_lt {x y : Int32} {A B : Prop} (a b : Nat) (f : a < b → A) (g : b ≤ a → B) (hx : x = nI a := by rfl) (hy : y = nI b := by rfl) (ha : a < 2 ^ 31 := by omega) (hb : b < 2 ^ 31 := by omega) : (x < y → A) ∧ (¬ x < y → B) := by
  subst hx hy
  rw [nI_ltI ha hb]
  exact ⟨f, fun z => g (by omega)⟩
theorem pk_eq {x y : Int32} {A B : Prop} (a b : Nat) (f : a = b → A) (g : a ≠ b → B) (hx : x = nI a := by rfl) (hy : y = nI b := by rfl) (ha : a < 2 ^ 31 := by omega) (hb : b < 2 ^ 31 := by omega) : (x = y → A) ∧ (¬ x = y → B) := by
  subst hx hy
  rw [nI_eq ha hb]
  exact ⟨f, g⟩
theorem pk_in {x : Int32} (n N : Nat) (h : n < N) (hx : x = nI n := by rfl) (hN : N < 2 ^ 31 := by omega) : vp_in x N := by
  subst hx
  exact vp_in_nI h hN
theorem pk_cl {x : Int32} (n : Nat) (hx : x = nI n := by rfl) (h : n < 2 ^ 31 := by omega) : x.toNatClampNeg = n := by
  subst hx
  exact nI_clamp h
theorem pk_tn {n : Nat} (h : n < 2 ^ 32) : (nI n).toBitVec.toNat = n := Nat.mod_eq_of_lt h
theorem nx_and (a b : Nat) : nI a &&& nI b = nI (a &&& b) := by
  apply Int32.toBitVec_inj.1
  show BitVec.ofNat 32 a &&& BitVec.ofNat 32 b = BitVec.ofNat 32 (a &&& b)
  apply BitVec.eq_of_getLsbD_eq
  intro i hi
  simp [hi]
theorem s_l : ∀ n, n < 32 → ((nI n &&& 31).toBitVec.smod 32).toNat = n := by decide +kernel
theorem pk_shl (a s : Int32) (k : Nat) (hs : (s.toBitVec.smod 32).toNat = k) : (a <<< s).toBitVec.toNat = a.toBitVec.toNat * 2 ^ k % 2 ^ 32 := by
  show (a.toBitVec <<< (s.toBitVec.smod 32).toNat).toNat = _
  rw [hs, BitVec.toNat_shiftLeft, Nat.shiftLeft_eq]
theorem pk_shlN {n : Nat} (s : Int32) (k : Nat) (hs : (s.toBitVec.smod 32).toNat = k) (h : n * 2 ^ k < 2 ^ 32) : nI n <<< s = nI (n * 2 ^ k) := by
  apply Int32.toBitVec_inj.mp
  apply BitVec.eq_of_toNat_eq
  have hn : n < 2 ^ 32 := Nat.lt_of_le_of_lt (Nat.le_mul_of_pos_right n (Nat.two_pow_pos k)) h
  rw [pk_shl _ _ k hs, pk_tn hn, pk_tn h, Nat.mod_eq_of_lt h]
theorem pk_shr (a s : Int32) (k : Nat) (hs : (s.toBitVec.smod 32).toNat = k) : (a >>> s).toInt = a.toInt >>> k := by
  show (a.toBitVec.sshiftRight (s.toBitVec.smod 32).toNat).toInt = _
  rw [hs, BitVec.toInt_sshiftRight]
  rfl
theorem pk_shrN {n : Nat} (h : n < 2 ^ 31) (s : Int32) (k : Nat) (hs : (s.toBitVec.smod 32).toNat = k) : nI n >>> s = nI (n / 2 ^ k) := by
  apply Int32.toInt_inj.mp
  have h2 : n / 2 ^ k ≤ n := Nat.div_le_self _ _
  rw [pk_shr _ _ k hs, nI_toInt h, nI_toInt (by omega), Int.shiftRight_eq_div_pow]
  rfl
theorem pk_and (x : Int32) {m : Int32} (k : Nat) (hm : m.toBitVec.toNat = 2 ^ k - 1) : x &&& m = nI (x.toBitVec.toNat % 2 ^ k) := by
  apply Int32.toBitVec_inj.mp
  apply BitVec.eq_of_toNat_eq
  rw [Int32.toBitVec_and, BitVec.toNat_and, hm, Nat.and_two_pow_sub_one_eq_mod]
  show _ = (BitVec.ofNat 32 _).toNat
  rw [BitVec.toNat_ofNat]
  exact (Nat.mod_eq_of_lt (Nat.lt_of_le_of_lt (Nat.mod_le _ _) x.toBitVec.isLt)).symm
theorem pk_andN {n : Nat} (h : n < 2 ^ 32) {m : Int32} (k : Nat) (hm : m.toBitVec.toNat = 2 ^ k - 1) : nI n &&& m = nI (n % 2 ^ k) := by
  rw [pk_and _ k hm, pk_tn h]
/-! own rows: ints of any sign, mg_z z = Int32.ofInt z -/
def mg_z (z : Int) : Int32 := Int32.ofInt z
theorem mg_z_add (a b : Int) : mg_z a + mg_z b = mg_z (a + b) := (Int32.ofInt_add a b).symm
theorem mg_z_sub (a b : Int) : mg_z a - mg_z b = mg_z (a - b) := (Int32.ofInt_sub a b).symm
theorem mg_z_mul (a b : Int) : mg_z a * mg_z b = mg_z (a * b) := (Int32.ofInt_mul a b).symm
theorem mg_z_neg (a : Int) : - mg_z a = mg_z (-a) := (Int32.ofInt_neg a).symm
theorem mg_z_nI (n : Nat) : nI n = mg_z (n : Int) := (Int32.ofInt_eq_ofNat (n := n)).symm
theorem mg_z_toInt {a : Int} (h : -2147483648 ≤ a) (h' : a < 2147483648) : (mg_z a).toInt = a := Int32.toInt_ofInt_of_le (by omega) (by omega)
theorem mg_z_of (x : Int32) : x = mg_z x.toInt := (Int32.ofInt_toInt x).symm
theorem mg_z_le {a b : Int} (ha : -2147483648 ≤ a ∧ a < 2147483648) (hb : -2147483648 ≤ b ∧ b < 2147483648) : mg_z a ≤ mg_z b ↔ a ≤ b := by
  rw [Int32.le_iff_toInt_le, mg_z_toInt ha.1 ha.2, mg_z_toInt hb.1 hb.2]
theorem mg_z_lt {a b : Int} (ha : -2147483648 ≤ a ∧ a < 2147483648) (hb : -2147483648 ≤ b ∧ b < 2147483648) : mg_z a < mg_z b ↔ a < b := by
  rw [Int32.lt_iff_toInt_lt, mg_z_toInt ha.1 ha.2, mg_z_toInt hb.1 hb.2]
theorem mg_z_eq {a b : Int} (ha : -2147483648 ≤ a ∧ a < 2147483648) (hb : -2147483648 ≤ b ∧ b < 2147483648) : mg_z a = mg_z b ↔ a = b := by
  rw [← Int32.toInt_inj, mg_z_toInt ha.1 ha.2, mg_z_toInt hb.1 hb.2]
theorem mg_z_div {a b : Int} (ha : -2147483647 ≤ a ∧ a < 2147483648) (hb : -2147483648 ≤ b ∧ b < 2147483648) : mg_z a / mg_z b = mg_z (a.tdiv b) := by
  apply Int32.toInt_inj.mp
  have hne : mg_z a ≠ Int32.minValue := by
    intro z
    have := congrArg Int32.toInt z
    rw [mg_z_toInt (by omega) ha.2, Int32.toInt_minValue] at this
    omega
  rw [Int32.toInt_div_of_ne_left _ _ hne, mg_z_toInt (by omega) ha.2, mg_z_toInt hb.1 hb.2]
  have h1 : (a.tdiv b).natAbs ≤ a.natAbs := Int.natAbs_tdiv_le_natAbs a b
  exact (mg_z_toInt (by omega) (by omega)).symm
theorem mg_b_le {x y : Int32} {A B : Prop} (a b : Int) (f : a ≤ b → A) (g : b < a → B) (hx : x = mg_z a := by rfl) (hy : y = mg_z b := by rfl) (ha : -2147483648 ≤ a ∧ a < 2147483648 := by omega) (hb : -2147483648 ≤ b ∧ b < 2147483648 := by omega) : (x ≤ y → A) ∧ (¬ x ≤ y → B) := by
  subst hx hy
  rw [mg_z_le ha hb]
  exact ⟨f, fun z => g (by omega)⟩
theorem mg_b_lt {x y : Int32} {A B : Prop} (a b : Int) (f : a < b → A) (g : b ≤ a → B) (hx : x = mg_z a := by rfl) (hy : y = mg_z b := by rfl) (ha : -2147483648 ≤ a ∧ a < 2147483648 := by omega) (hb : -2147483648 ≤ b ∧ b < 2147483648 := by omega) : (x < y → A) ∧ (¬ x < y → B) := by
  subst hx hy
  rw [mg_z_lt ha hb]
  exact ⟨f, fun z => g (by omega)⟩
theorem mg_b_eq {x y : Int32} {A B : Prop} (a b : Int) (f : a = b → A) (g : a ≠ b → B) (hx : x = mg_z a := by rfl) (hy : y = mg_z b := by rfl) (ha : -2147483648 ≤ a ∧ a < 2147483648 := by omega) (hb : -2147483648 ≤ b ∧ b < 2147483648 := by omega) : (x = y → A) ∧ (¬ x = y → B) := by
  subst hx hy
  rw [mg_z_eq ha hb]
  exact ⟨f, g⟩
theorem nx_or (a b : Nat) : nI a ||| nI b = nI (a ||| b) := by
  apply Int32.toBitVec_inj.1
  show BitVec.ofNat 32 a ||| BitVec.ofNat 32 b = BitVec.ofNat 32 (a ||| b)
  apply BitVec.eq_of_getLsbD_eq
  intro i hi
  simp [hi]
/-- digit q of j -/
def mg_dg (j q : Nat) : Nat := if j.testBit q = true then 1 else 0
theorem mg_dg_lt (j : Nat) : ∀ q, mg_dg j q < 2 := by
  intro q
  unfold mg_dg
  by_cases h : j.testBit q = true
  · rw [if_pos h]; decide
  · rw [if_neg h]; decide
theorem mg_dg_div (j q : Nat) : mg_dg j q = j / 2 ^ q % 2 := by
  unfold mg_dg
  rw [Nat.testBit_eq_decide_div_mod_eq]
  by_cases h : j / 2 ^ q % 2 = 1
  · rw [if_pos (decide_eq_true h), h]
  · rw [if_neg (fun z => h (of_decide_eq_true z))]
    omega
theorem mg_bit {j q : Nat} (hj : j < 2 ^ 31) (hq : q < 32) : (nI j >>> (nI q &&& 31)) &&& 1 = nI (mg_dg j q) := by
  rw [pk_shrN hj _ q (s_l q hq), pk_andN (Nat.lt_of_le_of_lt (Nat.div_le_self _ _) (by omega)) 1 (by decide), mg_dg_div]
theorem mg_one {q : Nat} (hq : q < 31) : (1 : Int32) <<< (nI q &&& 31) = nI (2 ^ q) := by
  have h := pk_shlN (n := 1) (nI q &&& 31) q (s_l q (by omega)) (by rw [Nat.one_mul]; exact Nat.pow_lt_pow_right (by decide) (by omega))
  rw [Nat.one_mul] at h
  exact h
theorem mg_notin : ∀ a, a < 32 → ∀ b, b < 32 → ((nI a &&& (nI b ^^^ (-1))) = 0 ↔ (nI a &&& nI b) = nI a) := by decide +kernel
theorem pk_least (P : Nat → Prop) (h : ∃ k, P k) : ∃ k, P k ∧ ∀ j, j < k → ¬ P j := by
  obtain ⟨k, hk⟩ := h
  induction k using Nat.strongRecOn with
  | ind k ih =>
    by_cases e : ∃ j, j < k ∧ P j
    · obtain ⟨j, hj, pj⟩ := e
      exact ih j hj pj
    · exact ⟨k, hk, fun j hj pj => e ⟨j, hj, pj⟩⟩
end
section
/-! mean payoff games, pure: iteration, pigeonhole, potentials, determinacy -/
def mg_it (f : Nat → Nat) : Nat → Nat → Nat
  | 0, p => p
  | k + 1, p => mg_it f k (f p)
theorem mg_it_add (f : Nat → Nat) (a b : Nat) : ∀ p, mg_it f (a + b) p = mg_it f b (mg_it f a p) := by
  induction a with
  | zero => intro p; rw [Nat.zero_add]; rfl
  | succ a ih => intro p; rw [Nat.add_right_comm]; exact ih (f p)
theorem mg_it_lt {f : Nat → Nat} {n : Nat} (hf : ∀ p, p < n → f p < n) (k : Nat) : ∀ p, p < n → mg_it f k p < n := by
  induction k with
  | zero => intro p hp; exact hp
  | succ k ih => intro p hp; exact ih (f p) (hf p hp)
theorem mg_it_mul (f : Nat → Nat) (L z : Nat) (h : mg_it f L z = z) (k : Nat) : mg_it f (L * k) z = z := by
  induction k with
  | zero => rfl
  | succ k ih => rw [Nat.mul_succ, mg_it_add, ih, h]
/-- n + 1 numbers below n: two are the same -/
theorem mg_pig : ∀ (n : Nat) (g : Nat → Nat), (∀ i, i ≤ n → g i < n) → ∃ i j, i < j ∧ j ≤ n ∧ g i = g j := by
  intro n
  induction n with
  | zero => intro g h; exact absurd (h 0 (Nat.le_refl 0)) (Nat.not_lt_zero _)
  | succ n ih =>
    intro g h
    by_cases hx : ∃ i, i ≤ n ∧ g i = g (n + 1)
    · obtain ⟨i, hi, e⟩ := hx
      exact ⟨i, n + 1, by omega, Nat.le_refl _, e⟩
    · have hne : ∀ i, i ≤ n → g i ≠ g (n + 1) := fun i hi e => hx ⟨i, hi, e⟩
      have hl : ∀ i, i ≤ n → (if g (n + 1) < g i then g i - 1 else g i) < n := by
        intro i hi
        have h1 := h i (by omega)
        have h2 := hne i hi
        have h3 := h (n + 1) (Nat.le_refl _)
        by_cases c : g (n + 1) < g i
        · rw [if_pos c]; omega
        · rw [if_neg c]; omega
      obtain ⟨i, j, hij, hj, e⟩ := ih (fun i => if g (n + 1) < g i then g i - 1 else g i) hl
      have h1 := hne i (by omega)
      have h2 := hne j hj
      have e' : (if g (n + 1) < g i then g i - 1 else g i) = (if g (n + 1) < g j then g j - 1 else g j) := e
      refine ⟨i, j, hij, by omega, ?_⟩
      by_cases c : g (n + 1) < g i
      · by_cases d : g (n + 1) < g j
        · rw [if_pos c, if_pos d] at e'; omega
        · rw [if_pos c, if_neg d] at e'; omega
      · by_cases d : g (n + 1) < g j
        · rw [if_neg c, if_pos d] at e'; omega
        · rw [if_neg c, if_neg d] at e'; omega
theorem mg_per {f : Nat → Nat} {n : Nat} (hf : ∀ p, p < n → f p < n) (hn : n ≤ 5) {p : Nat} (hp : p < n) : ∃ L, 1 ≤ L ∧ L ≤ n ∧ mg_it f L (mg_it f 5 p) = mg_it f 5 p := by
  obtain ⟨i, j, hij, hj, e⟩ := mg_pig n (fun i => mg_it f i p) (fun i _ => mg_it_lt hf i p hp)
  have e' : mg_it f i p = mg_it f j p := e
  refine ⟨j - i, by omega, by omega, ?_⟩
  have e1 : mg_it f (j - i) (mg_it f 5 p) = mg_it f (5 - i) (mg_it f j p) := by
    rw [← mg_it_add, ← mg_it_add, show 5 + (j - i) = j + (5 - i) from by omega]
  rw [e1, ← e', ← mg_it_add, show i + (5 - i) = 5 from by omega]
theorem mg_60 {f : Nat → Nat} {n : Nat} (hf : ∀ p, p < n → f p < n) (hn : n ≤ 5) {p : Nat} (hp : p < n) : mg_it f 60 (mg_it f 5 p) = mg_it f 5 p := by
  obtain ⟨L, h1, h2, h⟩ := mg_per hf hn hp
  have hL : L = 1 ∨ L = 2 ∨ L = 3 ∨ L = 4 ∨ L = 5 := by omega
  rcases hL with rfl | rfl | rfl | rfl | rfl
  · exact mg_it_mul f 1 _ h 60
  · exact mg_it_mul f 2 _ h 30
  · exact mg_it_mul f 3 _ h 20
  · exact mg_it_mul f 4 _ h 15
  · exact mg_it_mul f 5 _ h 12
/-- the sum of the weights over k steps -/
def mg_S (f : Nat → Nat) (w : Nat → Int) : Nat → Nat → Int
  | 0, _ => 0
  | k + 1, p => w p + mg_S f w k (f p)
theorem mg_S_add (f : Nat → Nat) (w : Nat → Int) (a b : Nat) : ∀ p, mg_S f w (a + b) p = mg_S f w a p + mg_S f w b (mg_it f a p) := by
  induction a with
  | zero =>
    intro p
    rw [Nat.zero_add]
    show _ = 0 + mg_S f w b p
    omega
  | succ a ih =>
    intro p
    rw [Nat.add_right_comm]
    show w p + mg_S f w (a + b) (f p) = (w p + mg_S f w a (f p)) + mg_S f w b (mg_it f a (f p))
    rw [ih]
    omega
theorem mg_S_rot {f : Nat → Nat} {w : Nat → Int} {k z : Nat} (h : mg_it f k z = z) : mg_S f w k (f z) = mg_S f w k z := by
  have h1 := mg_S_add f w k 1 z
  have h2 : mg_S f w (1 + k) z = mg_S f w 1 z + mg_S f w k (f z) := mg_S_add f w 1 k z
  rw [h] at h1
  rw [Nat.add_comm 1 k] at h2
  omega
def mg_ng (w : Nat → Int) : Nat → Int := fun i => - w i
def mg_no (o : Nat → Bool) : Nat → Bool := fun p => !o p
theorem mg_no_no (o : Nat → Bool) : mg_no (mg_no o) = o := funext fun _ => Bool.not_not _
theorem mg_ng_ng (w : Nat → Int) : mg_ng (mg_ng w) = w := funext fun _ => Int.neg_neg _
theorem mg_S_ng (f : Nat → Nat) (w : Nat → Int) (k : Nat) : ∀ p, mg_S f (mg_ng w) k p = - mg_S f w k p := by
  induction k with
  | zero => intro p; rfl
  | succ k ih =>
    intro p
    show - w p + mg_S f (mg_ng w) k (f p) = -(w p + mg_S f w k (f p))
    rw [ih]
    omega
/-- sixty times the mean of the cycle that p leads to -/
def mg_X (f : Nat → Nat) (w : Nat → Int) (p : Nat) : Int := mg_S f w 60 (mg_it f 5 p)
theorem mg_X_ng (f : Nat → Nat) (w : Nat → Int) (p : Nat) : mg_X f (mg_ng w) p = - mg_X f w p := mg_S_ng f w 60 _
theorem mg_X_f {f : Nat → Nat} {w : Nat → Int} {p : Nat} (h : mg_it f 60 (mg_it f 5 p) = mg_it f 5 p) : mg_X f w (f p) = mg_X f w p := by
  have e : mg_it f 5 (f p) = f (mg_it f 5 p) := rfl
  show mg_S f w 60 (mg_it f 5 (f p)) = mg_S f w 60 (mg_it f 5 p)
  rw [e]
  exact mg_S_rot h
def mg_T (f : Nat → Nat) (w : Nat → Int) : Nat → Nat → Int
  | 0, _ => 0
  | j + 1, p => mg_T f w j p + mg_S f w (5 + j) p
theorem mg_T_f (f : Nat → Nat) (w : Nat → Int) (p j : Nat) : mg_T f w j (f p) + (j : Int) * w p = mg_T f w j p + mg_S f w (5 + j) p - mg_S f w 5 p := by
  induction j with
  | zero =>
    show (0 : Int) + ((0 : Nat) : Int) * w p = 0 + mg_S f w 5 p - mg_S f w 5 p
    rw [show ((0 : Nat) : Int) = 0 from rfl, Int.zero_mul]
    omega
  | succ j ih =>
    have e : mg_S f w (5 + (j + 1)) p = w p + mg_S f w (5 + j) (f p) := rfl
    show mg_T f w j (f p) + mg_S f w (5 + j) (f p) + ((j + 1 : Nat) : Int) * w p = mg_T f w j p + mg_S f w (5 + j) p + mg_S f w (5 + (j + 1)) p - mg_S f w 5 p
    rw [e, show ((j + 1 : Nat) : Int) = (j : Int) + 1 from by omega, Int.add_mul, Int.one_mul]
    omega
/-- H on the closed set R keeps the player who moves where o is false at x (in sixtieths) or below; A: the moves allowed -/
def mg_Pot (n : Nat) (o : Nat → Bool) (t : Nat → Nat) (w : Nat → Int) (A : Nat → Nat → Prop) (x : Int) (R : Nat → Prop) (H : Nat → Int) : Prop :=
  ∀ p, R p → p < n ∧ (o p = false → ∃ m, m < 2 ∧ A p m ∧ R (t (2 * p + m)) ∧ 60 * w (2 * p + m) + H (t (2 * p + m)) ≤ x + H p) ∧ (o p = true → ∀ m, m < 2 → A p m → R (t (2 * p + m)) ∧ 60 * w (2 * p + m) + H (t (2 * p + m)) ≤ x + H p)
def mg_Mn (n : Nat) (o : Nat → Bool) (t : Nat → Nat) (w : Nat → Int) (A : Nat → Nat → Prop) (x : Int) (p : Nat) : Prop :=
  ∃ (R : Nat → Prop) (H : Nat → Int), mg_Pot n o t w A x R H ∧ R p
def mg_Vl (n : Nat) (o : Nat → Bool) (t : Nat → Nat) (w : Nat → Int) (A : Nat → Nat → Prop) (x : Int) (p : Nat) : Prop :=
  mg_Mn n o t w A x p ∧ mg_Mn n (mg_no o) t (mg_ng w) A (-x) p
theorem mg_Vl_sym {n : Nat} {o : Nat → Bool} {t : Nat → Nat} {w : Nat → Int} {A : Nat → Nat → Prop} {x : Int} {p : Nat} (h : mg_Vl n o t w A x p) : mg_Vl n (mg_no o) t (mg_ng w) A (-x) p :=
  ⟨h.2, by rw [mg_no_no, mg_ng_ng, Int.neg_neg]; exact h.1⟩
theorem mg_bd (n : Nat) (g : Nat → Int) : ∃ M : Int, 0 ≤ M ∧ ∀ q, q < n → -M ≤ g q := by
  induction n with
  | zero => exact ⟨0, Int.le_refl 0, fun q h => absurd h (Nat.not_lt_zero q)⟩
  | succ n ih =>
    obtain ⟨M, h0, h⟩ := ih
    by_cases c : -M ≤ g n
    · refine ⟨M, h0, fun q hq => ?_⟩
      by_cases e : q = n
      · rw [e]; exact c
      · exact h q (by omega)
    · refine ⟨-(g n), by omega, fun q hq => ?_⟩
      by_cases e : q = n
      · rw [e]; omega
      · have := h q (by omega)
        omega
/-- what the two players hold doesn't cross -/
theorem mg_weak {n : Nat} {o : Nat → Bool} {t : Nat → Nat} {w : Nat → Int} {A : Nat → Nat → Prop} {x y : Int} {p : Nat} (h : mg_Mn n o t w A x p) (h' : mg_Mn n (mg_no o) t (mg_ng w) A (-y) p) : y ≤ x := by
  obtain ⟨R, H, hP, hp⟩ := h
  obtain ⟨R', H', hP', hp'⟩ := h'
  have E : ∀ k : Nat, ∃ q, R q ∧ R' q ∧ (k : Int) * (y - x) + (H q + H' q) ≤ H p + H' p := by
    intro k
    induction k with
    | zero =>
      refine ⟨p, hp, hp', ?_⟩
      rw [show ((0 : Nat) : Int) = 0 from rfl, Int.zero_mul]
      omega
    | succ k ih =>
      obtain ⟨q, hq, hq', e⟩ := ih
      have a := hP q hq
      have b := hP' q hq'
      have key : ∃ m, R (t (2 * q + m)) ∧ R' (t (2 * q + m)) ∧ 60 * w (2 * q + m) + H (t (2 * q + m)) ≤ x + H q ∧ 60 * (mg_ng w (2 * q + m)) + H' (t (2 * q + m)) ≤ -y + H' q := by
        cases ho : o q with
        | false =>
          obtain ⟨m, hm, hA, hR, e1⟩ := a.2.1 ho
          obtain ⟨hR', e2⟩ := b.2.2 (by show (!o q) = true; rw [ho]; rfl) m hm hA
          exact ⟨m, hR, hR', e1, e2⟩
        | true =>
          obtain ⟨m, hm, hA, hR', e2⟩ := b.2.1 (by show (!o q) = false; rw [ho]; rfl)
          obtain ⟨hR, e1⟩ := a.2.2 ho m hm hA
          exact ⟨m, hR, hR', e1, e2⟩
      obtain ⟨m, r1, r2, e1, e2⟩ := key
      have e3 : mg_ng w (2 * q + m) = - w (2 * q + m) := rfl
      rw [e3] at e2
      refine ⟨_, r1, r2, ?_⟩
      rw [show ((k + 1 : Nat) : Int) = (k : Int) + 1 from by omega, Int.add_mul, Int.one_mul]
      omega
  obtain ⟨M, hM0, hM⟩ := mg_bd n (fun q => H q + H' q)
  apply Classical.byContradiction
  intro hc
  have hc' : 1 ≤ y - x := by omega
  obtain ⟨q, hq, hq', e⟩ := E ((M + (H p + H' p)).toNat + 1)
  have hb : -M ≤ H q + H' q := hM q (hP q hq).1
  have hk := Int.mul_le_mul_of_nonneg_left hc' (show (0 : Int) ≤ (((M + (H p + H' p)).toNat + 1 : Nat) : Int) from by omega)
  rw [Int.mul_one] at hk
  omega
theorem mg_Mn_A {n : Nat} {o : Nat → Bool} {t : Nat → Nat} {w : Nat → Int} {A A' : Nat → Nat → Prop} {x : Int} {p : Nat} (h : ∀ q m, q < n → (A q m ↔ A' q m)) (hM : mg_Mn n o t w A x p) : mg_Mn n o t w A' x p := by
  obtain ⟨R, H, hP, hp⟩ := hM
  refine ⟨R, H, fun q hq => ?_, hp⟩
  obtain ⟨h1, h2, h3⟩ := hP q hq
  refine ⟨h1, fun ho => ?_, fun ho m hm hA => h3 ho m hm ((h q m h1).mpr hA)⟩
  obtain ⟨m, hm, hA, hr⟩ := h2 ho
  exact ⟨m, hm, (h q m h1).mp hA, hr⟩
theorem mg_Vl_A {n : Nat} {o : Nat → Bool} {t : Nat → Nat} {w : Nat → Int} {A A' : Nat → Nat → Prop} {x : Int} {p : Nat} (h : ∀ q m, q < n → (A q m ↔ A' q m)) (hM : mg_Vl n o t w A x p) : mg_Vl n o t w A' x p := ⟨mg_Mn_A h hM.1, mg_Mn_A h hM.2⟩
/-- the play when place q takes move c q -/
def mg_f (t : Nat → Nat) (c : Nat → Nat) : Nat → Nat := fun q => t (2 * q + c q)
def mg_wf (w : Nat → Int) (c : Nat → Nat) : Nat → Int := fun q => w (2 * q + c q)
theorem mg_f_lt {n : Nat} {t : Nat → Nat} {c : Nat → Nat} (hc : ∀ p, c p < 2) (ht : ∀ i, i < 2 * n → t i < n) : ∀ p, p < n → mg_f t c p < n := by
  intro p hp
  have := hc p
  exact ht _ (by omega)
theorem mg_base {n : Nat} {o : Nat → Bool} {t : Nat → Nat} {w : Nat → Int} {c : Nat → Nat} (hn : n ≤ 5) (hc : ∀ p, c p < 2) (ht : ∀ i, i < 2 * n → t i < n) {p : Nat} (hp : p < n) : mg_Mn n o t w (fun q m => m = c q) (mg_X (mg_f t c) (mg_wf w c) p) p := by
  have hf := mg_f_lt hc ht
  refine ⟨fun q => q < n ∧ mg_X (mg_f t c) (mg_wf w c) q = mg_X (mg_f t c) (mg_wf w c) p, fun q => mg_T (mg_f t c) (mg_wf w c) 60 q, ?_, hp, rfl⟩
  intro q hqq
  have hq := hqq.1
  have eq := hqq.2
  have h60 := mg_60 hf hn hq
  have hX : mg_X (mg_f t c) (mg_wf w c) (mg_f t c q) = mg_X (mg_f t c) (mg_wf w c) q := mg_X_f h60
  have hT := mg_T_f (mg_f t c) (mg_wf w c) q 60
  have hS := mg_S_add (mg_f t c) (mg_wf w c) 5 60 q
  have eX : mg_X (mg_f t c) (mg_wf w c) q = mg_S (mg_f t c) (mg_wf w c) 60 (mg_it (mg_f t c) 5 q) := rfl
  have key : 60 * w (2 * q + c q) + mg_T (mg_f t c) (mg_wf w c) 60 (t (2 * q + c q)) ≤ mg_X (mg_f t c) (mg_wf w c) p + mg_T (mg_f t c) (mg_wf w c) 60 q := by
    have a : 60 * mg_wf w c q + mg_T (mg_f t c) (mg_wf w c) 60 (mg_f t c q) ≤ mg_X (mg_f t c) (mg_wf w c) p + mg_T (mg_f t c) (mg_wf w c) 60 q := by
      rw [← eq, eX]
      omega
    exact a
  refine ⟨hq, fun _ => ⟨c q, hc q, rfl, ⟨hf q hq, hX.trans eq⟩, key⟩, fun _ m _ em => ?_⟩
  have em' : m = c q := em
  rw [em']
  exact ⟨⟨hf q hq, hX.trans eq⟩, key⟩
theorem mg_base2 {n : Nat} {o : Nat → Bool} {t : Nat → Nat} {w : Nat → Int} {c : Nat → Nat} (hn : n ≤ 5) (hc : ∀ p, c p < 2) (ht : ∀ i, i < 2 * n → t i < n) {p : Nat} (hp : p < n) : mg_Vl n o t w (fun q m => m = c q) (mg_X (mg_f t c) (mg_wf w c) p) p := by
  refine ⟨mg_base hn hc ht hp, ?_⟩
  have h := mg_base (o := mg_no o) (w := mg_ng w) hn hc ht hp
  have e : mg_X (mg_f t c) (mg_wf (mg_ng w) c) p = - mg_X (mg_f t c) (mg_wf w c) p := mg_X_ng (mg_f t c) (mg_wf w c) p
  rw [e] at h
  exact h
/-- the moves allowed while the places below i are free -/
def mg_A (i : Nat) (c : Nat → Nat) : Nat → Nat → Prop := fun q m => q < i ∨ m = c q
def mg_set (c : Nat → Nat) (i a : Nat) : Nat → Nat := fun q => if q = i then a else c q
theorem mg_A_ne {i : Nat} {c : Nat → Nat} {a q m : Nat} (h : q ≠ i) : mg_A i (mg_set c i a) q m ↔ mg_A (i + 1) c q m := by
  have e : mg_set c i a q = c q := if_neg h
  show (q < i ∨ m = mg_set c i a q) ↔ (q < i + 1 ∨ m = c q)
  rw [e]
  constructor
  · intro z
    rcases z with z | z
    · exact Or.inl (by omega)
    · exact Or.inr z
  · intro z
    rcases z with z | z
    · exact Or.inl (by omega)
    · exact Or.inr z
theorem mg_A_eq (i : Nat) (c : Nat → Nat) (a : Nat) : mg_A i (mg_set c i a) i a := Or.inr (if_pos rfl).symm
theorem mg_A_all (i : Nat) (c : Nat → Nat) (m : Nat) : mg_A (i + 1) c i m := Or.inl (Nat.lt_succ_self i)
end
section
/-! determinacy: at a place of the maximiser the better of its two moves -/
section
variable {n : Nat} {o : Nat → Bool} {t : Nat → Nat} {w : Nat → Int}
theorem mg_step_max {i : Nat} {c : Nat → Nat} {a p : Nat} {x : Int} (ho : o i = true) (hx : mg_Mn n (mg_no o) t (mg_ng w) (mg_A i (mg_set c i a)) x p) : mg_Mn n (mg_no o) t (mg_ng w) (mg_A (i + 1) c) x p := by
  obtain ⟨R, H, hP, hp⟩ := hx
  refine ⟨R, H, fun q hq => ?_, hp⟩
  obtain ⟨h1, h2, h3⟩ := hP q hq
  by_cases e : q = i
  · have ho' : mg_no o q = false := by
      show (!o q) = false
      rw [e, ho]
      rfl
    refine ⟨h1, fun z => ?_, fun z => ?_⟩
    · obtain ⟨m, hm, _, hr⟩ := h2 z
      exact ⟨m, hm, by rw [e]; exact mg_A_all i c m, hr⟩
    · rw [ho'] at z
      exact absurd z (by decide)
  · refine ⟨h1, fun z => ?_, fun z m hm hA => h3 z m hm ((mg_A_ne e).mpr hA)⟩
    obtain ⟨m, hm, hA, hr⟩ := h2 z
    exact ⟨m, hm, (mg_A_ne e).mp hA, hr⟩
theorem mg_step_min {i : Nat} {c : Nat → Nat} {a b p : Nat} {xa xb x : Int} (ho : o i = true) (hab : ∀ m, m < 2 → m = a ∨ m = b) (hxb : mg_Mn n o t w (mg_A i (mg_set c i b)) xb i) (hxa : mg_Mn n (mg_no o) t (mg_ng w) (mg_A i (mg_set c i a)) (-xa) i) (hle : xb ≤ xa) (hx : mg_Mn n o t w (mg_A i (mg_set c i a)) x p) : mg_Mn n o t w (mg_A (i + 1) c) x p := by
  obtain ⟨R1, H1, hP1, hp⟩ := hx
  by_cases hR : R1 i
  · have hxx : xa ≤ x := mg_weak ⟨R1, H1, hP1, hR⟩ hxa
    obtain ⟨R2, H2, hP2, hi2⟩ := hxb
    have hex : ∀ q : Nat, ∃ h : Int, (R1 q → h ≤ H1 q - H1 i) ∧ (R2 q → h ≤ H2 q - H2 i) ∧ ((R1 q ∧ h = H1 q - H1 i) ∨ (R2 q ∧ h = H2 q - H2 i) ∨ (¬ R1 q ∧ ¬ R2 q)) := by
      intro q
      by_cases r1 : R1 q
      · by_cases r2 : R2 q
        · by_cases l : H1 q - H1 i ≤ H2 q - H2 i
          · exact ⟨H1 q - H1 i, fun _ => Int.le_refl _, fun _ => l, Or.inl ⟨r1, rfl⟩⟩
          · exact ⟨H2 q - H2 i, fun _ => by omega, fun _ => Int.le_refl _, Or.inr (Or.inl ⟨r2, rfl⟩)⟩
        · exact ⟨H1 q - H1 i, fun _ => Int.le_refl _, fun z => absurd z r2, Or.inl ⟨r1, rfl⟩⟩
      · by_cases r2 : R2 q
        · exact ⟨H2 q - H2 i, fun z => absurd z r1, fun _ => Int.le_refl _, Or.inr (Or.inl ⟨r2, rfl⟩)⟩
        · exact ⟨0, fun z => absurd z r1, fun z => absurd z r2, Or.inr (Or.inr ⟨r1, r2⟩)⟩
    obtain ⟨H, hH⟩ := Classical.axiomOfChoice hex
    have l1 : ∀ q, R1 q → H q ≤ H1 q - H1 i := fun q => (hH q).1
    have l2 : ∀ q, R2 q → H q ≤ H2 q - H2 i := fun q => (hH q).2.1
    have hHi : H i = 0 := by
      have a1 := l1 i hR
      rcases (hH i).2.2 with z | z | z
      · have := z.2
        omega
      · have := z.2
        omega
      · exact absurd hR z.1
    have e1 : ∀ {q m : Nat}, (R1 (t (2 * q + m)) ∧ 60 * w (2 * q + m) + H1 (t (2 * q + m)) ≤ x + H1 q) → H q = H1 q - H1 i → ((R1 (t (2 * q + m)) ∨ R2 (t (2 * q + m))) ∧ 60 * w (2 * q + m) + H (t (2 * q + m)) ≤ x + H q) := by
      intro q m z eq
      have := l1 _ z.1
      have := z.2
      exact ⟨Or.inl z.1, by omega⟩
    have e2 : ∀ {q m : Nat}, (R2 (t (2 * q + m)) ∧ 60 * w (2 * q + m) + H2 (t (2 * q + m)) ≤ xb + H2 q) → H q = H2 q - H2 i → ((R1 (t (2 * q + m)) ∨ R2 (t (2 * q + m))) ∧ 60 * w (2 * q + m) + H (t (2 * q + m)) ≤ x + H q) := by
      intro q m z eq
      have := l2 _ z.1
      have := z.2
      exact ⟨Or.inr z.1, by omega⟩
    refine ⟨fun q => R1 q ∨ R2 q, H, fun q hq => ?_, Or.inl hp⟩
    by_cases e : q = i
    · rw [e]
      refine ⟨(hP1 i hR).1, fun z => ?_, fun z m hm _ => ?_⟩
      · rw [ho] at z
        exact absurd z (by decide)
      · rcases hab m hm with em | em
        · exact e1 ((hP1 i hR).2.2 ho m hm (by rw [em]; exact mg_A_eq i c a)) (by omega)
        · exact e2 ((hP2 i hi2).2.2 ho m hm (by rw [em]; exact mg_A_eq i c b)) (by omega)
    · rcases (hH q).2.2 with z | z | z
      · obtain ⟨h1, h2, h3⟩ := hP1 q z.1
        refine ⟨h1, fun y => ?_, fun y m hm hA => e1 (h3 y m hm ((mg_A_ne e).mpr hA)) z.2⟩
        obtain ⟨m, hm, hA, hr⟩ := h2 y
        exact ⟨m, hm, (mg_A_ne e).mp hA, e1 hr z.2⟩
      · obtain ⟨h1, h2, h3⟩ := hP2 q z.1
        refine ⟨h1, fun y => ?_, fun y m hm hA => e2 (h3 y m hm ((mg_A_ne e).mpr hA)) z.2⟩
        obtain ⟨m, hm, hA, hr⟩ := h2 y
        exact ⟨m, hm, (mg_A_ne e).mp hA, e2 hr z.2⟩
      · rcases hq with y | y
        · exact absurd y z.1
        · exact absurd y z.2
  · refine ⟨R1, H1, fun q hq => ?_, hp⟩
    have e : q ≠ i := fun z => hR (z ▸ hq)
    obtain ⟨h1, h2, h3⟩ := hP1 q hq
    refine ⟨h1, fun y => ?_, fun y m hm hA => h3 y m hm ((mg_A_ne e).mpr hA)⟩
    obtain ⟨m, hm, hA, hr⟩ := h2 y
    exact ⟨m, hm, (mg_A_ne e).mp hA, hr⟩
theorem mg_set_lt {c : Nat → Nat} (hc : ∀ p, c p < 2) (i : Nat) {a : Nat} (ha : a < 2) : ∀ p, mg_set c i a p < 2 := by
  intro p
  show (if p = i then a else c p) < 2
  by_cases e : p = i
  · rw [if_pos e]; exact ha
  · rw [if_neg e]; exact hc p
theorem mg_step {i : Nat} {c : Nat → Nat} (hi : i < n) (ho : o i = true) (hc : ∀ p, c p < 2) (D : ∀ c' : Nat → Nat, (∀ p, c' p < 2) → ∀ p, p < n → ∃ x, mg_Vl n o t w (mg_A i c') x p) (p : Nat) (hp : p < n) : ∃ x, mg_Vl n o t w (mg_A (i + 1) c) x p := by
  obtain ⟨x0, h0⟩ := D (mg_set c i 0) (mg_set_lt hc i (by decide)) i hi
  obtain ⟨x1, h1⟩ := D (mg_set c i 1) (mg_set_lt hc i (by decide)) i hi
  by_cases l : x1 ≤ x0
  · obtain ⟨x, h⟩ := D (mg_set c i 0) (mg_set_lt hc i (by decide)) p hp
    exact ⟨x, mg_step_min ho (fun m hm => by omega) h1.1 h0.2 l h.1, mg_step_max ho h.2⟩
  · obtain ⟨x, h⟩ := D (mg_set c i 1) (mg_set_lt hc i (by decide)) p hp
    exact ⟨x, mg_step_min ho (fun m hm => by omega) h0.1 h1.2 (by omega) h.1, mg_step_max ho h.2⟩
end
theorem mg_det {n : Nat} {t : Nat → Nat} (hn : n ≤ 5) (ht : ∀ i, i < 2 * n → t i < n) : ∀ (i : Nat) (o : Nat → Bool) (w : Nat → Int) (c : Nat → Nat), (∀ p, c p < 2) → ∀ p, p < n → ∃ x, mg_Vl n o t w (mg_A i c) x p := by
  intro i
  induction i with
  | zero =>
    intro o w c hc p hp
    refine ⟨_, mg_Vl_A (fun q m _ => ?_) (mg_base2 hn hc ht hp)⟩
    exact ⟨fun z => Or.inr z, fun z => z.elim (fun y => absurd y (Nat.not_lt_zero q)) id⟩
  | succ i ih =>
    intro o w c hc p hp
    by_cases hi : i < n
    · cases ho : o i with
      | true => exact mg_step hi ho hc (fun c' hc' => ih o w c' hc') p hp
      | false =>
        have ho' : mg_no o i = true := by
          show (!o i) = true
          rw [ho]
          rfl
        obtain ⟨x, h⟩ := mg_step (o := mg_no o) (w := mg_ng w) hi ho' hc (fun c' hc' => ih (mg_no o) (mg_ng w) c' hc') p hp
        have h' := mg_Vl_sym h
        rw [mg_no_no, mg_ng_ng] at h'
        exact ⟨-x, h'⟩
    · obtain ⟨x, h⟩ := ih o w c hc p hp
      refine ⟨x, mg_Vl_A (fun q m hq => ?_) h⟩
      exact ⟨fun _ => Or.inl (by omega), fun _ => Or.inl (by omega)⟩
def mg_All : Nat → Nat → Prop := fun _ _ => True
/-- every place has a value -/
theorem mg_determined {n : Nat} {t : Nat → Nat} (hn : n ≤ 5) (ht : ∀ i, i < 2 * n → t i < n) (o : Nat → Bool) (w : Nat → Int) {p : Nat} (hp : p < n) : ∃ x, mg_Vl n o t w mg_All x p := by
  obtain ⟨x, h⟩ := mg_det hn ht n o w (fun _ => 0) (fun _ => by decide) p hp
  exact ⟨x, mg_Vl_A (fun q m hq => ⟨fun _ => trivial, fun _ => Or.inl hq⟩) h⟩
theorem mg_Vl_uniq {n : Nat} {o : Nat → Bool} {t : Nat → Nat} {w : Nat → Int} {A : Nat → Nat → Prop} {x y : Int} {p : Nat} (h : mg_Vl n o t w A x p) (h' : mg_Vl n o t w A y p) : x = y := by
  have a := mg_weak h.1 h'.2
  have b := mg_weak h'.1 h.2
  omega
theorem mg_const {n : Nat} {o : Nat → Bool} {t : Nat → Nat} {w : Nat → Int} {p : Nat} (hp : p < n) (ht : ∀ i, i < 2 * n → t i < n) (hw : ∀ i, i < 2 * n → -3 ≤ w i ∧ w i ≤ 3) : mg_Mn n o t w mg_All 180 p := by
  refine ⟨fun q => q < n, fun _ => 0, fun q hq => ?_, hp⟩
  have k : ∀ m, m < 2 → t (2 * q + m) < n ∧ 60 * w (2 * q + m) + 0 ≤ 180 + 0 := by
    intro m hm
    have hq' : q < n := hq
    have := hw (2 * q + m) (by omega)
    exact ⟨ht _ (by omega), by omega⟩
  exact ⟨hq, fun _ => ⟨0, by decide, trivial, k 0 (by decide)⟩, fun _ m hm _ => k m hm⟩
theorem mg_180 {n : Nat} {o : Nat → Bool} {t : Nat → Nat} {w : Nat → Int} {p : Nat} {x : Int} (hp : p < n) (ht : ∀ i, i < 2 * n → t i < n) (hw : ∀ i, i < 2 * n → -3 ≤ w i ∧ w i ≤ 3) (h : mg_Vl n o t w mg_All x p) : -180 ≤ x ∧ x ≤ 180 := by
  have a := mg_weak (mg_const (o := o) hp ht hw) h.2
  have b := mg_weak (y := -x) (mg_const (o := mg_no o) (w := mg_ng w) hp ht (fun i hi => by
    have := hw i hi
    show -3 ≤ - w i ∧ - w i ≤ 3
    omega)) (mg_Vl_sym h).2
  omega
end
section
/-! the sums of best play over k rounds lie near k times the value -/
def mg_mx (a b : Int) : Int := if b ≤ a then a else b
def mg_mn (a b : Int) : Int := if a ≤ b then a else b
def mg_pick (o : Bool) (a b : Int) : Int := if o = true then mg_mx a b else mg_mn a b
theorem mg_mx_le {a b M : Int} (ha : a ≤ M) (hb : b ≤ M) : mg_mx a b ≤ M := by
  unfold mg_mx
  by_cases c : b ≤ a
  · rw [if_pos c]; exact ha
  · rw [if_neg c]; exact hb
theorem mg_mn_le (a b : Int) : mg_mn a b ≤ a ∧ mg_mn a b ≤ b := by
  unfold mg_mn
  by_cases c : a ≤ b
  · rw [if_pos c]; exact ⟨Int.le_refl _, c⟩
  · rw [if_neg c]; exact ⟨by omega, Int.le_refl _⟩
theorem mg_mx_ng (a b : Int) : mg_mn (-a) (-b) = - mg_mx a b := by
  unfold mg_mn mg_mx
  by_cases c : b ≤ a
  · rw [if_pos c, if_pos (by omega)]
  · rw [if_neg c, if_neg (by omega)]
theorem mg_mn_ng (a b : Int) : mg_mx (-a) (-b) = - mg_mn a b := by
  unfold mg_mn mg_mx
  by_cases c : a ≤ b
  · rw [if_pos c, if_pos (by omega)]
  · rw [if_neg c, if_neg (by omega)]
theorem mg_pick_t (a b : Int) : mg_pick true a b = mg_mx a b := if_pos rfl
theorem mg_pick_f (a b : Int) : mg_pick false a b = mg_mn a b := if_neg (by decide)
theorem mg_pick_ng (o : Bool) (a b : Int) : mg_pick (!o) (-a) (-b) = - mg_pick o a b := by
  cases o with
  | true =>
    show mg_pick false (-a) (-b) = - mg_pick true a b
    rw [mg_pick_f, mg_pick_t, mg_mx_ng]
  | false =>
    show mg_pick true (-a) (-b) = - mg_pick false a b
    rw [mg_pick_f, mg_pick_t, mg_mn_ng]
/-- the best sum over k rounds -/
def mg_V (o : Nat → Bool) (t : Nat → Nat) (w : Nat → Int) : Nat → Nat → Int
  | 0, _ => 0
  | k + 1, p => mg_pick (o p) (w (2 * p) + mg_V o t w k (t (2 * p))) (w (2 * p + 1) + mg_V o t w k (t (2 * p + 1)))
theorem mg_V_ng (o : Nat → Bool) (t : Nat → Nat) (w : Nat → Int) (k : Nat) : ∀ p, mg_V (mg_no o) t (mg_ng w) k p = - mg_V o t w k p := by
  induction k with
  | zero => intro p; rfl
  | succ k ih =>
    intro p
    show mg_pick (!o p) (- w (2 * p) + mg_V (mg_no o) t (mg_ng w) k (t (2 * p))) (- w (2 * p + 1) + mg_V (mg_no o) t (mg_ng w) k (t (2 * p + 1))) = - mg_pick (o p) (w (2 * p) + mg_V o t w k (t (2 * p))) (w (2 * p + 1) + mg_V o t w k (t (2 * p + 1)))
    rw [ih, ih, ← mg_pick_ng]
    rw [show - w (2 * p) + - mg_V o t w k (t (2 * p)) = -(w (2 * p) + mg_V o t w k (t (2 * p))) from by omega]
    rw [show - w (2 * p + 1) + - mg_V o t w k (t (2 * p + 1)) = -(w (2 * p + 1) + mg_V o t w k (t (2 * p + 1))) from by omega]
theorem mg_V_le {n : Nat} {o : Nat → Bool} {t : Nat → Nat} {w : Nat → Int} {x : Int} {R : Nat → Prop} {H : Nat → Int} (hP : mg_Pot n o t w mg_All x R H) (h0 : ∀ q, R q → 0 ≤ H q) (k : Nat) : ∀ q, R q → 60 * mg_V o t w k q ≤ (k : Int) * x + H q := by
  induction k with
  | zero =>
    intro q hq
    have := h0 q hq
    show 60 * (0 : Int) ≤ ((0 : Nat) : Int) * x + H q
    rw [show ((0 : Nat) : Int) = 0 from rfl, Int.zero_mul]
    omega
  | succ k ih =>
    intro q hq
    obtain ⟨h1, h2, h3⟩ := hP q hq
    show 60 * mg_pick (o q) (w (2 * q) + mg_V o t w k (t (2 * q))) (w (2 * q + 1) + mg_V o t w k (t (2 * q + 1))) ≤ ((k + 1 : Nat) : Int) * x + H q
    rw [show ((k + 1 : Nat) : Int) = (k : Int) + 1 from by omega, Int.add_mul, Int.one_mul]
    have st : ∀ m, (R (t (2 * q + m)) ∧ 60 * w (2 * q + m) + H (t (2 * q + m)) ≤ x + H q) → 60 * (w (2 * q + m) + mg_V o t w k (t (2 * q + m))) ≤ (k : Int) * x + x + H q := by
      intro m z
      have := ih _ z.1
      have := z.2
      omega
    cases ho : o q with
    | true =>
      have a := st 0 (h3 ho 0 (by decide) trivial)
      have b := st 1 (h3 ho 1 (by decide) trivial)
      rw [Nat.add_zero] at a
      rw [mg_pick_t]
      unfold mg_mx
      by_cases c : w (2 * q + 1) + mg_V o t w k (t (2 * q + 1)) ≤ w (2 * q) + mg_V o t w k (t (2 * q))
      · rw [if_pos c]; exact a
      · rw [if_neg c]; exact b
    | false =>
      obtain ⟨m, hm, _, hr⟩ := h2 ho
      have a := st m hr
      have b := mg_mn_le (w (2 * q) + mg_V o t w k (t (2 * q))) (w (2 * q + 1) + mg_V o t w k (t (2 * q + 1)))
      rw [mg_pick_f]
      have hm' : m = 0 ∨ m = 1 := by omega
      rcases hm' with e | e
      · rw [e, Nat.add_zero] at a
        omega
      · rw [e] at a
        omega
/-- sums of a function below n -/
def mg_sum (H : Nat → Nat) : Nat → Nat
  | 0 => 0
  | n + 1 => mg_sum H n + H n
theorem mg_sum_le {H H' : Nat → Nat} (h : ∀ q, H' q ≤ H q) (n : Nat) : mg_sum H' n ≤ mg_sum H n := by
  induction n with
  | zero => exact Nat.le_refl 0
  | succ n ih => exact Nat.add_le_add ih (h n)
theorem mg_sum_lt {H H' : Nat → Nat} (h : ∀ q, H' q ≤ H q) {u : Nat} (hu : H' u < H u) (n : Nat) : u < n → mg_sum H' n < mg_sum H n := by
  induction n with
  | zero => intro z; exact absurd z (Nat.not_lt_zero u)
  | succ n ih =>
    intro z
    show mg_sum H' n + H' n < mg_sum H n + H n
    have := h n
    by_cases e : u = n
    · have := mg_sum_le h n
      rw [e] at hu
      omega
    · have := ih (by omega)
      omega
/-- a potential without gaps -/
theorem mg_squeeze {n : Nat} {o : Nat → Bool} {t : Nat → Nat} {w : Nat → Int} {A : Nat → Nat → Prop} {x : Int} {R : Nat → Prop} (C : Nat) (hC : ∀ i, i < 2 * n → 60 * w i - x ≤ (C : Int)) : ∀ (s : Nat) (H : Nat → Nat), mg_sum H n = s → mg_Pot n o t w A x R (fun q => (H q : Int)) → ∃ H' : Nat → Nat, mg_Pot n o t w A x R (fun q => (H' q : Int)) ∧ ∀ u, R u → 1 ≤ H' u → ∃ v, R v ∧ H' u ≤ H' v + C ∧ H' v < H' u := by
  intro s
  induction s using Nat.strongRecOn with
  | ind s ih =>
    intro H hs hP
    by_cases g : ∃ u, R u ∧ 1 ≤ H u ∧ ∀ v, R v → H v < H u → H v + C < H u
    · obtain ⟨u, hu, h1, hv⟩ := g
      have hH : ∀ q, (if H u ≤ H q then H q - 1 else H q) ≤ H q := by
        intro q
        by_cases c : H u ≤ H q
        · rw [if_pos c]; omega
        · rw [if_neg c]; exact Nat.le_refl _
      have hHu : (if H u ≤ H u then H u - 1 else H u) < H u := by
        rw [if_pos (Nat.le_refl _)]
        omega
      refine ih (mg_sum (fun q => if H u ≤ H q then H q - 1 else H q) n) ?_ (fun q => if H u ≤ H q then H q - 1 else H q) rfl ?_
      · rw [← hs]
        exact mg_sum_lt (H := H) (H' := fun q => if H u ≤ H q then H q - 1 else H q) hH hHu n (hP u hu).1
      · have key : ∀ q v (e : Int), e - x ≤ (C : Int) → R q → R v → e + (H v : Int) ≤ x + (H q : Int) → e + (((if H u ≤ H v then H v - 1 else H v : Nat)) : Int) ≤ x + ((if H u ≤ H q then H q - 1 else H q : Nat) : Int) := by
          intro q v e he hq hv1 hh
          by_cases c : H u ≤ H q
          · by_cases d : H u ≤ H v
            · rw [if_pos c, if_pos d]; omega
            · have := hv v hv1 (by omega)
              rw [if_pos c, if_neg d]; omega
          · by_cases d : H u ≤ H v
            · rw [if_neg c, if_pos d]; omega
            · rw [if_neg c, if_neg d]; exact hh
        intro q hq
        obtain ⟨h1', h2, h3⟩ := hP q hq
        refine ⟨h1', fun z => ?_, fun z m hm hA => ?_⟩
        · obtain ⟨m, hm, hA, hr, hh⟩ := h2 z
          exact ⟨m, hm, hA, hr, key q _ _ (hC _ (by omega)) hq hr hh⟩
        · obtain ⟨hr, hh⟩ := h3 z m hm hA
          exact ⟨hr, key q _ _ (hC _ (by omega)) hq hr hh⟩
    · refine ⟨H, hP, fun u hu h1 => ?_⟩
      apply Classical.byContradiction
      intro hc
      refine g ⟨u, hu, h1, fun v hv hlt => ?_⟩
      apply Classical.byContradiction
      intro hd
      exact hc ⟨v, hv, by omega, hlt⟩
/-- how many places below n lie below c -/
def mg_cnt (H : Nat → Nat) (c : Nat) : Nat → Nat
  | 0 => 0
  | n + 1 => mg_cnt H c n + (if H n < c then 1 else 0)
theorem mg_cnt_le (H : Nat → Nat) (c : Nat) (n : Nat) : mg_cnt H c n ≤ n := by
  induction n with
  | zero => exact Nat.le_refl 0
  | succ n ih =>
    show mg_cnt H c n + (if H n < c then 1 else 0) ≤ n + 1
    by_cases d : H n < c
    · rw [if_pos d]; omega
    · rw [if_neg d]; omega
theorem mg_cnt_lt (H : Nat → Nat) {u : Nat} (n : Nat) : u < n → mg_cnt H (H u) n + 1 ≤ n := by
  induction n with
  | zero => intro z; exact absurd z (Nat.not_lt_zero u)
  | succ n ih =>
    intro z
    show mg_cnt H (H u) n + (if H n < H u then 1 else 0) + 1 ≤ n + 1
    by_cases e : u = n
    · have := mg_cnt_le H (H u) n
      rw [← e, if_neg (Nat.lt_irrefl _)]
      rw [← e] at this
      omega
    · have := ih (by omega)
      by_cases d : H n < H u
      · rw [if_pos d]; omega
      · rw [if_neg d]; omega
theorem mg_cnt_mono (H : Nat → Nat) {c d : Nat} (h : c ≤ d) (n : Nat) : mg_cnt H c n ≤ mg_cnt H d n := by
  induction n with
  | zero => exact Nat.le_refl 0
  | succ n ih =>
    show mg_cnt H c n + (if H n < c then 1 else 0) ≤ mg_cnt H d n + (if H n < d then 1 else 0)
    by_cases e : H n < c
    · rw [if_pos e, if_pos (by omega)]; omega
    · rw [if_neg e]; omega
theorem mg_cnt_st (H : Nat → Nat) {v d : Nat} (h : H v < d) (n : Nat) : v < n → mg_cnt H (H v) n + 1 ≤ mg_cnt H d n := by
  induction n with
  | zero => intro z; exact absurd z (Nat.not_lt_zero v)
  | succ n ih =>
    intro z
    show mg_cnt H (H v) n + (if H n < H v then 1 else 0) + 1 ≤ mg_cnt H d n + (if H n < d then 1 else 0)
    by_cases e : v = n
    · have := mg_cnt_mono H (Nat.le_of_lt h) n
      rw [e] at h this ⊢
      rw [if_neg (Nat.lt_irrefl _), if_pos h]
      omega
    · have := ih (by omega)
      by_cases c : H n < H v
      · rw [if_pos c, if_pos (by omega)]; omega
      · rw [if_neg c]; omega
theorem mg_low {n : Nat} {R : Nat → Prop} {H : Nat → Nat} {C : Nat} (hR : ∀ u, R u → u < n) (g : ∀ u, R u → 1 ≤ H u → ∃ v, R v ∧ H u ≤ H v + C ∧ H v < H u) : ∀ (s u : Nat), R u → H u = s → H u ≤ C * mg_cnt H (H u) n := by
  intro s
  induction s using Nat.strongRecOn with
  | ind s ih =>
    intro u hu hs
    by_cases h1 : 1 ≤ H u
    · obtain ⟨v, hv, l1, l2⟩ := g u hu h1
      have a := ih (H v) (by omega) v hv rfl
      have b := Nat.mul_le_mul_left C (mg_cnt_st H l2 n (hR v hv))
      rw [Nat.mul_add, Nat.mul_one] at b
      omega
    · have : H u = 0 := by omega
      rw [this]
      exact Nat.zero_le _
theorem mg_V_up {n : Nat} {o : Nat → Bool} {t : Nat → Nat} {w : Nat → Int} {x : Int} {p : Nat} (hM : mg_Mn n o t w mg_All x p) (hw : ∀ i, i < 2 * n → w i ≤ 3) (hx : -180 ≤ x) (k : Nat) : 60 * mg_V o t w k p ≤ (k : Int) * x + 360 * ((n : Int) - 1) := by
  obtain ⟨R, H, hP, hp⟩ := hM
  obtain ⟨M, _, hM⟩ := mg_bd n H
  have hP0 : mg_Pot n o t w mg_All x R (fun q => (((H q + M).toNat : Nat) : Int)) := by
    have key : ∀ q v (e : Int), q < n → v < n → e + H v ≤ x + H q → e + (((H v + M).toNat : Nat) : Int) ≤ x + (((H q + M).toNat : Nat) : Int) := by
      intro q v e hq hv hh
      have := hM q hq
      have := hM v hv
      omega
    intro q hq
    obtain ⟨h1, h2, h3⟩ := hP q hq
    refine ⟨h1, fun z => ?_, fun z m hm hA => ?_⟩
    · obtain ⟨m, hm, hA, hr, hh⟩ := h2 z
      exact ⟨m, hm, hA, hr, key q _ _ h1 (hP _ hr).1 hh⟩
    · obtain ⟨hr, hh⟩ := h3 z m hm hA
      exact ⟨hr, key q _ _ h1 (hP _ hr).1 hh⟩
  obtain ⟨H', hP', g⟩ := mg_squeeze 360 (fun i hi => by have := hw i hi; omega) _ (fun q => (H q + M).toNat) rfl hP0
  have hpn := (hP p hp).1
  have a := mg_low (fun u hu => (hP u hu).1) g (H' p) p hp rfl
  have b := mg_cnt_lt H' (u := p) n hpn
  have c := mg_V_le hP' (fun q _ => by omega) k p hp
  have c' : 60 * mg_V o t w k p ≤ (k : Int) * x + (H' p : Int) := c
  omega
theorem mg_V_near {n : Nat} {o : Nat → Bool} {t : Nat → Nat} {w : Nat → Int} {x : Int} {p : Nat} (hp : p < n) (ht : ∀ i, i < 2 * n → t i < n) (hw : ∀ i, i < 2 * n → -3 ≤ w i ∧ w i ≤ 3) (h : mg_Vl n o t w mg_All x p) (k : Nat) : 60 * mg_V o t w k p ≤ (k : Int) * x + 360 * ((n : Int) - 1) ∧ (k : Int) * x ≤ 60 * mg_V o t w k p + 360 * ((n : Int) - 1) := by
  have hx := mg_180 hp ht hw h
  have a := mg_V_up h.1 (fun i hi => (hw i hi).2) hx.1 k
  have b := mg_V_up h.2 (fun i hi => by
    have := hw i hi
    show - w i ≤ 3
    omega) (by omega) k
  rw [mg_V_ng, Int.mul_neg, Int.mul_neg] at b
  omega
theorem mg_V_abs {n : Nat} {o : Nat → Bool} {t : Nat → Nat} {w : Nat → Int} (ht : ∀ i, i < 2 * n → t i < n) (hw : ∀ i, i < 2 * n → -3 ≤ w i ∧ w i ≤ 3) (k : Nat) : ∀ p, p < n → -(3 * (k : Int)) ≤ mg_V o t w k p ∧ mg_V o t w k p ≤ 3 * (k : Int) := by
  induction k with
  | zero => intro p _; exact ⟨by show -(3 * ((0 : Nat) : Int)) ≤ 0; omega, by show (0 : Int) ≤ 3 * ((0 : Nat) : Int); omega⟩
  | succ k ih =>
    intro p hp
    have a := ih _ (ht (2 * p) (by omega))
    have b := ih _ (ht (2 * p + 1) (by omega))
    have c := hw (2 * p) (by omega)
    have d := hw (2 * p + 1) (by omega)
    show -(3 * ((k + 1 : Nat) : Int)) ≤ mg_pick (o p) (w (2 * p) + mg_V o t w k (t (2 * p))) (w (2 * p + 1) + mg_V o t w k (t (2 * p + 1))) ∧ mg_pick (o p) (w (2 * p) + mg_V o t w k (t (2 * p))) (w (2 * p + 1) + mg_V o t w k (t (2 * p + 1))) ≤ 3 * ((k + 1 : Nat) : Int)
    cases o p with
    | true =>
      rw [mg_pick_t]
      unfold mg_mx
      by_cases e : w (2 * p + 1) + mg_V o t w k (t (2 * p + 1)) ≤ w (2 * p) + mg_V o t w k (t (2 * p))
      · rw [if_pos e]; omega
      · rw [if_neg e]; omega
    | false =>
      rw [mg_pick_f]
      unfold mg_mn
      by_cases e : w (2 * p) + mg_V o t w k (t (2 * p)) ≤ w (2 * p + 1) + mg_V o t w k (t (2 * p + 1))
      · rw [if_pos e]; omega
      · rw [if_neg e]; omega
end
section
/-! strategies as masks; the reference's max-min is the value -/
theorem mg_strat {n : Nat} {o : Nat → Bool} {t : Nat → Nat} {w : Nat → Int} {x : Int} {p : Nat} (hn : n ≤ 5) (ht : ∀ i, i < 2 * n → t i < n) (hM : mg_Mn n o t w mg_All x p) : ∃ s : Nat → Nat, (∀ q, s q < 2) ∧ ∀ c : Nat → Nat, (∀ q, c q < 2) → (∀ q, q < n → o q = false → c q = s q) → mg_X (mg_f t c) (mg_wf w c) p ≤ x := by
  obtain ⟨R, H, hP, hp⟩ := hM
  have hex : ∀ q : Nat, ∃ m : Nat, m < 2 ∧ (R q → o q = false → R (t (2 * q + m)) ∧ 60 * w (2 * q + m) + H (t (2 * q + m)) ≤ x + H q) := by
    intro q
    by_cases z : R q ∧ o q = false
    · obtain ⟨m, hm, _, hr⟩ := (hP q z.1).2.1 z.2
      exact ⟨m, hm, fun _ _ => hr⟩
    · exact ⟨0, by decide, fun a b => absurd ⟨a, b⟩ z⟩
  obtain ⟨s, hs⟩ := Classical.axiomOfChoice hex
  refine ⟨s, fun q => (hs q).1, fun c hc hco => ?_⟩
  have st : ∀ q, R q → R (mg_f t c q) ∧ 60 * mg_wf w c q + H (mg_f t c q) ≤ x + H q := by
    intro q hq
    cases ho : o q with
    | false =>
      have e := hco q (hP q hq).1 ho
      have h := (hs q).2 hq ho
      show R (t (2 * q + c q)) ∧ 60 * w (2 * q + c q) + H (t (2 * q + c q)) ≤ x + H q
      rw [e]
      exact h
    | true => exact (hP q hq).2.2 ho (c q) (hc q) trivial
  have run : ∀ (k q : Nat), R q → R (mg_it (mg_f t c) k q) ∧ 60 * mg_S (mg_f t c) (mg_wf w c) k q + H (mg_it (mg_f t c) k q) ≤ (k : Int) * x + H q := by
    intro k
    induction k with
    | zero =>
      intro q hq
      refine ⟨hq, ?_⟩
      show 60 * (0 : Int) + H q ≤ ((0 : Nat) : Int) * x + H q
      rw [show ((0 : Nat) : Int) = 0 from rfl, Int.zero_mul]
      omega
    | succ k ih =>
      intro q hq
      have a := st q hq
      have b := ih _ a.1
      refine ⟨b.1, ?_⟩
      show 60 * (mg_wf w c q + mg_S (mg_f t c) (mg_wf w c) k (mg_f t c q)) + H (mg_it (mg_f t c) k (mg_f t c q)) ≤ ((k + 1 : Nat) : Int) * x + H q
      rw [show ((k + 1 : Nat) : Int) = (k : Int) + 1 from by omega, Int.add_mul, Int.one_mul]
      have a2 := a.2
      have b2 := b.2
      omega
  have h5 := (run 5 p hp).1
  have h60 := (run 60 _ h5).2
  rw [mg_60 (mg_f_lt hc ht) hn (hP p hp).1] at h60
  show mg_S (mg_f t c) (mg_wf w c) 60 (mg_it (mg_f t c) 5 p) ≤ x
  omega
theorem mg_mask (P : Nat → Bool) (n : Nat) : ∃ j, j < 2 ^ n ∧ ∀ q, j.testBit q = (decide (q < n) && P q) := by
  induction n with
  | zero => exact ⟨0, by decide, fun q => by rw [Nat.zero_testBit]; rfl⟩
  | succ n ih =>
    obtain ⟨j, hj, h⟩ := ih
    have hlt : 2 ^ n < 2 ^ (n + 1) := Nat.pow_lt_pow_right (by decide) (Nat.lt_succ_self n)
    cases hp : P n with
    | true =>
      refine ⟨j ||| 2 ^ n, Nat.or_lt_two_pow (by omega) hlt, fun q => ?_⟩
      rw [Nat.testBit_or, h, Nat.testBit_two_pow]
      by_cases e : q = n
      · rw [e, hp]; simp
      · have h1 : decide (n = q) = false := decide_eq_false (fun z => e z.symm)
        have h2 : decide (q < n + 1) = decide (q < n) := by
          by_cases l : q < n
          · rw [decide_eq_true l, decide_eq_true (by omega)]
          · rw [decide_eq_false l, decide_eq_false (by omega)]
        rw [h1, h2, Bool.or_false]
    | false =>
      refine ⟨j, by omega, fun q => ?_⟩
      rw [h]
      by_cases e : q = n
      · rw [e, hp]; simp
      · have h2 : decide (q < n + 1) = decide (q < n) := by
          by_cases l : q < n
          · rw [decide_eq_true l, decide_eq_true (by omega)]
          · rw [decide_eq_false l, decide_eq_false (by omega)]
        rw [h2]
/-- j holds places of the player b alone -/
def mg_vm (n : Nat) (o : Nat → Bool) (b : Bool) (j : Nat) : Prop := ∀ q, j.testBit q = true → q < n ∧ o q = b
theorem mg_pickmask {n : Nat} (hn : n ≤ 5) (o : Nat → Bool) (b : Bool) {s : Nat → Nat} (hs : ∀ q, s q < 2) : ∃ j, j < 32 ∧ mg_vm n o b j ∧ ∀ q, q < n → o q = b → mg_dg j q = s q := by
  obtain ⟨j, hj, h⟩ := mg_mask (fun q => decide (o q = b) && decide (s q = 1)) n
  have h32 : 2 ^ n ≤ 2 ^ 5 := Nat.pow_le_pow_right (by decide) hn
  refine ⟨j, by omega, fun q hq => ?_, fun q hq ho => ?_⟩
  · rw [h] at hq
    simp only [Bool.and_eq_true, decide_eq_true_eq] at hq
    exact ⟨hq.1, hq.2.1⟩
  · have h1 := hs q
    unfold mg_dg
    rw [h, decide_eq_true hq, decide_eq_true ho, Bool.true_and, Bool.true_and]
    by_cases e : s q = 1
    · rw [if_pos (decide_eq_true e), e]
    · rw [if_neg (fun z => e (of_decide_eq_true z))]
      omega
theorem mg_vm_no {n : Nat} {o : Nat → Bool} {b : Bool} {j q : Nat} (h : mg_vm n o b j) (ho : o q ≠ b) : j.testBit q = false := by
  cases e : j.testBit q with
  | false => rfl
  | true => exact absurd (h q e).2 ho
theorem mg_dg_l {i j q : Nat} (h : j.testBit q = false) : mg_dg (i ||| j) q = mg_dg i q := by
  unfold mg_dg
  rw [Nat.testBit_or, h, Bool.or_false]
theorem mg_dg_r {i j q : Nat} (h : i.testBit q = false) : mg_dg (i ||| j) q = mg_dg j q := by
  unfold mg_dg
  rw [Nat.testBit_or, h, Bool.false_or]
/-- sixty times the mean when place q takes digit q of j -/
def mg_XX (t : Nat → Nat) (w : Nat → Int) (p j : Nat) : Int := mg_X (mg_f t (mg_dg j)) (mg_wf w (mg_dg j)) p
def mg_Wx (n : Nat) (o : Nat → Bool) (t : Nat → Nat) (w : Nat → Int) (p i : Nat) (y : Int) : Prop :=
  (∃ j, j < 32 ∧ mg_vm n o false j ∧ y = mg_XX t w p (i ||| j)) ∧ ∀ j, j < 32 → mg_vm n o false j → y ≤ mg_XX t w p (i ||| j)
theorem mg_maxmin {n : Nat} {o : Nat → Bool} {t : Nat → Nat} {w : Nat → Int} {x y : Int} {p : Nat} (hn : n ≤ 5) (ht : ∀ i, i < 2 * n → t i < n) (h : mg_Vl n o t w mg_All x p) (h1 : ∃ i, i < 32 ∧ mg_vm n o true i ∧ mg_Wx n o t w p i y) (h2 : ∀ i, i < 32 → mg_vm n o true i → ∃ y', mg_Wx n o t w p i y' ∧ y' ≤ y) : y = x := by
  have up : y ≤ x := by
    obtain ⟨s, hs, hh⟩ := mg_strat hn ht h.1
    obtain ⟨j, hj, vj, ej⟩ := mg_pickmask hn o false hs
    obtain ⟨i, hi, vi, hW⟩ := h1
    have a := hW.2 j hj vj
    have b := hh (mg_dg (i ||| j)) (mg_dg_lt _) (fun q hq ho => by
      rw [mg_dg_r (mg_vm_no vi (by rw [ho]; decide))]
      exact ej q hq ho)
    exact Int.le_trans a b
  have dn : x ≤ y := by
    obtain ⟨s, hs, hh⟩ := mg_strat hn ht h.2
    obtain ⟨i, hi, vi, ei⟩ := mg_pickmask hn o true hs
    obtain ⟨y', hW, hy⟩ := h2 i hi vi
    obtain ⟨j, hj, vj, e⟩ := hW.1
    have b := hh (mg_dg (i ||| j)) (mg_dg_lt _) (fun q hq ho => by
      have ho' : o q = true := by
        have z : (!o q) = false := ho
        cases hq2 : o q with
        | true => rfl
        | false => rw [hq2] at z; exact absurd z (by decide)
      rw [mg_dg_l (mg_vm_no vj (by rw [ho']; decide))]
      exact ei q hq ho')
    have e2 : mg_X (mg_f t (mg_dg (i ||| j))) (mg_wf (mg_ng w) (mg_dg (i ||| j))) p = - mg_XX t w p (i ||| j) := mg_X_ng _ _ _
    rw [e2] at b
    omega
  omega
theorem mg_S_mul {f : Nat → Nat} {w : Nat → Int} {L z : Nat} (h : mg_it f L z = z) (k : Nat) : mg_S f w (L * k) z = (k : Int) * mg_S f w L z := by
  induction k with
  | zero =>
    rw [show ((0 : Nat) : Int) = 0 from rfl, Int.zero_mul]
    rfl
  | succ k ih =>
    rw [Nat.mul_succ, mg_S_add, mg_it_mul f L z h, ih, show ((k + 1 : Nat) : Int) = (k : Int) + 1 from by omega, Int.add_mul, Int.one_mul]
theorem mg_mean {f : Nat → Nat} {w : Nat → Int} {L z : Nat} (h1 : 1 ≤ L) (h5 : L ≤ 5) (h : mg_it f L z = z) : mg_S f w 60 z * (L : Int) = 60 * mg_S f w L z := by
  have hL : L = 1 ∨ L = 2 ∨ L = 3 ∨ L = 4 ∨ L = 5 := by omega
  rcases hL with e | e | e | e | e
  · subst e
    have a : mg_S f w 60 z = ((60 : Nat) : Int) * mg_S f w 1 z := mg_S_mul h 60
    omega
  · subst e
    have a : mg_S f w 60 z = ((30 : Nat) : Int) * mg_S f w 2 z := mg_S_mul h 30
    omega
  · subst e
    have a : mg_S f w 60 z = ((20 : Nat) : Int) * mg_S f w 3 z := mg_S_mul h 20
    omega
  · subst e
    have a : mg_S f w 60 z = ((15 : Nat) : Int) * mg_S f w 4 z := mg_S_mul h 15
    omega
  · subst e
    have a : mg_S f w 60 z = ((12 : Nat) : Int) * mg_S f w 5 z := mg_S_mul h 12
    omega
end
section
/-! the answer as a fraction in lowest terms -/
theorem mg_c5 {b : Nat} (h1 : 1 ≤ b) (h5 : b ≤ 5) : b = 1 ∨ b = 2 ∨ b = 3 ∨ b = 4 ∨ b = 5 := by omega
/-- B is the least denominator of x sixtieths, A the numerator -/
def mg_Low (n : Nat) (x A : Int) (B : Nat) : Prop := 1 ≤ B ∧ B ≤ n ∧ 60 * A = x * (B : Int) ∧ ∀ b : Nat, 1 ≤ b → b < B → ∀ a : Int, 60 * a ≠ x * (b : Int)
theorem mg_Low_uniq {n : Nat} {x A A' : Int} {B B' : Nat} (h : mg_Low n x A B) (h' : mg_Low n x A' B') : A = A' ∧ B = B' := by
  have e : B = B' := by
    rcases Nat.lt_trichotomy B B' with l | l | l
    · exact absurd h.2.2.1 (h'.2.2.2 B h.1 l A)
    · exact l
    · exact absurd h'.2.2.1 (h.2.2.2 B' h'.1 l A')
  have a := h.2.2.1
  have b := h'.2.2.1
  rw [e] at a
  exact ⟨by omega, e⟩
theorem mg_frac_bd {x A : Int} {B : Nat} (hx : -180 ≤ x ∧ x ≤ 180) (h1 : 1 ≤ B) (h5 : B ≤ 5) (h : 60 * A = x * (B : Int)) : -15 ≤ A ∧ A ≤ 15 := by
  rcases mg_c5 h1 h5 with e | e | e | e | e <;> subst e <;> omega
/-- the value of place p is A / B in lowest terms -/
def mg_Is (n : Nat) (o : Nat → Bool) (t : Nat → Nat) (w : Nat → Int) (p : Nat) (A : Int) (B : Nat) : Prop := ∃ x, mg_Vl n o t w mg_All x p ∧ mg_Low n x A B
theorem mg_Is_uniq {n : Nat} {o : Nat → Bool} {t : Nat → Nat} {w : Nat → Int} {p : Nat} {A A' : Int} {B B' : Nat} (h : mg_Is n o t w p A B) (h' : mg_Is n o t w p A' B') : A = A' ∧ B = B' := by
  obtain ⟨x, hx, hl⟩ := h
  obtain ⟨y, hy, hl'⟩ := h'
  have e := mg_Vl_uniq hx hy
  subst e
  exact mg_Low_uniq hl hl'
theorem mg_cmp {y y' T T' : Int} {D D' : Nat} (h1 : 1 ≤ D) (h5 : D ≤ 5) (h1' : 1 ≤ D') (h5' : D' ≤ 5) (h : y * (D : Int) = 60 * T) (h' : y' * (D' : Int) = 60 * T') : T * (D' : Int) ≤ T' * (D : Int) ↔ y ≤ y' := by
  rcases mg_c5 h1 h5 with e | e | e | e | e <;> subst e <;> rcases mg_c5 h1' h5' with e | e | e | e | e <;> subst e <;> omega
theorem mg_near_n {b B : Nat} {V x A r N k : Int} (hb1 : 1 ≤ b) (hb : b ≤ 5) (hbN : (b : Int) ≤ N) (hB1 : 1 ≤ B) (hB : B ≤ 5) (hBN : (B : Int) ≤ N) (hA : 60 * A = x * (B : Int)) (h1 : 60 * V ≤ k * x + 360 * (N - 1)) (h2 : k * x ≤ 60 * V + 360 * (N - 1)) (r1 : 2 * k * r ≤ 2 * (V * (b : Int)) + k) (r2 : 2 * (V * (b : Int)) + k < 2 * k * r + 2 * k) (hk : (N = 1 ∧ k = 13) ∨ (N = 2 ∧ k = 97) ∨ (N = 3 ∧ k = 325) ∨ (N = 4 ∧ k = 769) ∨ (N = 5 ∧ k = 1501)) : (V * (b : Int) - k * r ≤ 6 * N * (b : Int) ∧ -(6 * N * (b : Int)) ≤ V * (b : Int) - k * r) ↔ 60 * r = x * (b : Int) := by
  rcases hk with z | z | z | z | z <;> obtain ⟨rfl, rfl⟩ := z <;> rcases mg_c5 hb1 hb with e | e | e | e | e <;> subst e <;> (try omega) <;> rcases mg_c5 hB1 hB with e | e | e | e | e <;> subst e <;> omega
theorem mg_near {n b B : Nat} {V x A r : Int} (hn1 : 1 ≤ n) (hn : n ≤ 5) (hb1 : 1 ≤ b) (hb : b ≤ n) (hB1 : 1 ≤ B) (hB : B ≤ n) (hA : 60 * A = x * (B : Int)) (h1 : 60 * V ≤ ((4 * n * n * n * 3 + 1 : Nat) : Int) * x + 360 * ((n : Int) - 1)) (h2 : ((4 * n * n * n * 3 + 1 : Nat) : Int) * x ≤ 60 * V + 360 * ((n : Int) - 1)) (r1 : 2 * ((4 * n * n * n * 3 + 1 : Nat) : Int) * r ≤ 2 * (V * (b : Int)) + ((4 * n * n * n * 3 + 1 : Nat) : Int)) (r2 : 2 * (V * (b : Int)) + ((4 * n * n * n * 3 + 1 : Nat) : Int) < 2 * ((4 * n * n * n * 3 + 1 : Nat) : Int) * r + 2 * ((4 * n * n * n * 3 + 1 : Nat) : Int)) : (V * (b : Int) - ((4 * n * n * n * 3 + 1 : Nat) : Int) * r ≤ 6 * (n : Int) * (b : Int) ∧ -(6 * (n : Int) * (b : Int)) ≤ V * (b : Int) - ((4 * n * n * n * 3 + 1 : Nat) : Int) * r) ↔ 60 * r = x * (b : Int) := by
  refine mg_near_n hb1 (by omega) (by omega) hB1 (by omega) (by omega) hA h1 h2 r1 r2 ?_
  rcases mg_c5 hn1 hn with e | e | e | e | e <;> subst e
  · exact Or.inl ⟨rfl, rfl⟩
  · exact Or.inr (Or.inl ⟨rfl, rfl⟩)
  · exact Or.inr (Or.inr (Or.inl ⟨rfl, rfl⟩))
  · exact Or.inr (Or.inr (Or.inr (Or.inl ⟨rfl, rfl⟩)))
  · exact Or.inr (Or.inr (Or.inr (Or.inr ⟨rfl, rfl⟩)))
/-- the reference's way to lowest terms: what holds once the divisors above d are tried -/
def mg_Rd (n d : Nat) (x T : Int) (D : Nat) : Prop := 1 ≤ D ∧ D ≤ n ∧ 60 * T = x * (D : Int) ∧ ∀ e : Nat, d < e → e ≤ 5 → ¬ (T % (e : Int) = 0 ∧ D % e = 0)
theorem mg_Rd_end {n : Nat} (hn : n ≤ 5) {x T : Int} {D : Nat} (h : mg_Rd n 1 x T D) : mg_Low n x T D := by
  obtain ⟨h1, h2, h3, h4⟩ := h
  refine ⟨h1, h2, h3, fun b hb hbD a ha => ?_⟩
  have k2 := h4 2 (by decide) (by decide)
  have k3 := h4 3 (by decide) (by decide)
  have k4 := h4 4 (by decide) (by decide)
  have k5 := h4 5 (by decide) (by decide)
  clear h4
  rcases mg_c5 h1 (by omega) with e | e | e | e | e <;> subst e <;> rcases mg_c5 hb (by omega) with e | e | e | e | e <;> subst e <;> omega
theorem mg_Rd_no {n d : Nat} {x T : Int} {D : Nat} (h : mg_Rd n (d + 1) x T D) (hd : ¬ (T % ((d + 1 : Nat) : Int) = 0 ∧ D % (d + 1) = 0)) : mg_Rd n d x T D := by
  refine ⟨h.1, h.2.1, h.2.2.1, fun e he h5 => ?_⟩
  by_cases z : e = d + 1
  · rw [z]; exact hd
  · exact h.2.2.2 e (by omega) h5
theorem mg_Rd_yes {n d : Nat} (hn : n ≤ 5) (hd1 : 1 ≤ d) (hd : d ≤ 4) {x T : Int} {D : Nat} (h : mg_Rd n (d + 1) x T D) (hT : T % ((d + 1 : Nat) : Int) = 0) (hD : D % (d + 1) = 0) : mg_Rd n d x (T / ((d + 1 : Nat) : Int)) (D / (d + 1)) := by
  obtain ⟨h1, h2, h3, h4⟩ := h
  have k3 := h4 3
  have k4 := h4 4
  have k5 := h4 5
  clear h4
  have hd' : d = 1 ∨ d = 2 ∨ d = 3 ∨ d = 4 := by omega
  have key : 1 ≤ D / (d + 1) ∧ D / (d + 1) ≤ n ∧ 60 * (T / ((d + 1 : Nat) : Int)) = x * ((D / (d + 1) : Nat) : Int) := by
    clear k3 k4 k5
    rcases mg_c5 h1 (by omega) with e | e | e | e | e <;> subst e <;> rcases hd' with e | e | e | e <;> subst e <;> omega
  refine ⟨key.1, key.2.1, key.2.2, fun e he h5 => ?_⟩
  clear key
  have he' : e = 2 ∨ e = 3 ∨ e = 4 ∨ e = 5 := by omega
  rcases mg_c5 h1 (by omega) with e | e | e | e | e <;> subst e <;> rcases hd' with e | e | e | e <;> subst e <;> (try omega) <;> rcases he' with e | e | e | e <;> subst e <;> omega
/-- whole numbers from a fraction -/
theorem mg_sixty {x A : Int} {B : Nat} (h1 : 1 ≤ B) (h5 : B ≤ 5) (h : 60 * A = x * (B : Int)) : A * ((60 / B : Nat) : Int) = x := by
  rcases mg_c5 h1 h5 with e | e | e | e | e <;> subst e <;> omega
theorem mg_sixty_lt {x A r : Int} {B : Nat} (h1 : 1 ≤ B) (h5 : B ≤ 5) (h : 60 * A = x * (B : Int)) : 60 * A < (r + 1) * (B : Int) ↔ x ≤ r := by
  rcases mg_c5 h1 h5 with e | e | e | e | e <;> subst e <;> omega
/-- a over b to the nearest whole number, as the component computes it -/
theorem mg_floor {up m : Int} (hm : 0 < m) (hu : up < 0) (hd : up.tdiv m * m ≠ up) : up.tdiv m - 1 = up / m := by
  have e : up.tdiv m = up / m + if 0 ≤ up ∨ m ∣ up then 0 else m.sign := Int.tdiv_eq_ediv
  have hnd : ¬ (0 ≤ up ∨ m ∣ up) := by
    intro z
    rcases z with z | z
    · omega
    · rw [if_pos (Or.inr z), Int.add_zero] at e
      apply hd
      rw [e]
      exact Int.ediv_mul_cancel z
  rw [if_neg hnd, Int.sign_eq_one_of_pos hm] at e
  omega
theorem mg_floor0 {up m : Int} (hm : 0 < m) (hd : 0 ≤ up ∨ up.tdiv m * m = up) : up.tdiv m = up / m := by
  have e : up.tdiv m = up / m + if 0 ≤ up ∨ m ∣ up then 0 else m.sign := Int.tdiv_eq_ediv
  have hnd : 0 ≤ up ∨ m ∣ up := by
    rcases hd with z | z
    · exact Or.inl z
    · exact Or.inr ⟨up.tdiv m, by rw [Int.mul_comm]; exact z.symm⟩
  rw [if_pos hnd] at e
  omega
theorem mg_near_an {b : Nat} {V x a r N k : Int} (hb1 : 1 ≤ b) (hb : b ≤ 5) (hbN : (b : Int) ≤ N) (ha : 60 * a = x * (b : Int)) (h1 : 60 * V ≤ k * x + 360 * (N - 1)) (h2 : k * x ≤ 60 * V + 360 * (N - 1)) (r1 : 2 * k * r ≤ 2 * (V * (b : Int)) + k) (r2 : 2 * (V * (b : Int)) + k < 2 * k * r + 2 * k) (hk : (N = 1 ∧ k = 13) ∨ (N = 2 ∧ k = 97) ∨ (N = 3 ∧ k = 325) ∨ (N = 4 ∧ k = 769) ∨ (N = 5 ∧ k = 1501)) : r = a := by
  rcases hk with z | z | z | z | z <;> obtain ⟨rfl, rfl⟩ := z <;> rcases mg_c5 hb1 hb with e | e | e | e | e <;> subst e <;> omega
theorem mg_near_a {n b : Nat} {V x a r : Int} (hn1 : 1 ≤ n) (hn : n ≤ 5) (hb1 : 1 ≤ b) (hb : b ≤ n) (ha : 60 * a = x * (b : Int)) (h1 : 60 * V ≤ ((4 * n * n * n * 3 + 1 : Nat) : Int) * x + 360 * ((n : Int) - 1)) (h2 : ((4 * n * n * n * 3 + 1 : Nat) : Int) * x ≤ 60 * V + 360 * ((n : Int) - 1)) (r1 : 2 * ((4 * n * n * n * 3 + 1 : Nat) : Int) * r ≤ 2 * (V * (b : Int)) + ((4 * n * n * n * 3 + 1 : Nat) : Int)) (r2 : 2 * (V * (b : Int)) + ((4 * n * n * n * 3 + 1 : Nat) : Int) < 2 * ((4 * n * n * n * 3 + 1 : Nat) : Int) * r + 2 * ((4 * n * n * n * 3 + 1 : Nat) : Int)) : r = a := by
  refine mg_near_an hb1 (by omega) (by omega) ha h1 h2 r1 r2 ?_
  rcases mg_c5 hn1 hn with e | e | e | e | e <;> subst e
  · exact Or.inl ⟨rfl, rfl⟩
  · exact Or.inr (Or.inl ⟨rfl, rfl⟩)
  · exact Or.inr (Or.inr (Or.inl ⟨rfl, rfl⟩))
  · exact Or.inr (Or.inr (Or.inr (Or.inl ⟨rfl, rfl⟩)))
  · exact Or.inr (Or.inr (Or.inr (Or.inr ⟨rfl, rfl⟩)))
/-- the answer exists -/
theorem mg_Low_ex {n : Nat} {x T : Int} {D : Nat} (h1 : 1 ≤ D) (h : D ≤ n) (e : 60 * T = x * (D : Int)) : ∃ A B, mg_Low n x A B := by
  obtain ⟨B, ⟨hB1, hB2, A, hA⟩, hm⟩ := pk_least (fun b => 1 ≤ b ∧ b ≤ n ∧ ∃ a : Int, 60 * a = x * (b : Int)) ⟨D, h1, h, T, e⟩
  exact ⟨A, B, hB1, hB2, hA, fun b hb1 hb a ha => hm b hb ⟨hb1, by omega, a, ha⟩⟩
theorem mg_Is_ex {n : Nat} {o : Nat → Bool} {t : Nat → Nat} {w : Nat → Int} {p : Nat} (hn : n ≤ 5) (ht : ∀ i, i < 2 * n → t i < n) (hp : p < n) : ∃ A B, mg_Is n o t w p A B := by
  obtain ⟨x, hx⟩ := mg_determined hn ht o w hp
  obtain ⟨s1, hs1, h1⟩ := mg_strat hn ht hx.1
  obtain ⟨s2, hs2, h2⟩ := mg_strat hn ht hx.2
  obtain ⟨c, hcq⟩ : ∃ c : Nat → Nat, ∀ q, c q = if o q = true then s2 q else s1 q := ⟨_, fun _ => rfl⟩
  have hc : ∀ q, c q < 2 := by
    intro q
    rw [hcq]
    by_cases e : o q = true
    · rw [if_pos e]; exact hs2 q
    · rw [if_neg e]; exact hs1 q
  have a := h1 c hc (fun q _ ho => by rw [hcq, if_neg (by rw [ho]; decide)])
  have b := h2 c hc (fun q _ ho => by
    have ho' : (!o q) = false := ho
    rw [hcq, if_pos]
    cases hq : o q with
    | true => rfl
    | false => rw [hq] at ho'; exact absurd ho' (by decide))
  have e2 : mg_X (mg_f t c) (mg_wf (mg_ng w) c) p = - mg_X (mg_f t c) (mg_wf w c) p := mg_X_ng _ _ _
  rw [e2] at b
  obtain ⟨L, l1, l2, l3⟩ := mg_per (mg_f_lt hc ht) hn hp
  have m := mg_mean (w := mg_wf w c) l1 (by omega) l3
  have e3 : mg_X (mg_f t c) (mg_wf w c) p = x := by omega
  have e4 : mg_S (mg_f t c) (mg_wf w c) 60 (mg_it (mg_f t c) 5 p) = x := e3
  rw [e4] at m
  obtain ⟨A, B, hL⟩ := mg_Low_ex l1 l2 m.symm
  exact ⟨A, B, x, hx, hL⟩
end
section
/-! the component: rounds of best play, the nearest fraction -/
/-- the arrays hold the game -/
def mg_G (n : Nat) (o : Nat → Bool) (t : Nat → Nat) (w : Nat → Int) (pl go co : Nat → Int32) : Prop :=
  (1 ≤ n ∧ n ≤ 5) ∧ (∀ p, p < n → pl p = if o p = true then 1 else 0) ∧ ∀ i, i < 2 * n → go i = nI (t i) ∧ t i < n ∧ co i = mg_z (w i) ∧ -3 ≤ w i ∧ w i ≤ 3
theorem mg_G_t {n : Nat} {o : Nat → Bool} {t : Nat → Nat} {w : Nat → Int} {pl go co : Nat → Int32} (G : mg_G n o t w pl go co) : ∀ i, i < 2 * n → t i < n := fun i hi => (G.2.2 i hi).2.1
theorem mg_G_w {n : Nat} {o : Nat → Bool} {t : Nat → Nat} {w : Nat → Int} {pl go co : Nat → Int32} (G : mg_G n o t w pl go co) : ∀ i, i < 2 * n → -3 ≤ w i ∧ w i ≤ 3 := fun i hi => (G.2.2 i hi).2.2.2
theorem mg_m0 (i : Nat) : nI i * 2 = nI (2 * i) := (pk_mul i 2).trans (congrArg nI (Nat.mul_comm i 2))
theorem mg_m1 (i : Nat) : nI i * 2 + 1 = nI (2 * i + 1) := by rw [mg_m0]; exact nI_1 _
section
variable {n : Nat} {o : Nat → Bool} {t : Nat → Nat} {w : Nat → Int} {pl go co : Nat → Int32} {post : SX → Prop} {sv : Int32}
theorem mx_copy (hn : n ≤ 5) {th tp bt : Nat → Int32} (J : ∀ nw' : Nat → Int32, (∀ q, q < n → nw' q = th q) → post (nI n, sv, pl, go, co, nw', th, tp, bt)) : ∀ (d i : Nat) (nw : Nat → Int32), i + d = n → (∀ q, q < i → nw q = th q) → wX_playRound_119 post (nI n) sv (d + 1) (nI i) pl go co nw th tp bt := by
  intro d
  induction d with
  | zero =>
    intro i nw hi h
    have e : i = n := by omega
    subst e
    exact br_t (Int32.le_refl _) (J nw h)
  | succ d ih =>
    intro i nw hi h
    have c : (nI i).toNatClampNeg = i := nI_clamp (by omega)
    refine br_f (nI_ge (by omega) (by omega)) ⟨vp_in_nI (by omega) (by omega), vp_in_nI (by omega) (by omega), nm_e (nm_r (nI_1 i) (ih (i + 1) _ (by omega) ?_))⟩
    rw [c]
    intro q hq
    by_cases e : q = i
    · rw [e, pk_us]
    · rw [pk_un e]
      exact h q (by omega)
theorem mx_round2 (G : mg_G n o t w pl go co) {V : Nat → Int} {nw tp bt : Nat → Int32} (hV : ∀ q, q < n → nw q = mg_z (V q) ∧ -100000 ≤ V q ∧ V q ≤ 100000) (J : ∀ th' : Nat → Int32, (∀ q, q < n → th' q = mg_z (mg_pick (o q) (w (2 * q) + V (t (2 * q))) (w (2 * q + 1) + V (t (2 * q + 1))))) → ∃ k, wX_playRound_119 post (nI n) sv k 0 pl go co nw th' tp bt) : ∀ (d i : Nat) (th : Nat → Int32), i + d = n → (∀ q, q < i → th q = mg_z (mg_pick (o q) (w (2 * q) + V (t (2 * q))) (w (2 * q + 1) + V (t (2 * q + 1))))) → wX_playRound_2 post (nI n) sv (d + 1) (nI i) pl go co nw th tp bt := by
  have hn5 := G.1.2
  intro d
  induction d with
  | zero =>
    intro i th hi h
    have e : i = n := by omega
    subst e
    exact br_t (Int32.le_refl _) (J th h)
  | succ d ih =>
    intro i th hi h
    have c : (nI i).toNatClampNeg = i := nI_clamp (by omega)
    obtain ⟨g0, l0, c0, b0⟩ := G.2.2 (2 * i) (by omega)
    obtain ⟨g1, l1, c1, b1⟩ := G.2.2 (2 * i + 1) (by omega)
    obtain ⟨v0, v0l, v0u⟩ := hV _ l0
    obtain ⟨v1, v1l, v1u⟩ := hV _ l1
    have e0 : co (nI i * 2).toNatClampNeg + nw (go (nI i * 2).toNatClampNeg).toNatClampNeg = mg_z (w (2 * i) + V (t (2 * i))) := by
      rw [mg_m0, nI_clamp (n := 2 * i) (by omega), g0, nI_clamp (n := t (2 * i)) (by omega), v0, c0, mg_z_add]
    have e1 : co (nI i * 2 + 1).toNatClampNeg + nw (go (nI i * 2 + 1).toNatClampNeg).toNatClampNeg = mg_z (w (2 * i + 1) + V (t (2 * i + 1))) := by
      rw [mg_m1, nI_clamp (n := 2 * i + 1) (by omega), g1, nI_clamp (n := t (2 * i + 1)) (by omega), v1, c1, mg_z_add]
    have i0 : vp_in (nI i * 2) 10 := by rw [mg_m0]; exact vp_in_nI (by omega) (by omega)
    have i1 : vp_in (nI i * 2 + 1) 10 := by rw [mg_m1]; exact vp_in_nI (by omega) (by omega)
    have j0 : vp_in (go (nI i * 2).toNatClampNeg) 5 := by
      rw [mg_m0, nI_clamp (n := 2 * i) (by omega), g0]
      exact vp_in_nI (by omega) (by omega)
    have j1 : vp_in (go (nI i * 2 + 1).toNatClampNeg) 5 := by
      rw [mg_m1, nI_clamp (n := 2 * i + 1) (by omega), g1]
      exact vp_in_nI (by omega) (by omega)
    have ii : vp_in (nI i) 5 := vp_in_nI (by omega) (by omega)
    have goon : ∀ r : Int, r = mg_pick (o i) (w (2 * i) + V (t (2 * i))) (w (2 * i + 1) + V (t (2 * i + 1))) → wX_playRound_2 post (nI n) sv (d + 1) (nI (i + 1)) pl go co nw (upd th (nI i).toNatClampNeg (mg_z r)) tp bt := by
      intro r er
      refine ih (i + 1) _ (by omega) ?_
      rw [c]
      intro q hq
      by_cases e : q = i
      · rw [e, pk_us, er]
      · rw [pk_un e]
        exact h q (by omega)
    generalize hF : w (2 * i) + V (t (2 * i)) = F at e0 goon
    generalize hS : w (2 * i + 1) + V (t (2 * i + 1)) = S at e1 goon
    have hp := G.2.1 i (by omega)
    refine br_f (nI_ge (by omega) (by omega)) ⟨i0, i0, j0, nm_r e0 ⟨i1, i1, j1, nm_r e1 ⟨ii, ?_⟩⟩⟩
    cases ho : o i with
    | true =>
      rw [ho] at hp goon
      have hp1 : pl (nI i).toNatClampNeg = 1 := by rw [c, hp, if_pos rfl]
      refine br_t hp1 (mg_b_lt F S (fun l => ?_) (fun l => ?_) rfl rfl (by omega) (by omega))
      · exact br_t rfl ⟨ii, nm_e (nm_r (nI_1 i) (goon S (by rw [mg_pick_t]; unfold mg_mx; rw [if_neg (by omega)])))⟩
      · exact br_f (by decide) ⟨ii, nm_e (nm_r (nI_1 i) (goon F (by rw [mg_pick_t]; unfold mg_mx; rw [if_pos l])))⟩
    | false =>
      rw [ho] at hp goon
      have hp1 : ¬ pl (nI i).toNatClampNeg = 1 := by rw [c, hp, if_neg (by decide)]; decide
      refine br_f hp1 (mg_b_lt S F (fun l => ?_) (fun l => ?_) rfl rfl (by omega) (by omega))
      · exact br_t rfl ⟨ii, nm_e (nm_r (nI_1 i) (goon S (by rw [mg_pick_f]; unfold mg_mn; rw [if_neg (by omega)])))⟩
      · exact br_f (by decide) ⟨ii, nm_e (nm_r (nI_1 i) (goon F (by rw [mg_pick_f]; unfold mg_mn; rw [if_pos l])))⟩
theorem mx_playRound (G : mg_G n o t w pl go co) {V : Nat → Int} {nw th tp bt : Nat → Int32} (hV : ∀ q, q < n → nw q = mg_z (V q) ∧ -100000 ≤ V q ∧ V q ≤ 100000) (J : ∀ nw' th' : Nat → Int32, (∀ q, q < n → nw' q = mg_z (mg_pick (o q) (w (2 * q) + V (t (2 * q))) (w (2 * q + 1) + V (t (2 * q + 1))))) → post (nI n, sv, pl, go, co, nw', th', tp, bt)) : wpX_playRound post (nI n, sv, pl, go, co, nw, th, tp, bt) :=
  ⟨n + 1, mx_round2 G hV (fun th' h => ⟨n + 1, mx_copy G.1.2 (fun nw' h' => J nw' th' (fun q hq => (h' q hq).trans (h q hq))) n 0 nw (Nat.zero_add n) (fun q hq => absurd hq (Nat.not_lt_zero q))⟩) n 0 th (Nat.zero_add n) (fun q hq => absurd hq (Nat.not_lt_zero q))⟩
/-- the number of rounds -/
def mg_K (n : Nat) : Nat := 4 * n * n * n * 3 + 1
theorem mg_K_le (h1 : 1 ≤ n) (h : n ≤ 5) : mg_K n ≤ 1501 := by
  rcases mg_c5 h1 h with e | e | e | e | e <;> subst e <;> decide
theorem mx_s38 (G : mg_G n o t w pl go co) {tp bt : Nat → Int32} (J : ∀ nw' th' : Nat → Int32, (∀ q, q < n → nw' q = mg_z (mg_V o t w (mg_K n) q)) → ∃ m, wX_solve_62 post (nI (mg_K n)) m 0 (nI n) sv pl go co nw' th' tp bt) : ∀ (d i : Nat) (nw th : Nat → Int32), i + d = mg_K n → (∀ q, q < n → nw q = mg_z (mg_V o t w i q)) → wX_solve_38 post (nI (mg_K n)) (d + 1) (nI i) (nI n) sv pl go co nw th tp bt := by
  have hK := mg_K_le G.1.1 G.1.2
  intro d
  induction d with
  | zero =>
    intro i nw th hi h
    have e : i = mg_K n := by omega
    subst e
    exact br_t (Int32.le_refl _) (J nw th h)
  | succ d ih =>
    intro i nw th hi h
    have hV : ∀ q, q < n → nw q = mg_z (mg_V o t w i q) ∧ -100000 ≤ mg_V o t w i q ∧ mg_V o t w i q ≤ 100000 := by
      intro q hq
      have := mg_V_abs (o := o) (mg_G_t G) (mg_G_w G) i q hq
      exact ⟨h q hq, by omega, by omega⟩
    refine br_f (nI_ge (by omega) (by omega)) (br_f (nI_ge (b := 2000) (by omega) (by decide)) (mx_playRound G hV (fun nw' th' h' => nm_r (nI_1 i) (ih (i + 1) nw' th' (by omega) h'))))
end
end
section
/-! the component: the nearest fraction, solve -/
/-- top and bottom hold the answers -/
def mg_Sol (n : Nat) (o : Nat → Bool) (t : Nat → Nat) (w : Nat → Int) (tp bt : Nat → Int32) : Prop := ∀ p, p < n → ∃ (A : Int) (B : Nat), mg_Is n o t w p A B ∧ tp p = mg_z A ∧ bt p = nI B
theorem mx_rounded {post : Int32 → Prop} {u : SX} {a k : Int} (hk1 : 1 ≤ k) (hk : k ≤ 100000) (ha : -10000000 ≤ a ∧ a ≤ 10000000) (J : ∀ r : Int, -10000000 ≤ r → r ≤ 10000000 → 2 * k * r ≤ 2 * a + k → 2 * a + k < 2 * k * r + 2 * k → post (mg_z r)) : wpX_roundedOver post u (mg_z a) (mg_z k) := by
  obtain ⟨f_n, f_solved, a1, a2, a3, a4, a5, a6, a7⟩ := u
  have hup : (2 : Int32) * mg_z a + mg_z k = mg_z (2 * a + k) := by
    rw [← mg_z_add, ← mg_z_mul]
    rfl
  have h2k : (2 : Int32) * mg_z k = mg_z (2 * k) := by
    rw [← mg_z_mul]
    rfl
  have hq : mg_z (2 * a + k) / ((2 : Int32) * mg_z k) = mg_z ((2 * a + k).tdiv (2 * k)) := by
    rw [h2k, mg_z_div (by omega) (by omega)]
  have hz : ¬ (2 : Int32) * mg_z k = 0 := by
    rw [h2k]
    intro z
    have := (mg_z_eq (b := 0) (by omega) (by omega)).mp z
    omega
  have hqn : ((2 * a + k).tdiv (2 * k)).natAbs ≤ (2 * a + k).natAbs := Int.natAbs_tdiv_le_natAbs _ _
  have hfl : ∀ r : Int, r = (2 * a + k) / (2 * k) → -10000000 ≤ r → r ≤ 10000000 → post (mg_z r) := by
    intro r er h1 h2
    have b1 : 2 * k * ((2 * a + k) / (2 * k)) ≤ 2 * a + k := Int.mul_ediv_self_le (by omega)
    have b2 : 2 * a + k < 2 * k * ((2 * a + k) / (2 * k)) + 2 * k := Int.lt_mul_ediv_self_add (by omega)
    rw [← er] at b1 b2
    exact J r h1 h2 b1 b2
  have hb : -10000000 ≤ (2 * a + k) / (2 * k) ∧ (2 * a + k) / (2 * k) ≤ 10000000 := by
    have b1 : 2 * k * ((2 * a + k) / (2 * k)) ≤ 2 * a + k := Int.mul_ediv_self_le (by omega)
    have b2 : 2 * a + k < 2 * k * ((2 * a + k) / (2 * k)) + 2 * k := Int.lt_mul_ediv_self_add (by omega)
    generalize (2 * a + k) / (2 * k) = q at b1 b2
    constructor
    · apply Classical.byContradiction
      intro z
      have : 2 * k * (q + 1) ≤ 2 * k * (-10000000) := Int.mul_le_mul_of_nonneg_left (by omega) (by omega)
      rw [Int.mul_add, Int.mul_one] at this
      omega
    · apply Classical.byContradiction
      intro z
      have : 2 * k * 10000001 ≤ 2 * k * q := Int.mul_le_mul_of_nonneg_left (by omega) (by omega)
      omega
  have hmul : mg_z ((2 * a + k).tdiv (2 * k)) * 2 * mg_z k = mg_z ((2 * a + k).tdiv (2 * k) * (2 * k)) := by
    rw [← Int.mul_assoc, ← mg_z_mul, ← mg_z_mul]
    rfl
  have hmb : -100000000 ≤ (2 * a + k).tdiv (2 * k) * (2 * k) ∧ (2 * a + k).tdiv (2 * k) * (2 * k) ≤ 100000000 := by
    have h := Int.mul_tdiv_add_tmod (2 * a + k) (2 * k)
    have h' : ((2 * a + k).tmod (2 * k)).natAbs ≤ (2 * a + k).natAbs := by
      rw [Int.natAbs_tmod]
      exact Nat.mod_le _ _
    rw [Int.mul_comm] at h
    omega
  refine mg_b_le 1 k (fun _ => nm_r hup ⟨hz, nm_r hq ?_⟩) (fun l => absurd l (by omega)) rfl rfl (by omega) (by omega)
  refine mg_b_le 0 (2 * a + k) (fun l => ?_) (fun l => ?_) rfl rfl (by omega) (by omega)
  · have e := mg_floor0 (up := 2 * a + k) (m := 2 * k) (by omega) (Or.inl l)
    exact hfl _ e (by rw [e]; exact hb.1) (by rw [e]; exact hb.2)
  · refine mg_b_eq ((2 * a + k).tdiv (2 * k) * (2 * k)) (2 * a + k) (fun z => ?_) (fun z => ?_) hmul rfl (by omega) (by omega)
    · have e := mg_floor0 (up := 2 * a + k) (m := 2 * k) (by omega) (Or.inr z)
      exact hfl _ e (by rw [e]; exact hb.1) (by rw [e]; exact hb.2)
    · have e := mg_floor (up := 2 * a + k) (m := 2 * k) (by omega) l z
      refine nm_r (e' := mg_z ((2 * a + k).tdiv (2 * k) - 1)) ?_ (hfl _ e (by rw [e]; exact hb.1) (by rw [e]; exact hb.2))
      rw [Int.sub_eq_add_neg, ← mg_z_add]
      rfl
section
variable {n : Nat} {o : Nat → Bool} {t : Nat → Nat} {w : Nat → Int} {pl go co : Nat → Int32} {post : SX → Prop} {sv : Int32}
/-- what one turn of the search asks -/
theorem mx_near1 {p b m : Nat} {V : Int} {x4 : Int32} {nw th tp bt : Nat → Int32} (hn1 : 1 ≤ n) (hn : n ≤ 5) (hp : p < n) (hb1 : 1 ≤ b) (hb : b ≤ n) (hV : nw p = mg_z V) (hVb : -100000 ≤ V ∧ V ≤ 100000) (J : ∀ (r off : Int), 2 * (mg_K n : Int) * r ≤ 2 * (V * (b : Int)) + (mg_K n : Int) → 2 * (V * (b : Int)) + (mg_K n : Int) < 2 * (mg_K n : Int) * r + 2 * (mg_K n : Int) → 0 ≤ off → off ≤ 10000000 → (off = V * (b : Int) - (mg_K n : Int) * r ∨ off = -(V * (b : Int) - (mg_K n : Int) * r)) → wX_nearest_66 post (wX_nearest_15 post (nI p) (nI (mg_K n)) (nI (6 * n)) (nI n) sv m) (nI p) (nI (mg_K n)) (nI (6 * n)) x4 (nI b) (mg_z r) (mg_z off) (nI n) sv pl go co nw th tp bt) : wX_nearest_15 post (nI p) (nI (mg_K n)) (nI (6 * n)) (nI n) sv (m + 1) x4 (nI b) pl go co nw th tp bt := by
  have hK := mg_K_le hn1 hn
  have hK1 : 1 ≤ mg_K n := Nat.le_add_left 1 _
  have c : (nI p).toNatClampNeg = p := nI_clamp (by omega)
  have ip : vp_in (nI p) 5 := vp_in_nI (by omega) (by omega)
  have ea : nw (nI p).toNatClampNeg * nI b = mg_z (V * (b : Int)) := by rw [c, hV, mg_z_nI, mg_z_mul]
  have hVB : -500000 ≤ V * (b : Int) ∧ V * (b : Int) ≤ 500000 := by
    rcases mg_c5 hb1 (by omega) with e | e | e | e | e <;> subst e <;> omega
  refine br_f (nI_nlt (by omega) (by omega)) ⟨ip, ?_⟩
  rw [ea, mg_z_nI (mg_K n)]
  refine mx_rounded (by omega) (by omega) (by omega) (fun r h1 h2 r1 r2 => ?_)
  have hoff : -5000000 ≤ V * (b : Int) - (mg_K n : Int) * r ∧ V * (b : Int) - (mg_K n : Int) * r ≤ 5000000 := by
    have e : 2 * (mg_K n : Int) * r = 2 * ((mg_K n : Int) * r) := Int.mul_assoc _ _ _
    rw [e] at r1 r2
    omega
  have e7 : mg_z (V * (b : Int)) - mg_z (mg_K n : Int) * mg_z r = mg_z (V * (b : Int) - (mg_K n : Int) * r) := by rw [mg_z_mul, mg_z_sub]
  refine ⟨ip, nm_r e7 (mg_b_le 0 (V * (b : Int) - (mg_K n : Int) * r) (fun l => ?_) (fun l => ?_) rfl rfl (by omega) (by omega))⟩
  · have := J r _ r1 r2 l (by omega) (Or.inl rfl)
    rw [mg_z_nI (mg_K n)] at this
    exact this
  · have := J r _ r1 r2 (by omega) (by omega) (Or.inr rfl)
    rw [mg_z_nI (mg_K n)] at this
    exact nm_r (mg_z_neg _) this
/-- once found, the rest of the search does nothing -/
theorem mx_near_found {p : Nat} {V : Int} {nw th tp bt : Nat → Int32} (hn1 : 1 ≤ n) (hn : n ≤ 5) (hp : p < n) (hV : nw p = mg_z V) (hVb : -100000 ≤ V ∧ V ≤ 100000) (J : post (nI n, sv, pl, go, co, nw, th, tp, bt)) : ∀ (d b : Nat), 1 ≤ b → b + d = n + 1 → wX_nearest_15 post (nI p) (nI (mg_K n)) (nI (6 * n)) (nI n) sv (d + 1) 1 (nI b) pl go co nw th tp bt := by
  intro d
  induction d with
  | zero =>
    intro b hb1 hb
    exact br_t (nI_lt (by omega) (by omega)) J
  | succ d ih =>
    intro b hb1 hb
    exact mx_near1 hn1 hn hp hb1 (by omega) hV hVb (fun r off _ _ _ _ _ => br_f (by decide) (nm_r (nI_1 b) (ih (b + 1) (by omega) (by omega))))
theorem mx_near_go {p B : Nat} {V x A : Int} {nw th tp bt : Nat → Int32} (hn1 : 1 ≤ n) (hn : n ≤ 5) (hp : p < n) (hV : nw p = mg_z V) (hVb : -100000 ≤ V ∧ V ≤ 100000) (hL : mg_Low n x A B) (h1 : 60 * V ≤ (mg_K n : Int) * x + 360 * ((n : Int) - 1)) (h2 : (mg_K n : Int) * x ≤ 60 * V + 360 * ((n : Int) - 1)) (J : post (nI n, sv, pl, go, co, nw, th, upd tp p (mg_z A), upd bt p (nI B))) : ∀ (d b : Nat), 1 ≤ b → b ≤ B → b + d = n + 1 → wX_nearest_15 post (nI p) (nI (mg_K n)) (nI (6 * n)) (nI n) sv (d + 1) 0 (nI b) pl go co nw th tp bt := by
  have hBn := hL.2.1
  have hB1 := hL.1
  intro d
  induction d with
  | zero =>
    intro b hb1 hbB hb
    omega
  | succ d ih =>
    intro b hb1 hbB hb
    have c : (nI p).toNatClampNeg = p := nI_clamp (by omega)
    have ip : vp_in (nI p) 5 := vp_in_nI (by omega) (by omega)
    refine mx_near1 hn1 hn hp hb1 (by omega) hV hVb (fun r off r1 r2 o0 o1 ho => br_t rfl ?_)
    have hnear : (V * (b : Int) - (mg_K n : Int) * r ≤ 6 * (n : Int) * (b : Int) ∧ -(6 * (n : Int) * (b : Int)) ≤ V * (b : Int) - (mg_K n : Int) * r) ↔ 60 * r = x * (b : Int) := mg_near hn1 hn hb1 (by omega) hB1 hBn hL.2.2.1 h1 h2 r1 r2
    have es : nI (6 * n) * nI b = mg_z (6 * (n : Int) * (b : Int)) := by
      rw [pk_mul, mg_z_nI]
      exact congrArg mg_z (by rw [Int.natCast_mul, Int.natCast_mul]; rfl)
    have hsb : 0 ≤ 6 * (n : Int) * (b : Int) ∧ 6 * (n : Int) * (b : Int) ≤ 150 := by
      rcases mg_c5 hb1 (by omega) with e | e | e | e | e <;> subst e <;> omega
    refine mg_b_lt (6 * (n : Int) * (b : Int)) off (fun l => ?_) (fun l => ?_) es rfl (by omega) (by omega)
    · have hne : b ≠ B := by
        intro e
        have hA := hL.2.2.1
        rw [← e] at hA
        have ea := mg_near_a hn1 hn hb1 (by omega) hA h1 h2 r1 r2
        rw [← ea] at hA
        have hh := hnear.mpr hA
        have h1' := hh.1
        have h2' := hh.2
        rcases ho with z | z
        · exact absurd (z ▸ l) (by show ¬ _ < _; exact Int.not_lt.mpr h1')
        · have : off ≤ 6 * (n : Int) * (b : Int) := by
            rw [z]
            exact Int.neg_le_of_neg_le h2'
          omega
      exact nm_r (nI_1 b) (ih (b + 1) (by omega) (by omega) (by omega))
    · have hr : 60 * r = x * (b : Int) := hnear.mp (by rcases ho with e | e <;> omega)
      have hbB' : b = B := by
        apply Classical.byContradiction
        intro z
        exact hL.2.2.2 b hb1 (by omega) r hr
      have hrA : r = A := by
        have hA := hL.2.2.1
        rw [← hbB'] at hA
        omega
      refine ⟨ip, nm_e ⟨ip, nm_e (nm_r (nI_1 b) ?_)⟩⟩
      rw [c, hrA, hbB']
      rw [hbB'] at hb
      exact mx_near_found hn1 hn hp hV hVb J d (B + 1) (by omega) (by omega)
end
section
variable {n : Nat} {o : Nat → Bool} {t : Nat → Nat} {w : Nat → Int} {pl go co : Nat → Int32} {post : SX → Prop} {sv : Int32}
theorem mx_nearest {p B : Nat} {V x A : Int} {nw th tp bt : Nat → Int32} (hn1 : 1 ≤ n) (hn : n ≤ 5) (hp : p < n) (hV : nw p = mg_z V) (hVb : -100000 ≤ V ∧ V ≤ 100000) (hL : mg_Low n x A B) (h1 : 60 * V ≤ (mg_K n : Int) * x + 360 * ((n : Int) - 1)) (h2 : (mg_K n : Int) * x ≤ 60 * V + 360 * ((n : Int) - 1)) (J : post (nI n, sv, pl, go, co, nw, th, upd tp p (mg_z A), upd bt p (nI B))) : wpX_nearest post (nI n, sv, pl, go, co, nw, th, tp, bt) (nI p) (nI (mg_K n)) := by
  have e : (2 : Int32) * nI n * 3 = nI (6 * n) := by
    show nI 2 * nI n * nI 3 = _
    rw [pk_mul, pk_mul]
    exact congrArg nI (by omega)
  exact nm_r e ⟨n + 1, mx_near_go hn1 hn hp hV hVb hL h1 h2 J n 1 (by omega) hL.1 (by omega)⟩
theorem mx_s62 (G : mg_G n o t w pl go co) {nw th : Nat → Int32} (hnw : ∀ q, q < n → nw q = mg_z (mg_V o t w (mg_K n) q)) (J : ∀ tp' bt' : Nat → Int32, mg_Sol n o t w tp' bt' → post (nI n, 1, pl, go, co, nw, th, tp', bt')) : ∀ (d i : Nat) (tp bt : Nat → Int32), i + d = n → (∀ p, p < i → ∃ (A : Int) (B : Nat), mg_Is n o t w p A B ∧ tp p = mg_z A ∧ bt p = nI B) → wX_solve_62 post (nI (mg_K n)) (d + 1) (nI i) (nI n) sv pl go co nw th tp bt := by
  have hn1 := G.1.1
  have hn5 := G.1.2
  have hK := mg_K_le hn1 hn5
  intro d
  induction d with
  | zero =>
    intro i tp bt hi h
    have e : i = n := by omega
    subst e
    exact br_t (Int32.le_refl _) (J tp bt h)
  | succ d ih =>
    intro i tp bt hi h
    obtain ⟨A, B, x, hx, hL⟩ := mg_Is_ex (o := o) (w := w) (p := i) hn5 (mg_G_t G) (by omega)
    have hab := mg_V_abs (o := o) (mg_G_t G) (mg_G_w G) (mg_K n) i (by omega)
    have hnr := mg_V_near (by omega) (mg_G_t G) (mg_G_w G) hx (mg_K n)
    refine br_f (nI_ge (by omega) (by omega)) (mx_nearest hn1 hn5 (by omega) (hnw i (by omega)) (by omega) hL hnr.1 hnr.2 (nm_r (nI_1 i) (ih (i + 1) _ _ (by omega) (fun p hp => ?_))))
    by_cases e : p = i
    · rw [e]
      exact ⟨A, B, ⟨x, hx, hL⟩, pk_us, pk_us⟩
    · obtain ⟨A', B', h1, h2, h3⟩ := h p (by omega)
      exact ⟨A', B', h1, (pk_un e).trans h2, (pk_un e).trans h3⟩
theorem mx_s10 (G : mg_G n o t w pl go co) {tp bt : Nat → Int32} (J : ∀ nw' th' tp' bt' : Nat → Int32, mg_Sol n o t w tp' bt' → post (nI n, 1, pl, go, co, nw', th', tp', bt')) : ∀ (d i : Nat) (nw th : Nat → Int32), i + d = n → (∀ q, q < i → nw q = 0) → wX_solve_10 post (nI n) sv (d + 1) (nI i) pl go co nw th tp bt := by
  have hn5 := G.1.2
  intro d
  induction d with
  | zero =>
    intro i nw th hi h
    have e : i = n := by omega
    subst e
    have eK : (4 : Int32) * nI i * nI i * nI i * 3 + 1 = nI (mg_K i) := by
      show nI 4 * nI i * nI i * nI i * nI 3 + nI 1 = _
      rw [pk_mul, pk_mul, pk_mul, pk_mul, nI_add]
      rfl
    refine br_t (Int32.le_refl _) ?_
    show ∃ n38 : Nat, wX_solve_38 post ((4 : Int32) * nI i * nI i * nI i * 3 + 1) n38 0 (nI i) sv pl go co nw th tp bt
    rw [eK]
    exact ⟨mg_K i + 1, mx_s38 G (fun nw' th' h' => ⟨i + 1, mx_s62 G h' (fun tp' bt' hS => J nw' th' tp' bt' hS) i 0 tp bt (Nat.zero_add i) (fun p hp => absurd hp (Nat.not_lt_zero p))⟩) (mg_K i) 0 nw th (Nat.zero_add _) (fun q hq => h q hq)⟩
  | succ d ih =>
    intro i nw th hi h
    have c : (nI i).toNatClampNeg = i := nI_clamp (by omega)
    refine br_f (nI_ge (by omega) (by omega)) ⟨vp_in_nI (by omega) (by omega), nm_e (nm_r (nI_1 i) (ih (i + 1) _ th (by omega) ?_))⟩
    rw [c]
    intro q hq
    by_cases e : q = i
    · rw [e, pk_us]
    · rw [pk_un e]
      exact h q (by omega)
theorem mx_solve (G : mg_G n o t w pl go co) {nw th tp bt : Nat → Int32} (hs : sv = 0 ∨ mg_Sol n o t w tp bt) (J : ∀ (sv' : Int32) (nw' th' tp' bt' : Nat → Int32), mg_Sol n o t w tp' bt' → post (nI n, sv', pl, go, co, nw', th', tp', bt')) : wpX_solve post (nI n, sv, pl, go, co, nw, th, tp, bt) := by
  by_cases z : sv = 0
  · exact br_t z ⟨n + 1, mx_s10 G (fun nw' th' tp' bt' hS => J 1 nw' th' tp' bt' hS) n 0 nw th (Nat.zero_add n) (fun q hq => absurd hq (Nat.not_lt_zero q))⟩
  · exact br_f z (J sv nw th tp bt (hs.resolve_left z))
end
end
section
/-! the reference: the mean of one way, the worst, the value -/
theorem mg_ix {c q : Nat} (hc : c < 32) (hq : q < 5) : (2 : Int32) * nI q + ((nI c >>> (nI q &&& 31)) &&& 1) = nI (2 * q + mg_dg c q) := by
  rw [mg_bit (by omega) (by omega)]
  show nI 2 * nI q + _ = _
  rw [pk_mul, nI_add]
theorem mg_it_s (f : Nat → Nat) (k z : Nat) : mg_it f (k + 1) z = f (mg_it f k z) := mg_it_add f k 1 z
theorem mg_S_s (f : Nat → Nat) (w : Nat → Int) (k z : Nat) : mg_S f w (k + 1) z = mg_S f w k z + w (mg_it f k z) := by
  rw [mg_S_add]
  show _ + (w (mg_it f k z) + 0) = _
  omega
theorem mg_S_abs {n : Nat} {f : Nat → Nat} {w : Nat → Int} (hf : ∀ p, p < n → f p < n) (hw : ∀ p, p < n → -3 ≤ w p ∧ w p ≤ 3) (k : Nat) : ∀ p, p < n → -(3 * (k : Int)) ≤ mg_S f w k p ∧ mg_S f w k p ≤ 3 * (k : Int) := by
  induction k with
  | zero => intro p _; exact ⟨by show -(3 * ((0 : Nat) : Int)) ≤ 0; omega, by show (0 : Int) ≤ 3 * ((0 : Nat) : Int); omega⟩
  | succ k ih =>
    intro p hp
    have a := ih _ (hf p hp)
    have b := hw p hp
    show -(3 * ((k + 1 : Nat) : Int)) ≤ w p + mg_S f w k (f p) ∧ w p + mg_S f w k (f p) ≤ 3 * ((k + 1 : Nat) : Int)
    omega
section
variable {n : Nat} {o : Nat → Bool} {t : Nat → Nat} {w : Nat → Int} {ow ta we : Nat → Int32} {post : SY → Prop} {wt wb tp bt : Int32}
theorem my_mstep (G : mg_G n o t w ow ta we) {c z i m : Nat} (hc : c < 32) (hz : z < n) (hi : i < 5) (J : mg_it (mg_f t (mg_dg c)) (i + 1) z = z → post (nI n, mg_z (mg_S (mg_f t (mg_dg c)) (mg_wf w (mg_dg c)) (i + 1) z), nI (i + 1), wt, wb, tp, bt, ow, ta, we)) (N : mg_it (mg_f t (mg_dg c)) (i + 1) z ≠ z → wY_mean_51 post (nI c) (nI z) (nI n) wt wb tp bt ow ta we (m + 1) (nI (mg_it (mg_f t (mg_dg c)) (i + 1) z)) 0 (nI (i + 1)) (mg_z (mg_S (mg_f t (mg_dg c)) (mg_wf w (mg_dg c)) (i + 1) z)) (nI (i + 1))) : wY_mean_51 post (nI c) (nI z) (nI n) wt wb tp bt ow ta we (m + 2) (nI (mg_it (mg_f t (mg_dg c)) i z)) 0 (nI i) (mg_z (mg_S (mg_f t (mg_dg c)) (mg_wf w (mg_dg c)) i z)) (nI i) := by
  have hn5 := G.1.2
  have hf := mg_f_lt (mg_dg_lt c) (mg_G_t G)
  have hq := mg_it_lt hf i z hz
  have hq1 := mg_it_lt hf (i + 1) z hz
  have hd := mg_dg_lt c (mg_it (mg_f t (mg_dg c)) i z)
  have e7 : (2 : Int32) * nI (mg_it (mg_f t (mg_dg c)) i z) + ((nI c >>> (nI (mg_it (mg_f t (mg_dg c)) i z) &&& 31)) &&& 1) = nI (2 * mg_it (mg_f t (mg_dg c)) i z + mg_dg c (mg_it (mg_f t (mg_dg c)) i z)) := mg_ix hc (by omega)
  have eS := mg_S_s (mg_f t (mg_dg c)) (mg_wf w (mg_dg c)) i z
  have eI := mg_it_s (mg_f t (mg_dg c)) i z
  have eW : mg_wf w (mg_dg c) (mg_it (mg_f t (mg_dg c)) i z) = w (2 * mg_it (mg_f t (mg_dg c)) i z + mg_dg c (mg_it (mg_f t (mg_dg c)) i z)) := rfl
  have eF : mg_f t (mg_dg c) (mg_it (mg_f t (mg_dg c)) i z) = t (2 * mg_it (mg_f t (mg_dg c)) i z + mg_dg c (mg_it (mg_f t (mg_dg c)) i z)) := rfl
  rw [eW] at eS
  rw [eF] at eI
  obtain ⟨g0, l0, c0, b0⟩ := G.2.2 (2 * mg_it (mg_f t (mg_dg c)) i z + mg_dg c (mg_it (mg_f t (mg_dg c)) i z)) (by omega)
  have cl : (nI (2 * mg_it (mg_f t (mg_dg c)) i z + mg_dg c (mg_it (mg_f t (mg_dg c)) i z))).toNatClampNeg = 2 * mg_it (mg_f t (mg_dg c)) i z + mg_dg c (mg_it (mg_f t (mg_dg c)) i z) := nI_clamp (by omega)
  have i7 : vp_in (nI (2 * mg_it (mg_f t (mg_dg c)) i z + mg_dg c (mg_it (mg_f t (mg_dg c)) i z))) 10 := vp_in_nI (by omega) (by omega)
  have eT : mg_z (mg_S (mg_f t (mg_dg c)) (mg_wf w (mg_dg c)) i z) + we (nI (2 * mg_it (mg_f t (mg_dg c)) i z + mg_dg c (mg_it (mg_f t (mg_dg c)) i z))).toNatClampNeg = mg_z (mg_S (mg_f t (mg_dg c)) (mg_wf w (mg_dg c)) (i + 1) z) := by rw [cl, c0, mg_z_add, eS]
  have eA : ta (nI (2 * mg_it (mg_f t (mg_dg c)) i z + mg_dg c (mg_it (mg_f t (mg_dg c)) i z))).toNatClampNeg = nI (mg_it (mg_f t (mg_dg c)) (i + 1) z) := by rw [cl, g0, eI]
  refine br_f (nI_ge (b := 5) (by omega) (by decide)) (br_t rfl (nm_r e7 ⟨i7, nm_r eT (nm_r (nI_1 i) ⟨i7, nm_r eA ?_⟩)⟩))
  refine pk_eq (mg_it (mg_f t (mg_dg c)) (i + 1) z) z (fun e => ?_) (fun e => ?_) rfl rfl (by omega) (by omega)
  · exact nm_r (nI_1 i) (br_c (fun _ => J e) (fun _ => br_f (by decide) (J e)))
  · exact nm_r (nI_1 i) (N e)
theorem my_mean51 (G : mg_G n o t w ow ta we) {c z L0 : Nat} (hc : c < 32) (hz : z < n) (hLn : L0 ≤ n) (hL : mg_it (mg_f t (mg_dg c)) L0 z = z) (J : ∀ L, 1 ≤ L → L ≤ n → mg_it (mg_f t (mg_dg c)) L z = z → post (nI n, mg_z (mg_S (mg_f t (mg_dg c)) (mg_wf w (mg_dg c)) L z), nI L, wt, wb, tp, bt, ow, ta, we)) : ∀ (d i : Nat), i + d + 1 = L0 → wY_mean_51 post (nI c) (nI z) (nI n) wt wb tp bt ow ta we (d + 2) (nI (mg_it (mg_f t (mg_dg c)) i z)) 0 (nI i) (mg_z (mg_S (mg_f t (mg_dg c)) (mg_wf w (mg_dg c)) i z)) (nI i) := by
  have hn5 := G.1.2
  intro d
  induction d with
  | zero =>
    intro i hi
    have e : i + 1 = L0 := by omega
    exact my_mstep G hc hz (by omega) (fun h => J (i + 1) (by omega) (by omega) h) (fun h => absurd (by rw [e]; exact hL) h)
  | succ d ih =>
    intro i hi
    exact my_mstep G hc hz (by omega) (fun h => J (i + 1) (by omega) (by omega) h) (fun _ => ih (i + 1) (by omega))
theorem my_mean5 (G : mg_G n o t w ow ta we) {c : Nat} {mt mb : Int32} (hc : c < 32) : ∀ (d i q : Nat), i + d = 5 → q < n → (∃ m, wY_mean_51 post (nI c) (nI (mg_it (mg_f t (mg_dg c)) d q)) (nI n) wt wb tp bt ow ta we m (nI (mg_it (mg_f t (mg_dg c)) d q)) 0 0 0 0) → wY_mean_5 post (nI c) (nI n) mt mb wt wb tp bt ow ta we (d + 1) (nI q) (nI i) := by
  have hn5 := G.1.2
  have hf := mg_f_lt (mg_dg_lt c) (mg_G_t G)
  intro d
  induction d with
  | zero =>
    intro i q hi hq J
    have e : i = 5 := by omega
    subst e
    exact br_t (Int32.le_refl _) J
  | succ d ih =>
    intro i q hi hq J
    have hd := mg_dg_lt c q
    obtain ⟨g0, l0, c0, b0⟩ := G.2.2 (2 * q + mg_dg c q) (by omega)
    have e7 := mg_ix (c := c) (q := q) hc (by omega)
    have i7 : vp_in ((2 : Int32) * nI q + ((nI c >>> (nI q &&& 31)) &&& 1)) 10 := by
      rw [e7]
      exact vp_in_nI (by omega) (by omega)
    have eA : ta ((2 : Int32) * nI q + ((nI c >>> (nI q &&& 31)) &&& 1)).toNatClampNeg = nI (mg_f t (mg_dg c) q) := by
      rw [e7, nI_clamp (by omega), g0]
      rfl
    exact br_f (nI_ge (b := 5) (by omega) (by decide)) ⟨i7, nm_r eA (nm_r (nI_1 i) (ih (i + 1) _ (by omega) (hf q hq) J))⟩
theorem my_mean (G : mg_G n o t w ow ta we) {p c : Nat} {mt mb : Int32} (hp : p < n) (hc : c < 32) (J : ∀ (T : Int) (D : Nat), 1 ≤ D → D ≤ n → mg_XX t w p c * (D : Int) = 60 * T → -15 ≤ T → T ≤ 15 → post (nI n, mg_z T, nI D, wt, wb, tp, bt, ow, ta, we)) : wpY_mean post (nI n, mt, mb, wt, wb, tp, bt, ow, ta, we) (nI p) (nI c) := by
  have hn5 := G.1.2
  have hf := mg_f_lt (mg_dg_lt c) (mg_G_t G)
  obtain ⟨L0, l1, l2, l3⟩ := mg_per hf hn5 hp
  have hz := mg_it_lt hf 5 p hp
  refine ⟨6, my_mean5 G hc 5 0 p rfl hp ⟨L0 - 1 + 2, ?_⟩⟩
  refine my_mean51 G hc hz l2 l3 (fun L k1 k2 k3 => ?_) (L0 - 1) 0 (by omega)
  have hb := mg_S_abs hf (w := mg_wf w (mg_dg c)) (fun q hq => by
    have hd := mg_dg_lt c q
    exact mg_G_w G (2 * q + mg_dg c q) (by omega)) L _ hz
  exact J _ L k1 k2 (mg_mean k1 (by omega) k3) (by omega) (by omega)
end
end
section
/-! masks of places; the worst and the value in the reference (pk_div, pk_rem: pasted out of kit/rows) -/
theorem pk_div {a d : Nat} (ha : a < 2 ^ 31) (h0 : 0 < d) (hd : d < 2 ^ 31) : nI a / nI d = nI (a / d) := by
  apply Int32.toInt_inj.mp
  rw [lg_idiv_nonneg (by rw [nI_toInt ha]; omega) (by rw [nI_toInt hd]; omega), nI_toInt ha, nI_toInt hd, nI_toInt (Nat.lt_of_le_of_lt (Nat.div_le_self a d) ha)]
  first | rfl | exact (Int.natCast_ediv _ _).symm
theorem pk_rem {a d : Nat} (ha : a < 2 ^ 31) (h0 : 0 < d) (hd : d < 2 ^ 31) : nI a - nI a / nI d * nI d = nI (a % d) := by
  rw [pk_div ha h0 hd, pk_mul, pk_sub (Nat.div_mul_le_self a d)]
  exact congrArg nI (by have := Nat.div_add_mod' a d; omega)
theorem mg_mk_yes {P : Nat → Bool} {m i : Nat} (hm : m < 2 ^ i) (h : ∀ q, m.testBit q = (decide (q < i) && P q)) (hp : P i = true) : (m ||| 2 ^ i) < 2 ^ (i + 1) ∧ ∀ q, (m ||| 2 ^ i).testBit q = (decide (q < i + 1) && P q) := by
  have hlt : 2 ^ i < 2 ^ (i + 1) := Nat.pow_lt_pow_right (by decide) (Nat.lt_succ_self i)
  refine ⟨Nat.or_lt_two_pow (by omega) hlt, fun q => ?_⟩
  rw [Nat.testBit_or, h, Nat.testBit_two_pow]
  by_cases e : q = i
  · rw [e, hp]; simp
  · have h1 : decide (i = q) = false := decide_eq_false (fun z => e z.symm)
    have h2 : decide (q < i + 1) = decide (q < i) := by
      by_cases l : q < i
      · rw [decide_eq_true l, decide_eq_true (by omega)]
      · rw [decide_eq_false l, decide_eq_false (by omega)]
    rw [h1, h2, Bool.or_false]
theorem mg_mk_no {P : Nat → Bool} {m i : Nat} (hm : m < 2 ^ i) (h : ∀ q, m.testBit q = (decide (q < i) && P q)) (hp : P i = false) : m < 2 ^ (i + 1) ∧ ∀ q, m.testBit q = (decide (q < i + 1) && P q) := by
  have hlt : 2 ^ i < 2 ^ (i + 1) := Nat.pow_lt_pow_right (by decide) (Nat.lt_succ_self i)
  refine ⟨by omega, fun q => ?_⟩
  rw [h]
  by_cases e : q = i
  · rw [e, hp]; simp
  · have h2 : decide (q < i + 1) = decide (q < i) := by
      by_cases l : q < i
      · rw [decide_eq_true l, decide_eq_true (by omega)]
      · rw [decide_eq_false l, decide_eq_false (by omega)]
    rw [h2]
/-- M is the set of the places of player b -/
def mg_Mk (n : Nat) (o : Nat → Bool) (b : Bool) (M : Nat) : Prop := M < 2 ^ n ∧ ∀ q, M.testBit q = (decide (q < n) && decide (o q = b))
theorem mg_Mk_32 {n : Nat} {o : Nat → Bool} {b : Bool} {M : Nat} (hn : n ≤ 5) (h : mg_Mk n o b M) : M < 32 := by
  have h32 : 2 ^ n ≤ 2 ^ 5 := Nat.pow_le_pow_right (by decide) hn
  have := h.1
  omega
theorem mg_valid {n : Nat} {o : Nat → Bool} {b : Bool} {M j : Nat} (hj : j < 32) (h : mg_Mk n o b M) : (nI j &&& nI M) = nI j ↔ mg_vm n o b j := by
  have hl : j &&& M ≤ j := Nat.and_le_left
  rw [nx_and, nI_eq (by omega) (by omega)]
  constructor
  · intro e q hq
    have z : (j &&& M).testBit q = true := by rw [e]; exact hq
    rw [Nat.testBit_and, h.2] at z
    simp only [Bool.and_eq_true, decide_eq_true_eq] at z
    exact ⟨z.2.1, z.2.2⟩
  · intro e
    apply Nat.eq_of_testBit_eq
    intro q
    rw [Nat.testBit_and, h.2]
    cases z : j.testBit q with
    | false => rfl
    | true =>
      have := e q z
      rw [decide_eq_true this.1, decide_eq_true this.2]
      rfl
theorem mg_or32 {a b : Nat} (ha : a < 32) (hb : b < 32) : a ||| b < 32 := Nat.or_lt_two_pow (n := 5) ha hb
theorem mg_vm0 (n : Nat) (o : Nat → Bool) (b : Bool) : mg_vm n o b 0 := by
  intro q hq
  rw [Nat.zero_testBit] at hq
  exact absurd hq (by decide)
theorem mg_own {n : Nat} {o : Nat → Bool} {t : Nat → Nat} {w : Nat → Int} {pl go co : Nat → Int32} (G : mg_G n o t w pl go co) {i : Nat} (hi : i < n) (b : Bool) : pl (nI i).toNatClampNeg = (if b = true then 1 else 0) ↔ decide (o i = b) = true := by
  have hn5 := G.1.2
  rw [nI_clamp (by omega), G.2.1 i hi]
  cases o i <;> cases b <;> decide
section
variable {n : Nat} {o : Nat → Bool} {t : Nat → Nat} {w : Nat → Int} {ow ta we : Nat → Int32}
theorem my_pl4 (G : mg_G n o t w ow ta we) {post : Int32 → Prop} {mt mb wt wb tp bt : Int32} {b : Bool} {x1 : Int32} (hx1 : x1 = if b = true then 1 else 0) (J : ∀ M, mg_Mk n o b M → post (nI M)) : ∀ (d i m : Nat), i + d = n → m < 2 ^ i → (∀ q, m.testBit q = (decide (q < i) && decide (o q = b))) → wY_placesOf_4 post x1 (nI n) mt mb wt wb tp bt ow ta we (d + 1) (nI m) (nI i) := by
  have hn5 := G.1.2
  intro d
  induction d with
  | zero =>
    intro i m hi hm h
    have e : i = n := by omega
    subst e
    exact br_t (Int32.le_refl _) (J m ⟨hm, h⟩)
  | succ d ih =>
    intro i m hi hm h
    refine br_f (nI_ge (by omega) (by omega)) ⟨vp_in_nI (by omega) (by omega), br_c (fun z => ?_) (fun z => ?_)⟩
    · rw [hx1, mg_own G (by omega)] at z
      have k := mg_mk_yes hm h z
      have e : nI m ||| ((1 : Int32) <<< (nI i &&& 31)) = nI (m ||| 2 ^ i) := by rw [mg_one (by omega), nx_or]
      exact nm_r e (nm_r (nI_1 i) (ih (i + 1) _ (by omega) k.1 k.2))
    · rw [hx1, mg_own G (by omega)] at z
      have k := mg_mk_no hm h (Bool.eq_false_iff.mpr z)
      exact nm_r (nI_1 i) (ih (i + 1) _ (by omega) k.1 k.2)
theorem my_places (G : mg_G n o t w ow ta we) {post : Int32 → Prop} {mt mb wt wb tp bt : Int32} (b : Bool) {x1 : Int32} (hx1 : x1 = if b = true then 1 else 0) (J : ∀ M, mg_Mk n o b M → post (nI M)) : wpY_placesOf post (nI n, mt, mb, wt, wb, tp, bt, ow, ta, we) x1 :=
  ⟨n + 1, my_pl4 G hx1 J n 0 0 (Nat.zero_add n) (by decide) (fun q => by rw [Nat.zero_testBit]; rfl)⟩
/-- what the search for the worst knows once the choices below m are tried -/
def mg_Wi (n : Nat) (o : Nat → Bool) (t : Nat → Nat) (w : Nat → Int) (p i m : Nat) (wt wb : Int32) : Prop :=
  (wb = 0 ∧ ∀ j, j < m → ¬ mg_vm n o false j) ∨ ∃ (y T : Int) (D : Nat), wt = mg_z T ∧ wb = nI D ∧ (1 ≤ D ∧ D ≤ n ∧ y * (D : Int) = 60 * T ∧ -15 ≤ T ∧ T ≤ 15) ∧ (∃ j, j < m ∧ mg_vm n o false j ∧ y = mg_XX t w p (i ||| j)) ∧ ∀ j, j < m → mg_vm n o false j → y ≤ mg_XX t w p (i ||| j)
theorem mg_Wi_skip {p i m : Nat} {wt wb : Int32} (h : mg_Wi n o t w p i m wt wb) (hv : ¬ mg_vm n o false m) : mg_Wi n o t w p i (m + 1) wt wb := by
  rcases h with h | ⟨y, T, D, e1, e2, f, ⟨j, hj, vj, ej⟩, g⟩
  · refine Or.inl ⟨h.1, fun j hj vj => ?_⟩
    by_cases e : j = m
    · exact hv (e ▸ vj)
    · exact h.2 j (by omega) vj
  · refine Or.inr ⟨y, T, D, e1, e2, f, ⟨j, by omega, vj, ej⟩, fun j hj vj => ?_⟩
    by_cases e : j = m
    · exact absurd (e ▸ vj) hv
    · exact g j (by omega) vj
theorem mg_Wi_put {p i m : Nat} {T : Int} {D : Nat} (hv : mg_vm n o false m) (f : 1 ≤ D ∧ D ≤ n ∧ mg_XX t w p (i ||| m) * (D : Int) = 60 * T ∧ -15 ≤ T ∧ T ≤ 15) (h : ∀ j, j < m → mg_vm n o false j → mg_XX t w p (i ||| m) ≤ mg_XX t w p (i ||| j)) : mg_Wi n o t w p i (m + 1) (mg_z T) (nI D) := by
  refine Or.inr ⟨_, T, D, rfl, rfl, f, ⟨m, by omega, hv, rfl⟩, fun j hj vj => ?_⟩
  by_cases e : j = m
  · rw [e]; exact Int.le_refl _
  · exact h j (by omega) vj
theorem mg_z_TD (T : Int) (D : Nat) : mg_z T * nI D = mg_z (T * (D : Int)) := by rw [mg_z_nI, mg_z_mul]
theorem mg_TD_bd {T : Int} {D : Nat} (hT : -15 ≤ T ∧ T ≤ 15) (h1 : 1 ≤ D) (h5 : D ≤ 5) : -75 ≤ T * (D : Int) ∧ T * (D : Int) ≤ 75 := by
  rcases mg_c5 h1 h5 with e | e | e | e | e <;> subst e <;> omega
theorem my_w8 (G : mg_G n o t w ow ta we) {post : SY → Prop} {p i M : Nat} {tp bt : Int32} (hp : p < n) (hi : i < 32) (hM : mg_Mk n o false M) (J : ∀ (mt mb : Int32) (T : Int) (D : Nat) (y : Int), (1 ≤ D ∧ D ≤ n ∧ y * (D : Int) = 60 * T ∧ -15 ≤ T ∧ T ≤ 15) → mg_Wx n o t w p i y → post (nI n, mt, mb, mg_z T, nI D, tp, bt, ow, ta, we)) : ∀ (d m : Nat) (mt mb wt wb : Int32), m + d = 32 → mg_Wi n o t w p i m wt wb → wY_worst_8 post (nI p) (nI i) (nI M) (d + 1) (nI m) (nI n) mt mb wt wb tp bt ow ta we := by
  have hn5 := G.1.2
  intro d
  induction d with
  | zero =>
    intro m mt mb wt wb hm h
    have e : m = 32 := by omega
    subst e
    refine br_t (Int32.le_refl _) ?_
    rcases h with h | ⟨y, T, D, e1, e2, f, ⟨j, hj, vj, ej⟩, g⟩
    · exact absurd (mg_vm0 n o false) (h.2 0 (by decide))
    · rw [e1, e2]
      exact J mt mb T D y f ⟨⟨j, hj, vj, ej⟩, g⟩
  | succ d ih =>
    intro m mt mb wt wb hm h
    refine br_f (nI_ge (b := 32) (by omega) (by decide)) (br_c (fun z => ?_) (fun z => ?_))
    · rw [mg_valid (by omega) hM] at z
      rw [nx_or]
      refine my_mean G hp (mg_or32 hi (by omega)) (fun T' D' d1 d2 d3 d4 d5 => ?_)
      rcases h with h | ⟨y, T, D, e1, e2, f, ⟨j, hj, vj, ej⟩, g⟩
      · exact br_t h.1 (nm_r (nI_1 m) (ih (m + 1) _ _ _ _ (by omega) (mg_Wi_put z ⟨d1, d2, d3, d4, d5⟩ (fun j hj vj => absurd vj (h.2 j hj)))))
      · have b1 := mg_TD_bd ⟨f.2.2.2.1, f.2.2.2.2⟩ d1 (by omega)
        have b2 := mg_TD_bd ⟨d4, d5⟩ f.1 (by omega)
        have hc := mg_cmp f.1 (by omega) d1 (by omega) f.2.2.1 d3
        have hD0 : ¬ wb = 0 := by
          rw [e2]
          exact nI_ne0 (by omega) (by omega)
        refine br_f hD0 (mg_b_le (T * (D' : Int)) (T' * (D : Int)) (fun l => ?_) (fun l => ?_) (by rw [e1, mg_z_TD]) (by rw [e2, mg_z_TD]) (by omega) (by omega))
        · refine nm_r (nI_1 m) (ih (m + 1) _ _ _ _ (by omega) (Or.inr ⟨y, T, D, e1, e2, f, ⟨j, by omega, vj, ej⟩, fun j hj vj => ?_⟩))
          by_cases e : j = m
          · rw [e]; exact hc.mp l
          · exact g j (by omega) vj
        · refine nm_r (nI_1 m) (ih (m + 1) _ _ _ _ (by omega) (mg_Wi_put z ⟨d1, d2, d3, d4, d5⟩ (fun j hj vj => ?_)))
          have a := g j hj vj
          have hn : ¬ y ≤ mg_XX t w p (i ||| m) := fun q => absurd (hc.mpr q) (by omega)
          omega
    · rw [mg_valid (by omega) hM] at z
      exact nm_r (nI_1 m) (ih (m + 1) _ _ _ _ (by omega) (mg_Wi_skip h z))
theorem my_worst (G : mg_G n o t w ow ta we) {post : SY → Prop} {p i M : Nat} {mt mb wt wb tp bt : Int32} (hp : p < n) (hi : i < 32) (hM : mg_Mk n o false M) (J : ∀ (mt mb : Int32) (T : Int) (D : Nat) (y : Int), (1 ≤ D ∧ D ≤ n ∧ y * (D : Int) = 60 * T ∧ -15 ≤ T ∧ T ≤ 15) → mg_Wx n o t w p i y → post (nI n, mt, mb, mg_z T, nI D, tp, bt, ow, ta, we)) : wpY_worst post (nI n, mt, mb, wt, wb, tp, bt, ow, ta, we) (nI p) (nI i) (nI M) :=
  ⟨33, my_w8 G hp hi hM J 32 0 mt mb wt 0 rfl (Or.inl ⟨rfl, fun j hj => absurd hj (Nat.not_lt_zero j)⟩)⟩
end
end
section
/-! the reference: value -/
theorem mg_rem0 {T : Int} {e : Nat} (hT : -1000 ≤ T ∧ T ≤ 1000) (h1 : 1 ≤ e) (h5 : e ≤ 5) : (mg_z T - mg_z T / nI e * nI e = 0) ↔ T % (e : Int) = 0 := by
  have hn : (T.tdiv (e : Int)).natAbs ≤ T.natAbs := Int.natAbs_tdiv_le_natAbs _ _
  have hd : -5000 ≤ T.tdiv (e : Int) * (e : Int) ∧ T.tdiv (e : Int) * (e : Int) ≤ 5000 := by
    generalize T.tdiv (e : Int) = q at hn
    rcases mg_c5 h1 h5 with z | z | z | z | z <;> subst z <;> omega
  have e0 : mg_z T - mg_z T / nI e * nI e = mg_z (T - T.tdiv (e : Int) * (e : Int)) := by
    rw [mg_z_nI, mg_z_div (by omega) (by omega), mg_z_mul, mg_z_sub]
  have e1 : (0 : Int32) = mg_z 0 := rfl
  rw [e0, e1, mg_z_eq (by omega) (by omega)]
  constructor
  · intro z
    exact Int.emod_eq_zero_of_dvd ⟨T.tdiv (e : Int), by rw [Int.mul_comm]; omega⟩
  · intro z
    have dv : (e : Int) ∣ T := Int.dvd_of_emod_eq_zero z
    rw [Int.tdiv_eq_ediv_of_dvd dv, Int.ediv_mul_cancel dv]
    omega
theorem mg_divz {T : Int} {e : Nat} (hT : -1000 ≤ T ∧ T ≤ 1000) (h5 : e ≤ 5) (h : T % (e : Int) = 0) : mg_z T / nI e = mg_z (T / (e : Int)) := by
  rw [mg_z_nI, mg_z_div (by omega) (by omega), Int.tdiv_eq_ediv_of_dvd (Int.dvd_of_emod_eq_zero h)]
section
variable {n : Nat} {o : Nat → Bool} {t : Nat → Nat} {w : Nat → Int} {ow ta we : Nat → Int32} {post : SY → Prop}
theorem my_97 (hn : n ≤ 5) {x : Int} (hx : -180 ≤ x ∧ x ≤ 180) {mt mb wt wb : Int32} (J : ∀ (A : Int) (B : Nat), mg_Low n x A B → post (nI n, mt, mb, wt, wb, mg_z A, nI B, ow, ta, we)) : ∀ (d : Nat), d ≤ 4 → ∀ (T : Int) (D : Nat), mg_Rd n (d + 1) x T D → wY_value_97 post (nI n) mt mb wt wb ow ta we (d + 1) (nI (d + 1)) (mg_z T) (nI D) := by
  intro d
  induction d with
  | zero =>
    intro _ T D h
    exact br_t (Int32.le_refl _) (J T D (mg_Rd_end hn h))
  | succ d ih =>
    intro hd T D h
    have hT := mg_frac_bd hx h.1 (Nat.le_trans h.2.1 hn) h.2.2.1
    have hD := h.2.1
    have n0 : ¬ nI (d + 1 + 1) = 0 := nI_ne0 (by omega) (by omega)
    refine br_f (nI_ge (a := 1) (by omega) (by omega)) ⟨n0, ?_⟩
    by_cases z : T % ((d + 1 + 1 : Nat) : Int) = 0
    · refine br_t ((mg_rem0 (by omega) (by omega) (by omega)).mpr z) ⟨n0, ?_⟩
      have er : nI D - nI D / nI (d + 1 + 1) * nI (d + 1 + 1) = nI (D % (d + 1 + 1)) := pk_rem (by omega) (by omega) (by omega)
      have hml : D % (d + 1 + 1) < d + 1 + 1 := Nat.mod_lt _ (by omega)
      refine pk_eq (D % (d + 1 + 1)) 0 (fun y => ?_) (fun y => ?_) er rfl (by omega) (by omega)
      · exact ⟨n0, nm_r (mg_divz (by omega) (by omega) z) ⟨n0, nm_r (pk_div (by omega) (by omega) (by omega)) (nm_r (pk_m1 (d + 1)) (ih (by omega) _ _ (mg_Rd_yes hn (by omega) (by omega) h z y)))⟩⟩
      · exact nm_r (pk_m1 (d + 1)) (ih (by omega) _ _ (mg_Rd_no h (fun q => y q.2)))
    · exact br_f (fun q => z ((mg_rem0 (by omega) (by omega) (by omega)).mp q)) (nm_r (pk_m1 (d + 1)) (ih (by omega) _ _ (mg_Rd_no h (fun q => z q.1))))
/-- what the search for the value knows once the choices below m are tried -/
def mg_Vi (n : Nat) (o : Nat → Bool) (t : Nat → Nat) (w : Nat → Int) (p m : Nat) (tp bt : Int32) : Prop :=
  (bt = 0 ∧ ∀ i, i < m → ¬ mg_vm n o true i) ∨ ∃ (y T : Int) (D : Nat), tp = mg_z T ∧ bt = nI D ∧ (1 ≤ D ∧ D ≤ n ∧ y * (D : Int) = 60 * T ∧ -15 ≤ T ∧ T ≤ 15) ∧ (∃ i, i < m ∧ mg_vm n o true i ∧ mg_Wx n o t w p i y) ∧ ∀ i, i < m → mg_vm n o true i → ∃ y', mg_Wx n o t w p i y' ∧ y' ≤ y
theorem mg_Vi_skip {p m : Nat} {tp bt : Int32} (h : mg_Vi n o t w p m tp bt) (hv : ¬ mg_vm n o true m) : mg_Vi n o t w p (m + 1) tp bt := by
  rcases h with h | ⟨y, T, D, e1, e2, f, ⟨j, hj, vj, ej⟩, g⟩
  · refine Or.inl ⟨h.1, fun j hj vj => ?_⟩
    by_cases e : j = m
    · exact hv (e ▸ vj)
    · exact h.2 j (by omega) vj
  · refine Or.inr ⟨y, T, D, e1, e2, f, ⟨j, by omega, vj, ej⟩, fun j hj vj => ?_⟩
    by_cases e : j = m
    · exact absurd (e ▸ vj) hv
    · exact g j (by omega) vj
theorem mg_Vi_put {p m : Nat} {y T : Int} {D : Nat} (hv : mg_vm n o true m) (f : 1 ≤ D ∧ D ≤ n ∧ y * (D : Int) = 60 * T ∧ -15 ≤ T ∧ T ≤ 15) (hW : mg_Wx n o t w p m y) (h : ∀ i, i < m → mg_vm n o true i → ∃ y', mg_Wx n o t w p i y' ∧ y' ≤ y) : mg_Vi n o t w p (m + 1) (mg_z T) (nI D) := by
  refine Or.inr ⟨y, T, D, rfl, rfl, f, ⟨m, by omega, hv, hW⟩, fun j hj vj => ?_⟩
  by_cases e : j = m
  · rw [e]; exact ⟨y, hW, Int.le_refl _⟩
  · exact h j (by omega) vj
theorem my_v20 (G : mg_G n o t w ow ta we) {p M M' : Nat} (hp : p < n) (hM : mg_Mk n o true M) (hM' : mg_Mk n o false M') (J : ∀ (mt mb wt wb : Int32) (A : Int) (B : Nat), mg_Is n o t w p A B → post (nI n, mt, mb, wt, wb, mg_z A, nI B, ow, ta, we)) : ∀ (d m : Nat) (mt mb wt wb tp bt : Int32), m + d = 32 → mg_Vi n o t w p m tp bt → wY_value_20 post (nI p) (nI M) (nI M') (d + 1) (nI m) (nI n) mt mb wt wb tp bt ow ta we := by
  have hn5 := G.1.2
  intro d
  induction d with
  | zero =>
    intro m mt mb wt wb tp bt hm h
    have e : m = 32 := by omega
    subst e
    refine br_t (Int32.le_refl _) ?_
    rcases h with h | ⟨y, T, D, e1, e2, f, g1, g2⟩
    · exact absurd (mg_vm0 n o true) (h.2 0 (by decide))
    · obtain ⟨x, hx⟩ := mg_determined hn5 (mg_G_t G) o w hp
      have hy := mg_maxmin hn5 (mg_G_t G) hx g1 g2
      subst hy
      rw [e1, e2]
      exact ⟨5, my_97 hn5 (mg_180 hp (mg_G_t G) (mg_G_w G) hx) (fun A B hL => J mt mb wt wb A B ⟨y, hx, hL⟩) 4 (by decide) T D ⟨f.1, f.2.1, f.2.2.1.symm, fun e h1 h2 => absurd h1 (by omega)⟩⟩
  | succ d ih =>
    intro m mt mb wt wb tp bt hm h
    refine br_f (nI_ge (b := 32) (by omega) (by decide)) (br_c (fun z => ?_) (fun z => ?_))
    · rw [mg_valid (by omega) hM] at z
      refine my_worst G hp (by omega) hM' (fun mt' mb' T' D' y' f' hW' => ?_)
      rcases h with h | ⟨y, T, D, e1, e2, f, g1, g2⟩
      · exact br_t h.1 (nm_r (nI_1 m) (ih (m + 1) _ _ _ _ _ _ (by omega) (mg_Vi_put z f' hW' (fun j hj vj => absurd vj (h.2 j hj)))))
      · have b1 := mg_TD_bd ⟨f.2.2.2.1, f.2.2.2.2⟩ f'.1 (by omega)
        have b2 := mg_TD_bd ⟨f'.2.2.2.1, f'.2.2.2.2⟩ f.1 (by omega)
        have hc := mg_cmp f'.1 (by omega) f.1 (by omega) f'.2.2.1 f.2.2.1
        have hD0 : ¬ bt = 0 := by
          rw [e2]
          exact nI_ne0 (by omega) (by omega)
        refine br_f hD0 (mg_b_le (T' * (D : Int)) (T * (D' : Int)) (fun l => ?_) (fun l => ?_) (by rw [e2, mg_z_TD]) (by rw [e1, mg_z_TD]) (by omega) (by omega))
        · obtain ⟨i, hi, vi, hi2⟩ := g1
          refine nm_r (nI_1 m) (ih (m + 1) _ _ _ _ _ _ (by omega) (Or.inr ⟨y, T, D, e1, e2, f, ⟨i, by omega, vi, hi2⟩, fun j hj vj => ?_⟩))
          by_cases e : j = m
          · rw [e]; exact ⟨y', hW', hc.mp l⟩
          · exact g2 j (by omega) vj
        · refine nm_r (nI_1 m) (ih (m + 1) _ _ _ _ _ _ (by omega) (mg_Vi_put z f' hW' (fun j hj vj => ?_)))
          obtain ⟨y2, h2, h3⟩ := g2 j hj vj
          have hn : ¬ y' ≤ y := fun q => absurd (hc.mpr q) (by omega)
          exact ⟨y2, h2, by omega⟩
    · rw [mg_valid (by omega) hM] at z
      exact nm_r (nI_1 m) (ih (m + 1) _ _ _ _ _ _ (by omega) (mg_Vi_skip h z))
theorem my_value (G : mg_G n o t w ow ta we) {p : Nat} {mt mb wt wb tp bt : Int32} (hp : p < n) (J : ∀ (mt mb wt wb : Int32) (A : Int) (B : Nat), mg_Is n o t w p A B → post (nI n, mt, mb, wt, wb, mg_z A, nI B, ow, ta, we)) : wpY_value post (nI n, mt, mb, wt, wb, tp, bt, ow, ta, we) (nI p) := by
  unfold wpY_value
  dsimp only
  refine my_places G true rfl (fun M hM => ?_)
  refine my_places G false rfl (fun M' hM' => ?_)
  exact ⟨33, my_v20 G hp hM hM' J 32 0 mt mb wt wb tp 0 rfl (Or.inl ⟨rfl, fun j hj => absurd hj (Nat.not_lt_zero j)⟩)⟩
end
end
section
/-! the relation; how stores change the game; places and moves that are none -/
def mg_RX (n : Nat) (o : Nat → Bool) (t : Nat → Nat) (w : Nat → Int) (u : SX) : Prop := u.1 = nI n ∧ mg_G n o t w u.2.2.1 u.2.2.2.1 u.2.2.2.2.1 ∧ (u.2.1 = 0 ∨ mg_Sol n o t w u.2.2.2.2.2.2.2.1 u.2.2.2.2.2.2.2.2)
def mg_RY (n : Nat) (o : Nat → Bool) (t : Nat → Nat) (w : Nat → Int) (v : SY) : Prop := v.1 = nI n ∧ mg_G n o t w v.2.2.2.2.2.2.2.1 v.2.2.2.2.2.2.2.2.1 v.2.2.2.2.2.2.2.2.2
/-- both objects hold one game; while solved holds, top and bottom are its answers -/
def i_Rel (_ : Nat) (u : SX) (v : SY) : Prop := ∃ (n : Nat) (o : Nat → Bool) (t : Nat → Nat) (w : Nat → Int), mg_RX n o t w u ∧ mg_RY n o t w v
theorem i_up {k : Nat} {u : SX} {v : SY} (h : i_Rel k u v) : i_Rel (k + 5) u v := h
theorem mg_in {k n : Nat} {o : Nat → Bool} {t : Nat → Nat} {w : Nat → Int} {sv : Int32} {pl go co nw th tp bt : Nat → Int32} {mt mb wt wb yt yb : Int32} {ow ta we : Nat → Int32} (G : mg_G n o t w pl go co) (hs : sv = 0 ∨ mg_Sol n o t w tp bt) (G' : mg_G n o t w ow ta we) : i_Rel k (nI n, sv, pl, go, co, nw, th, tp, bt) (nI n, mt, mb, wt, wb, yt, yb, ow, ta, we) :=
  ⟨n, o, t, w, ⟨rfl, G, hs⟩, ⟨rfl, G'⟩⟩
theorem mg_el {P : SX → SY → Prop} {k : Nat} {u : SX} {v : SY} (I : i_Rel k u v) (h : ∀ (n : Nat) (o : Nat → Bool) (t : Nat → Nat) (w : Nat → Int) (sv : Int32) (pl go co nw th tp bt : Nat → Int32) (mt mb wt wb yt yb : Int32) (ow ta we : Nat → Int32), mg_G n o t w pl go co → (sv = 0 ∨ mg_Sol n o t w tp bt) → mg_G n o t w ow ta we → P (nI n, sv, pl, go, co, nw, th, tp, bt) (nI n, mt, mb, wt, wb, yt, yb, ow, ta, we)) : P u v := by
  obtain ⟨n, o, t, w, hX, hY⟩ := I
  obtain ⟨fn, sv, pl, go, co, nw, th, tp, bt⟩ := u
  obtain ⟨fm, mt, mb, wt, wb, yt, yb, ow, ta, we⟩ := v
  have e1 : fn = nI n := hX.1
  have e2 : fm = nI n := hY.1
  subst e1 e2
  exact h n o t w sv pl go co nw th tp bt mt mb wt wb yt yb ow ta we hX.2.1 hX.2.2 hY.2
section
variable {n : Nat} {o : Nat → Bool} {t : Nat → Nat} {w : Nat → Int} {pl go co : Nat → Int32}
theorem mg_G_cg {o' : Nat → Bool} {t' : Nat → Nat} {w' : Nat → Int} (G : mg_G n o t w pl go co) (h1 : ∀ p, p < n → o' p = o p) (h2 : ∀ i, i < 2 * n → t' i = t i ∧ w' i = w i) : mg_G n o' t' w' pl go co := by
  refine ⟨G.1, fun p hp => ?_, fun i hi => ?_⟩
  · rw [h1 p hp]; exact G.2.1 p hp
  · rw [(h2 i hi).1, (h2 i hi).2]; exact G.2.2 i hi
theorem mg_G_own (G : mg_G n o t w pl go co) {p a : Nat} (ha : a < 2) : mg_G n (fun q => if q = p then decide (a = 1) else o q) t w (upd pl p (nI a)) go co := by
  refine ⟨G.1, fun q hq => ?_, G.2.2⟩
  show upd pl p (nI a) q = if (if q = p then decide (a = 1) else o q) = true then 1 else 0
  by_cases e : q = p
  · rw [if_pos e, e, pk_us]
    have ha' : a = 0 ∨ a = 1 := by omega
    rcases ha' with z | z <;> subst z <;> decide
  · rw [if_neg e, pk_un e]
    exact G.2.1 q hq
theorem mg_G_co (G : mg_G n o t w pl go co) {k : Nat} {z : Int} (hz : -3 ≤ z ∧ z ≤ 3) : mg_G n o t (fun i => if i = k then z else w i) pl go (upd co k (mg_z z)) := by
  refine ⟨G.1, G.2.1, fun i hi => ?_⟩
  have g := G.2.2 i hi
  show go i = nI (t i) ∧ t i < n ∧ upd co k (mg_z z) i = mg_z (if i = k then z else w i) ∧ -3 ≤ (if i = k then z else w i) ∧ (if i = k then z else w i) ≤ 3
  by_cases e : i = k
  · rw [if_pos e, e, pk_us]
    rw [e] at g
    exact ⟨g.1, g.2.1, rfl, hz⟩
  · rw [if_neg e, pk_un e]
    exact g
theorem mg_G_go (G : mg_G n o t w pl go co) {k q : Nat} (hq : q < n) : mg_G n o (fun i => if i = k then q else t i) w pl (upd go k (nI q)) co := by
  refine ⟨G.1, G.2.1, fun i hi => ?_⟩
  have g := G.2.2 i hi
  show upd go k (nI q) i = nI (if i = k then q else t i) ∧ (if i = k then q else t i) < n ∧ co i = mg_z (w i) ∧ -3 ≤ w i ∧ w i ≤ 3
  by_cases e : i = k
  · rw [if_pos e, e, pk_us]
    rw [e] at g
    exact ⟨rfl, hq, g.2.2⟩
  · rw [if_neg e, pk_un e]
    exact g
end
theorem mg_uu (f : Nat → Int32) (k : Nat) (x : Int32) : upd (upd f k x) k (f k) = f := by
  funext j
  by_cases e : j = k
  · rw [e, pk_us]
  · rw [pk_un e, pk_un e]
theorem mg_ix3 (x : Int32) {n : Nat} (hn : n < 2 ^ 31) : (x < 0 ∨ nI n ≤ x) ∨ ∃ j : Nat, j < n ∧ x = nI j := by
  by_cases h : x < 0
  · exact Or.inl (Or.inl h)
  · obtain ⟨j, hj, rfl⟩ := nI_of h
    by_cases h2 : j < n
    · exact Or.inr ⟨j, h2, rfl⟩
    · exact Or.inl (Or.inr (nI_le (by omega) hj))
section
variable {n : Nat} {sv : Int32} {pl go co nw th tp bt : Nat → Int32} {mt mb wt wb yt yb : Int32} {ow ta we : Nat → Int32} {post : Int32 → Prop}
theorem mx_bp_good {p : Nat} (hn : n ≤ 5) (hp : p < n) (J : post 0) : wpX_badPlace post (nI n, sv, pl, go, co, nw, th, tp, bt) (nI p) :=
  br_f (nI_pos (by omega)) (br_t (nI_lt hp (by omega)) J)
theorem mx_bp_bad {x : Int32} (h : x < 0 ∨ nI n ≤ x) (J : post 1) : wpX_badPlace post (nI n, sv, pl, go, co, nw, th, tp, bt) x := by
  by_cases z : x < 0
  · exact br_t z J
  · exact br_f z (br_f (Int32.not_lt.mpr (h.resolve_left z)) J)
theorem my_ip_good {p : Nat} (hn : n ≤ 5) (hp : p < n) (J : post 1) : wpY_isPlace post (nI n, mt, mb, wt, wb, yt, yb, ow, ta, we) (nI p) :=
  br_f (nI_pos (by omega)) (br_f (nI_ge hp (by omega)) J)
theorem my_ip_bad {x : Int32} (h : x < 0 ∨ nI n ≤ x) (J : post 0) : wpY_isPlace post (nI n, mt, mb, wt, wb, yt, yb, ow, ta, we) x := by
  by_cases z : x < 0
  · exact br_t z J
  · exact br_f z (br_t (h.resolve_left z) J)
theorem mx_bm_good {p a : Nat} (hn : n ≤ 5) (hp : p < n) (ha : a < 2) (J : post 0) : wpX_badMove post (nI n, sv, pl, go, co, nw, th, tp, bt) (nI p) (nI a) := by
  unfold wpX_badMove
  dsimp only
  exact mx_bp_good hn hp (br_t rfl (br_f (nI_pos (by omega)) (br_t (nI_le (b := 1) (by omega) (by decide)) J)))
theorem mx_bm_bad {x y : Int32} (hn : n ≤ 5) (h : (x < 0 ∨ nI n ≤ x) ∨ (y < 0 ∨ nI 2 ≤ y)) (J : post 1) : wpX_badMove post (nI n, sv, pl, go, co, nw, th, tp, bt) x y := by
  unfold wpX_badMove
  dsimp only
  rcases mg_ix3 x (n := n) (by omega) with hx | ⟨p, hp, rfl⟩
  · exact mx_bp_bad hx (br_f (by decide) J)
  · have hy : y < 0 ∨ nI 2 ≤ y := by
      rcases h with h | h
      · rcases h with h | h
        · exact absurd h (nI_pos (by omega))
        · exact absurd h (nI_ge hp (by omega))
      · exact h
    refine mx_bp_good hn hp (br_t rfl ?_)
    by_cases z : y < 0
    · exact br_t z J
    · refine br_f z (br_f ?_ J)
      intro l
      have h1 := hy.resolve_left z
      have h2 : nI 2 ≤ 1 := Int32.le_trans h1 l
      exact absurd h2 (by decide)
theorem my_im_good {p a : Nat} (hn : n ≤ 5) (hp : p < n) (ha : a < 2) (J : post 1) : wpY_isMove post (nI n, mt, mb, wt, wb, yt, yb, ow, ta, we) (nI p) (nI a) := by
  unfold wpY_isMove
  dsimp only
  have ha' : a = 0 ∨ a = 1 := by omega
  rcases ha' with z | z
  · subst z
    exact my_ip_good hn hp (br_f (by decide) (br_t rfl J))
  · subst z
    exact my_ip_good hn hp (br_f (by decide) (br_f (by decide) (br_t rfl J)))
theorem my_im_bad {x y : Int32} (hn : n ≤ 5) (h : (x < 0 ∨ nI n ≤ x) ∨ (y < 0 ∨ nI 2 ≤ y)) (J : post 0) : wpY_isMove post (nI n, mt, mb, wt, wb, yt, yb, ow, ta, we) x y := by
  unfold wpY_isMove
  dsimp only
  rcases mg_ix3 x (n := n) (by omega) with hx | ⟨p, hp, rfl⟩
  · exact my_ip_bad hx (br_t rfl J)
  · have hy : y < 0 ∨ nI 2 ≤ y := by
      rcases h with h | h
      · rcases h with h | h
        · exact absurd h (nI_pos (by omega))
        · exact absurd h (nI_ge hp (by omega))
      · exact h
    refine my_ip_good hn hp (br_f (by decide) (br_f ?_ (br_f ?_ J)))
    · intro e
      subst e
      rcases hy with z | z
      · exact absurd z (by decide)
      · exact absurd z (by decide)
    · intro e
      subst e
      rcases hy with z | z
      · exact absurd z (by decide)
      · exact absurd z (by decide)
end
end
section
/-! the constructors; places, owner, move, target, weight -/
def mg_o0 : Nat → Bool := fun p => decide (p % 2 = 0)
theorem mg_G_0 {n : Nat} (h1 : 1 ≤ n) (h5 : n ≤ 5) {pl go : Nat → Int32} (hp : ∀ p, p < n → pl p = if mg_o0 p = true then 1 else 0) (hg : ∀ j, j < 2 * n → go j = nI (j / 2)) : mg_G n mg_o0 (fun i => i / 2) (fun _ => 0) pl go (fun _ => 0) :=
  ⟨⟨h1, h5⟩, hp, fun i hi => ⟨hg i hi, show i / 2 < n from by omega, rfl, show (-3 : Int) ≤ 0 from by decide, show (0 : Int) ≤ 3 from by decide⟩⟩
theorem mg_put0 {pl go : Nat → Int32} {i : Nat} (hp : ∀ p, p < i → pl p = if mg_o0 p = true then 1 else 0) (hg : ∀ j, j < 2 * i → go j = nI (j / 2)) {z : Int32} (hz : z = if mg_o0 i = true then 1 else 0) : (∀ p, p < i + 1 → upd pl i z p = if mg_o0 p = true then 1 else 0) ∧ ∀ j, j < 2 * (i + 1) → upd (upd go (2 * i) (nI i)) (2 * i + 1) (nI i) j = nI (j / 2) := by
  constructor
  · intro p hp'
    by_cases e : p = i
    · rw [e, pk_us]; exact hz
    · rw [pk_un e]; exact hp p (by omega)
  · intro j hj
    by_cases e : j = 2 * i + 1
    · rw [e, pk_us]
      exact congrArg nI (by omega)
    · rw [pk_un e]
      by_cases e2 : j = 2 * i
      · rw [e2, pk_us]
        exact congrArg nI (by omega)
      · rw [pk_un e2]
        exact hg j (by omega)
section
variable {n : Nat}
theorem mx_i99 {post : SX → Prop} {JJ : Int32 → (Nat → Int32) → (Nat → Int32) → (Nat → Int32) → (Nat → Int32) → (Nat → Int32) → (Nat → Int32) → (Nat → Int32) → Prop} {x2 fn sv z : Int32} {pl go co nw th tp bt : Nat → Int32} {i : Nat} (hi : i < 5) (J : JJ (nI (i + 1)) (upd pl i z) (upd (upd go (2 * i) (nI i)) (2 * i + 1) (nI i)) co nw th tp bt) : wX_init_99 post JJ x2 (nI i) z (nI i) fn sv pl go co nw th tp bt := by
  have c : (nI i).toNatClampNeg = i := nI_clamp (by omega)
  have c0 : (nI i * 2).toNatClampNeg = 2 * i := by rw [mg_m0]; exact nI_clamp (by omega)
  have c1 : (nI i * 2 + 1).toNatClampNeg = 2 * i + 1 := by rw [mg_m1]; exact nI_clamp (by omega)
  have i0 : vp_in (nI i * 2) 10 := by rw [mg_m0]; exact vp_in_nI (by omega) (by omega)
  have i1 : vp_in (nI i * 2 + 1) 10 := by rw [mg_m1]; exact vp_in_nI (by omega) (by omega)
  refine ⟨vp_in_nI (by omega) (by omega), nm_r (by rw [c]) ⟨i0, nm_r (by rw [c0]) ⟨i1, nm_r (by rw [c1]) (nm_r (nI_1 i) J)⟩⟩⟩
theorem mx_i78 {post : SX → Prop} {sv : Int32} {co nw th tp bt : Nat → Int32} (hn : n ≤ 5) (J : ∀ pl go : Nat → Int32, (∀ p, p < n → pl p = if mg_o0 p = true then 1 else 0) → (∀ j, j < 2 * n → go j = nI (j / 2)) → post (nI n, sv, pl, go, co, nw, th, tp, bt)) : ∀ (d i : Nat) (pl go : Nat → Int32), i + d = n → (∀ p, p < i → pl p = if mg_o0 p = true then 1 else 0) → (∀ j, j < 2 * i → go j = nI (j / 2)) → wX_init_78 post (nI n) (nI n) sv (d + 1) (nI i) pl go co nw th tp bt := by
  intro d
  induction d with
  | zero =>
    intro i pl go hi hp hg
    have e : i = n := by omega
    subst e
    exact br_t (Int32.le_refl _) (J pl go hp hg)
  | succ d ih =>
    intro i pl go hi hp hg
    have e1 : nI i &&& 1 = nI (i % 2) := pk_andN (by omega) 1 (by decide)
    have hm : i % 2 < 2 := Nat.mod_lt _ (by decide)
    refine br_f (nI_ge (by omega) (by omega)) (pk_eq (i % 2) 0 (fun z => ?_) (fun z => ?_) e1 rfl (by omega) (by omega))
    · have k := mg_put0 hp hg (z := 1) (if_pos (show mg_o0 i = true from decide_eq_true z)).symm
      exact mx_i99 (by omega) (ih (i + 1) _ _ (by omega) k.1 k.2)
    · have k := mg_put0 hp hg (z := 0) (if_neg (show ¬ mg_o0 i = true from fun y => z (of_decide_eq_true y))).symm
      exact mx_i99 (by omega) (ih (i + 1) _ _ (by omega) k.1 k.2)
theorem my_i73 {post : SY → Prop} {JJ : Int32 → (Nat → Int32) → (Nat → Int32) → (Nat → Int32) → Prop} {fn mt mb wt wb yt yb z : Int32} {ow ta we : Nat → Int32} {i : Nat} (hi : i < 5) (J : JJ (nI (i + 1)) (upd ow i z) (upd (upd ta (2 * i) (nI i)) (2 * i + 1) (nI i)) we) : wY_init_73 post JJ (nI i) z (nI i) fn mt mb wt wb yt yb ow ta we := by
  have c : (nI i).toNatClampNeg = i := nI_clamp (by omega)
  have m0 : (2 : Int32) * nI i = nI (2 * i) := pk_mul 2 i
  have m1 : (2 : Int32) * nI i + 1 = nI (2 * i + 1) := by rw [m0]; exact nI_1 _
  have c0 : ((2 : Int32) * nI i).toNatClampNeg = 2 * i := by rw [m0]; exact nI_clamp (by omega)
  have c1 : ((2 : Int32) * nI i + 1).toNatClampNeg = 2 * i + 1 := by rw [m1]; exact nI_clamp (by omega)
  have i0 : vp_in ((2 : Int32) * nI i) 10 := by rw [m0]; exact vp_in_nI (by omega) (by omega)
  have i1 : vp_in ((2 : Int32) * nI i + 1) 10 := by rw [m1]; exact vp_in_nI (by omega) (by omega)
  refine ⟨vp_in_nI (by omega) (by omega), nm_r (by rw [c]) ⟨i0, nm_r (by rw [c0]) ⟨i1, nm_r (by rw [c1]) (nm_r (nI_1 i) J)⟩⟩⟩
theorem my_i52 {post : SY → Prop} {fn mt mb wt wb yt yb : Int32} {we : Nat → Int32} (J : ∀ ow ta : Nat → Int32, (∀ p, p < 5 → ow p = if mg_o0 p = true then 1 else 0) → (∀ j, j < 2 * 5 → ta j = nI (j / 2)) → post (fn, mt, mb, wt, wb, yt, yb, ow, ta, we)) : ∀ (d i : Nat) (ow ta : Nat → Int32), i + d = 5 → (∀ p, p < i → ow p = if mg_o0 p = true then 1 else 0) → (∀ j, j < 2 * i → ta j = nI (j / 2)) → wY_init_52 post fn mt mb wt wb yt yb (d + 1) (nI i) ow ta we := by
  intro d
  induction d with
  | zero =>
    intro i pl go hi hp hg
    have e : i = 5 := by omega
    subst e
    exact br_t (Int32.le_refl _) (J pl go hp hg)
  | succ d ih =>
    intro i pl go hi hp hg
    have e1 : nI i - nI i / 2 * 2 = nI (i % 2) := pk_rem (d := 2) (by omega) (by decide) (by decide)
    have hm : i % 2 < 2 := Nat.mod_lt _ (by decide)
    refine br_f (nI_ge (b := 5) (by omega) (by decide)) ⟨by decide, pk_eq (i % 2) 0 (fun z => ?_) (fun z => ?_) e1 rfl (by omega) (by omega)⟩
    · have k := mg_put0 hp hg (z := 1) (if_pos (show mg_o0 i = true from decide_eq_true z)).symm
      exact my_i73 (by omega) (ih (i + 1) _ _ (by omega) k.1 k.2)
    · have k := mg_put0 hp hg (z := 0) (if_neg (show ¬ mg_o0 i = true from fun y => z (of_decide_eq_true y))).symm
      exact my_i73 (by omega) (ih (i + 1) _ _ (by omega) k.1 k.2)
/-- both constructors at one size -/
theorem mx_init (h1 : 1 ≤ n) (h5 : n ≤ 5) {post : SX → Prop} (J : ∀ pl go : Nat → Int32, mg_G n mg_o0 (fun i => i / 2) (fun _ => 0) pl go (fun _ => 0) → post (nI n, 0, pl, go, (fun _ => 0), (fun _ => 0), (fun _ => 0), (fun _ => 0), (fun _ => 0))) : ∃ n78 : Nat, wX_init_78 post (nI n) (nI n) 0 n78 0 (fun _ => 0) (fun _ => 0) (fun _ => 0) (fun _ => 0) (fun _ => 0) (fun _ => 0) (fun _ => 0) :=
  ⟨n + 1, mx_i78 h5 (fun pl go hp hg => J pl go (mg_G_0 h1 h5 hp hg)) n 0 _ _ (Nat.zero_add n) (fun p hp => absurd hp (Nat.not_lt_zero p)) (fun p hp => absurd hp (Nat.not_lt_zero p))⟩
theorem my_init (h1 : 1 ≤ n) (h5 : n ≤ 5) {post : SY → Prop} (J : ∀ ow ta : Nat → Int32, mg_G n mg_o0 (fun i => i / 2) (fun _ => 0) ow ta (fun _ => 0) → post (nI n, 0, 0, 0, 0, 0, 0, ow, ta, (fun _ => 0))) : ∃ n52 : Nat, wY_init_52 post (nI n) 0 0 0 0 0 0 n52 0 (fun _ => 0) (fun _ => 0) (fun _ => 0) :=
  ⟨6, my_i52 (fun ow ta hp hg => J ow ta (mg_G_0 h1 h5 (fun p hp' => hp p (by omega)) (fun j hj => hg j (by omega)))) 5 0 _ _ rfl (fun p hp => absurd hp (Nat.not_lt_zero p)) (fun p hp => absurd hp (Nat.not_lt_zero p))⟩
end
theorem i_vc0 (k0 : Int32) : wpX_init (fun u => wpY_init (fun v => i_Rel 1 u v) k0) k0 := by
  by_cases h1 : 1 ≤ k0
  · obtain ⟨j, hj, rfl⟩ := nI_of (x := k0) (Int32.not_lt.mpr (Int32.le_trans (by decide) h1))
    have hj1 : 1 ≤ j := (nI_leI (a := 1) (by decide) hj).mp h1
    by_cases h5 : nI j ≤ 5
    · have hj5 : j ≤ 5 := (nI_leI (b := 5) hj (by decide)).mp h5
      exact br_t h1 (br_t h5 (mx_init hj1 hj5 (fun pl go G => br_t h1 (br_t h5 (my_init hj1 hj5 (fun ow ta G' => mg_in G (Or.inl rfl) G'))))))
    · exact br_t h1 (br_f h5 (mx_init (n := 5) (by decide) (by decide) (fun pl go G => br_t h1 (br_f h5 (my_init (n := 5) (by decide) (by decide) (fun ow ta G' => mg_in G (Or.inl rfl) G'))))))
  · exact br_f h1 (br_t (by decide) (mx_init (n := 1) (by decide) (by decide) (fun pl go G => br_f h1 (my_init (n := 1) (by decide) (by decide) (fun ow ta G' => mg_in G (Or.inl rfl) G')))))
theorem i_vc_places {k : Nat} {u : SX} {v : SY} (I : i_Rel k u v) (hk : k + 5 ≤ 2561) : wpX_places (fun r => wpY_places (fun r' => r' = r ∧ i_Rel (k + 5) u v) v) u := by
  refine mg_el (P := fun u v => wpX_places (fun r => wpY_places (fun r' => r' = r ∧ i_Rel (k + 5) u v) v) u) I ?_
  intro n o t w sv pl go co nw th tp bt mt mb wt wb yt yb ow ta we G hs G'
  exact ⟨rfl, mg_in G hs G'⟩
theorem i_vc_owner {k : Nat} {u : SX} {v : SY} (I : i_Rel k u v) (hk : k + 5 ≤ 2561) (v1 : Int32) (v2 : Int32) : wpX_owner (fun r u' => wpY_owner (fun r' v' => r' = r ∧ i_Rel (k + 5) u' v') v v1 v2) u v1 v2 := by
  refine mg_el (P := fun u v => wpX_owner (fun r u' => wpY_owner (fun r' v' => r' = r ∧ i_Rel (k + 5) u' v') v v1 v2) u v1 v2) I ?_
  intro n o t w sv pl go co nw th tp bt mt mb wt wb yt yb ow ta we G hs G'
  have hn5 := G.1.2
  unfold wpX_owner
  dsimp only
  rcases mg_ix3 v1 (n := n) (by omega) with hb | ⟨p, hp, rfl⟩
  · refine mx_bp_bad hb (br_f (by decide) ?_)
    unfold wpY_owner
    dsimp only
    exact my_ip_bad hb (br_t rfl ⟨rfl, mg_in G hs G'⟩)
  · refine mx_bp_good hn5 hp (br_t rfl ?_)
    by_cases z : v2 < 0
    · refine br_t z ?_
      unfold wpY_owner
      dsimp only
      exact my_ip_good hn5 hp (br_f (by decide) (br_t z ⟨rfl, mg_in G hs G'⟩))
    · by_cases y : v2 ≤ 1
      · obtain ⟨a, ha, rfl⟩ := nI_of2 (M := 1) (n := 1) (by decide) z y
        have ip : vp_in (nI p) 5 := vp_in_nI (by omega) (by omega)
        have c : (nI p).toNatClampNeg = p := nI_clamp (by omega)
        refine br_f z (br_t y ⟨ip, nm_e ⟨ip, nm_e ?_⟩⟩)
        unfold wpY_owner
        dsimp only
        refine my_ip_good hn5 hp (br_f (by decide) (br_f z (br_t y ⟨ip, nm_e ⟨ip, nm_e ⟨?_, ?_⟩⟩⟩)))
        · rw [c, G.2.1 p hp, G'.2.1 p hp]
        · rw [c]
          exact mg_in (mg_G_own G (by omega)) (Or.inl rfl) (mg_G_own G' (by omega))
      · refine br_f z (br_f y ?_)
        unfold wpY_owner
        dsimp only
        exact my_ip_good hn5 hp (br_f (by decide) (br_f z (br_f y ⟨rfl, mg_in G hs G'⟩)))
end
section
/-! move, target, weight -/
theorem mg_k1 {p a : Nat} : nI p * 2 + nI a = nI (2 * p + a) := by rw [mg_m0, nI_add]
theorem mg_k2 {p a : Nat} : (2 : Int32) * nI p + nI a = nI (2 * p + a) := by
  show nI 2 * nI p + nI a = _
  rw [pk_mul, nI_add]
theorem i_vc_target {k : Nat} {u : SX} {v : SY} (I : i_Rel k u v) (hk : k + 5 ≤ 2561) (v1 : Int32) (v2 : Int32) : wpX_target (fun r => wpY_target (fun r' => r' = r ∧ i_Rel (k + 5) u v) v v1 v2) u v1 v2 := by
  refine mg_el (P := fun u v => wpX_target (fun r => wpY_target (fun r' => r' = r ∧ i_Rel (k + 5) u v) v v1 v2) u v1 v2) I ?_
  intro n o t w sv pl go co nw th tp bt mt mb wt wb yt yb ow ta we G hs G'
  have hn5 := G.1.2
  unfold wpX_target wpY_target
  dsimp only
  have bad : ((v1 < 0 ∨ nI n ≤ v1) ∨ (v2 < 0 ∨ nI 2 ≤ v2)) ∨ ∃ p a : Nat, p < n ∧ a < 2 ∧ v1 = nI p ∧ v2 = nI a := by
    rcases mg_ix3 v1 (n := n) (by omega) with hb | ⟨p, hp, e1⟩
    · exact Or.inl (Or.inl hb)
    · rcases mg_ix3 v2 (n := 2) (by decide) with hb | ⟨a, ha, e2⟩
      · exact Or.inl (Or.inr hb)
      · exact Or.inr ⟨p, a, hp, ha, e1, e2⟩
  rcases bad with hb | ⟨p, a, hp, ha, rfl, rfl⟩
  · exact mx_bm_bad hn5 hb (br_f (by decide) (my_im_bad hn5 hb (br_t rfl ⟨rfl, mg_in G hs G'⟩)))
  · have e1 := @mg_k1 p a
    have e2 := @mg_k2 p a
    have ik : vp_in (nI (2 * p + a)) 10 := vp_in_nI (by omega) (by omega)
    have c : (nI (2 * p + a)).toNatClampNeg = 2 * p + a := nI_clamp (by omega)
    refine mx_bm_good hn5 hp ha (br_t rfl ⟨by rw [e1]; exact ik, my_im_good hn5 hp ha (br_f (by decide) ⟨by rw [e2]; exact ik, ?_, mg_in G hs G'⟩)⟩)
    rw [e1, e2, c, (G.2.2 _ (by omega)).1, (G'.2.2 _ (by omega)).1]
theorem i_vc_weight {k : Nat} {u : SX} {v : SY} (I : i_Rel k u v) (hk : k + 5 ≤ 2561) (v1 : Int32) (v2 : Int32) : wpX_weight (fun r => wpY_weight (fun r' => r' = r ∧ i_Rel (k + 5) u v) v v1 v2) u v1 v2 := by
  refine mg_el (P := fun u v => wpX_weight (fun r => wpY_weight (fun r' => r' = r ∧ i_Rel (k + 5) u v) v v1 v2) u v1 v2) I ?_
  intro n o t w sv pl go co nw th tp bt mt mb wt wb yt yb ow ta we G hs G'
  have hn5 := G.1.2
  unfold wpX_weight wpY_weight
  dsimp only
  have bad : ((v1 < 0 ∨ nI n ≤ v1) ∨ (v2 < 0 ∨ nI 2 ≤ v2)) ∨ ∃ p a : Nat, p < n ∧ a < 2 ∧ v1 = nI p ∧ v2 = nI a := by
    rcases mg_ix3 v1 (n := n) (by omega) with hb | ⟨p, hp, e1⟩
    · exact Or.inl (Or.inl hb)
    · rcases mg_ix3 v2 (n := 2) (by decide) with hb | ⟨a, ha, e2⟩
      · exact Or.inl (Or.inr hb)
      · exact Or.inr ⟨p, a, hp, ha, e1, e2⟩
  rcases bad with hb | ⟨p, a, hp, ha, rfl, rfl⟩
  · exact mx_bm_bad hn5 hb (br_f (by decide) (my_im_bad hn5 hb (br_t rfl ⟨rfl, mg_in G hs G'⟩)))
  · have e1 := @mg_k1 p a
    have e2 := @mg_k2 p a
    have ik : vp_in (nI (2 * p + a)) 10 := vp_in_nI (by omega) (by omega)
    have c : (nI (2 * p + a)).toNatClampNeg = 2 * p + a := nI_clamp (by omega)
    refine mx_bm_good hn5 hp ha (br_t rfl ⟨by rw [e1]; exact ik, my_im_good hn5 hp ha (br_f (by decide) ⟨by rw [e2]; exact ik, ?_, mg_in G hs G'⟩)⟩)
    rw [e1, e2, c, (G.2.2 _ (by omega)).2.2.1, (G'.2.2 _ (by omega)).2.2.1]
theorem i_vc_move {k : Nat} {u : SX} {v : SY} (I : i_Rel k u v) (hk : k + 5 ≤ 2561) (v1 : Int32) (v2 : Int32) (v3 : Int32) (v4 : Int32) : wpX_move (fun r u' => wpY_move (fun r' v' => r' = r ∧ i_Rel (k + 5) u' v') v v1 v2 v3 v4) u v1 v2 v3 v4 := by
  refine mg_el (P := fun u v => wpX_move (fun r u' => wpY_move (fun r' v' => r' = r ∧ i_Rel (k + 5) u' v') v v1 v2 v3 v4) u v1 v2 v3 v4) I ?_
  intro n o t w sv pl go co nw th tp bt mt mb wt wb yt yb ow ta we G hs G'
  have hn5 := G.1.2
  unfold wpX_move wpY_move
  dsimp only
  have bad : ((v1 < 0 ∨ nI n ≤ v1) ∨ (v2 < 0 ∨ nI 2 ≤ v2)) ∨ ∃ p a : Nat, p < n ∧ a < 2 ∧ v1 = nI p ∧ v2 = nI a := by
    rcases mg_ix3 v1 (n := n) (by omega) with hb | ⟨p, hp, e1⟩
    · exact Or.inl (Or.inl hb)
    · rcases mg_ix3 v2 (n := 2) (by decide) with hb | ⟨a, ha, e2⟩
      · exact Or.inl (Or.inr hb)
      · exact Or.inr ⟨p, a, hp, ha, e1, e2⟩
  rcases bad with hb | ⟨p, a, hp, ha, rfl, rfl⟩
  · exact mx_bm_bad hn5 hb (br_f (by decide) (my_im_bad hn5 hb (br_t rfl ⟨rfl, mg_in G hs G'⟩)))
  · refine mx_bm_good hn5 hp ha (br_t rfl ?_)
    rcases mg_ix3 v3 (n := n) (by omega) with hb | ⟨q, hq, rfl⟩
    · exact mx_bp_bad hb (br_f (by decide) (my_im_good hn5 hp ha (br_f (by decide) (my_ip_bad hb (br_t rfl ⟨rfl, mg_in G hs G'⟩)))))
    · refine mx_bp_good hn5 hq (br_t rfl ?_)
      by_cases z : v4 < -3
      · exact br_t z (my_im_good hn5 hp ha (br_f (by decide) (my_ip_good hn5 hq (br_f (by decide) (br_t z ⟨rfl, mg_in G hs G'⟩)))))
      · by_cases y : v4 ≤ 3
        · have e1 := @mg_k1 p a
          have e2 := @mg_k2 p a
          have ik : vp_in (nI (2 * p + a)) 10 := vp_in_nI (by omega) (by omega)
          have c : (nI (2 * p + a)).toNatClampNeg = 2 * p + a := nI_clamp (by omega)
          have hz1 : -3 ≤ v4.toInt := by
            have z' := z
            rw [Int32.lt_iff_toInt_lt, show (-3 : Int32).toInt = -3 from by decide] at z'
            omega
          have hz2 : v4.toInt ≤ 3 := by
            have y' := y
            rw [Int32.le_iff_toInt_le, show (3 : Int32).toInt = 3 from by decide] at y'
            exact y'
          refine br_f z (br_t y ⟨by rw [e1]; exact ik, nm_e ⟨by rw [e1]; exact ik, nm_e (my_im_good hn5 hp ha (br_f (by decide) (my_ip_good hn5 hq (br_f (by decide) (br_f z (br_t y ⟨by rw [e2]; exact ik, nm_e ⟨by rw [e2]; exact ik, nm_e ⟨rfl, ?_⟩⟩⟩))))))⟩⟩)
          rw [e1, e2, c, mg_z_of v4]
          exact mg_in (mg_G_co (mg_G_go G hq) ⟨hz1, hz2⟩) (Or.inl rfl) (mg_G_co (mg_G_go G' hq) ⟨hz1, hz2⟩)
        · exact br_f z (br_f y (my_im_good hn5 hp ha (br_f (by decide) (my_ip_good hn5 hq (br_f (by decide) (br_f z (br_f y ⟨rfl, mg_in G hs G'⟩)))))))
end
section
/-! numerator, denominator, atLeast, sixtieths -/
theorem i_vc_numerator {k : Nat} {u : SX} {v : SY} (I : i_Rel k u v) (hk : k + 5 ≤ 2561) (v1 : Int32) : wpX_numerator (fun r u' => wpY_numerator (fun r' v' => r' = r ∧ i_Rel (k + 5) u' v') v v1) u v1 := by
  refine mg_el (P := fun u v => wpX_numerator (fun r u' => wpY_numerator (fun r' v' => r' = r ∧ i_Rel (k + 5) u' v') v v1) u v1) I ?_
  intro n o t w sv pl go co nw th tp bt mt mb wt wb yt yb ow ta we G hs G'
  have hn5 := G.1.2
  unfold wpX_numerator wpY_numerator
  dsimp only
  rcases mg_ix3 v1 (n := n) (by omega) with hb | ⟨p, hp, rfl⟩
  · exact mx_bp_bad hb (br_f (by decide) (my_ip_bad hb (br_t rfl ⟨rfl, mg_in G hs G'⟩)))
  · refine mx_bp_good hn5 hp (br_t rfl (mx_solve G hs (fun sv' nw' th' tp' bt' hS => ⟨vp_in_nI (by omega) (by omega), my_ip_good hn5 hp (br_f (by decide) (my_value G' hp (fun mt' mb' wt' wb' A B hI => ⟨?_, mg_in G (Or.inr hS) G'⟩)))⟩)))
    obtain ⟨A', B', h1, h2, h3⟩ := hS p hp
    dsimp only
    rw [nI_clamp (by omega), h2, (mg_Is_uniq hI h1).1]
theorem i_vc_denominator {k : Nat} {u : SX} {v : SY} (I : i_Rel k u v) (hk : k + 5 ≤ 2561) (v1 : Int32) : wpX_denominator (fun r u' => wpY_denominator (fun r' v' => r' = r ∧ i_Rel (k + 5) u' v') v v1) u v1 := by
  refine mg_el (P := fun u v => wpX_denominator (fun r u' => wpY_denominator (fun r' v' => r' = r ∧ i_Rel (k + 5) u' v') v v1) u v1) I ?_
  intro n o t w sv pl go co nw th tp bt mt mb wt wb yt yb ow ta we G hs G'
  have hn5 := G.1.2
  unfold wpX_denominator wpY_denominator
  dsimp only
  rcases mg_ix3 v1 (n := n) (by omega) with hb | ⟨p, hp, rfl⟩
  · exact mx_bp_bad hb (br_f (by decide) (my_ip_bad hb (br_t rfl ⟨rfl, mg_in G hs G'⟩)))
  · refine mx_bp_good hn5 hp (br_t rfl (mx_solve G hs (fun sv' nw' th' tp' bt' hS => ⟨vp_in_nI (by omega) (by omega), my_ip_good hn5 hp (br_f (by decide) (my_value G' hp (fun mt' mb' wt' wb' A B hI => ⟨?_, mg_in G (Or.inr hS) G'⟩)))⟩)))
    obtain ⟨A', B', h1, h2, h3⟩ := hS p hp
    dsimp only
    rw [nI_clamp (by omega), h3, (mg_Is_uniq hI h1).2]
/-- the bounds of a question -/
def mg_bb (a b : Int32) : Prop := ¬ a < -100 ∧ ¬ 100 < a ∧ ¬ b < 1 ∧ b ≤ 20
section
variable {n : Nat} {sv : Int32} {pl go co nw th tp bt : Nat → Int32} {mt mb wt wb yt yb : Int32} {ow ta we : Nat → Int32}
theorem mx_bb_good {post : Int32 → Prop} {u : SX} {a b : Int32} (h : mg_bb a b) (J : post 0) : wpX_badBound post u a b := br_f h.1 (br_f h.2.1 (br_f h.2.2.1 (br_t h.2.2.2 J)))
theorem mx_bb_bad {post : Int32 → Prop} {u : SX} {a b : Int32} (h : ¬ mg_bb a b) (J : post 1) : wpX_badBound post u a b :=
  br_c (fun _ => J) (fun h1 => br_c (fun _ => J) (fun h2 => br_c (fun _ => J) (fun h3 => br_c (fun h4 => absurd ⟨h1, h2, h3, h4⟩ h) (fun _ => J))))
theorem my_bb_good {post : Int32 → Prop} {v : SY} {a b : Int32} (h : mg_bb a b) (J : post 1) : wpY_isBound post v a b := br_f h.1 (br_f h.2.1 (br_f h.2.2.1 (br_f (Int32.not_lt.mpr h.2.2.2) J)))
theorem my_bb_bad {post : Int32 → Prop} {v : SY} {a b : Int32} (h : ¬ mg_bb a b) (J : post 0) : wpY_isBound post v a b :=
  br_c (fun _ => J) (fun h1 => br_c (fun _ => J) (fun h2 => br_c (fun _ => J) (fun h3 => br_c (fun _ => J) (fun h4 => absurd ⟨h1, h2, h3, Int32.not_lt.mp h4⟩ h))))
/-- atLeast at a place, within bounds -/
theorem mx_atLeast {o : Nat → Bool} {t : Nat → Nat} {w : Nat → Int} (G : mg_G n o t w pl go co) (hs : sv = 0 ∨ mg_Sol n o t w tp bt) {post : Int32 → SX → Prop} {p B : Nat} {A : Int} {a b : Int32} (hp : p < n) (hbb : mg_bb a b) (hI : mg_Is n o t w p A B) (J : ∀ (sv' : Int32) (nw' th' tp' bt' : Nat → Int32), (sv' = 0 ∨ mg_Sol n o t w tp' bt') → post (if mg_z A * b < a * nI B then 0 else 1) (nI n, sv', pl, go, co, nw', th', tp', bt')) : wpX_atLeast post (nI n, sv, pl, go, co, nw, th, tp, bt) (nI p) a b := by
  have hn5 := G.1.2
  unfold wpX_atLeast
  dsimp only
  have ip : vp_in (nI p) 5 := vp_in_nI (by omega) (by omega)
  refine mx_bp_good hn5 hp (br_t rfl (mx_bb_good hbb (br_t rfl (mx_solve G hs (fun sv' nw' th' tp' bt' hS => ⟨ip, ip, ?_⟩)))))
  obtain ⟨A', B', h1, h2, h3⟩ := hS p hp
  have hu := mg_Is_uniq hI h1
  have j := J sv' nw' th' tp' bt' (Or.inr hS)
  dsimp only
  rw [nI_clamp (by omega), h2, h3, ← hu.1, ← hu.2]
  refine br_c (fun z => ?_) (fun z => ?_)
  · rw [if_pos z] at j; exact j
  · rw [if_neg z] at j; exact j
theorem my_atLeast {o : Nat → Bool} {t : Nat → Nat} {w : Nat → Int} (G : mg_G n o t w ow ta we) {post : Int32 → SY → Prop} {p B : Nat} {A : Int} {a b : Int32} (hp : p < n) (hbb : mg_bb a b) (hI : mg_Is n o t w p A B) (J : ∀ (mt' mb' wt' wb' yt' yb' : Int32), post (if mg_z A * b < a * nI B then 0 else 1) (nI n, mt', mb', wt', wb', yt', yb', ow, ta, we)) : wpY_atLeast post (nI n, mt, mb, wt, wb, yt, yb, ow, ta, we) (nI p) a b := by
  have hn5 := G.1.2
  unfold wpY_atLeast
  dsimp only
  refine my_ip_good hn5 hp (br_f (by decide) (my_bb_good hbb (br_f (by decide) (my_value G hp (fun mt' mb' wt' wb' A' B' h1 => ?_)))))
  have hu := mg_Is_uniq hI h1
  have j := J mt' mb' wt' wb' (mg_z A') (nI B')
  rw [hu.1, hu.2] at j
  dsimp only
  refine br_c (fun z => ?_) (fun z => ?_)
  · rw [if_pos z] at j; exact j
  · rw [if_neg z] at j; exact j
end
theorem i_vc_atLeast {k : Nat} {u : SX} {v : SY} (I : i_Rel k u v) (hk : k + 5 ≤ 2561) (v1 : Int32) (v2 : Int32) (v3 : Int32) : wpX_atLeast (fun r u' => wpY_atLeast (fun r' v' => r' = r ∧ i_Rel (k + 5) u' v') v v1 v2 v3) u v1 v2 v3 := by
  refine mg_el (P := fun u v => wpX_atLeast (fun r u' => wpY_atLeast (fun r' v' => r' = r ∧ i_Rel (k + 5) u' v') v v1 v2 v3) u v1 v2 v3) I ?_
  intro n o t w sv pl go co nw th tp bt mt mb wt wb yt yb ow ta we G hs G'
  have hn5 := G.1.2
  rcases mg_ix3 v1 (n := n) (by omega) with hb | ⟨p, hp, rfl⟩
  · unfold wpX_atLeast wpY_atLeast
    dsimp only
    exact mx_bp_bad hb (br_f (by decide) (my_ip_bad hb (br_t rfl ⟨rfl, mg_in G hs G'⟩)))
  · by_cases hbb : mg_bb v2 v3
    · obtain ⟨A, B, hI⟩ := mg_Is_ex (o := o) (w := w) hn5 (mg_G_t G) hp
      exact mx_atLeast G hs hp hbb hI (fun sv' nw' th' tp' bt' hs' => my_atLeast G' hp hbb hI (fun mt' mb' wt' wb' yt' yb' => ⟨rfl, mg_in G hs' G'⟩))
    · unfold wpX_atLeast wpY_atLeast
      dsimp only
      exact mx_bp_good hn5 hp (br_t rfl (mx_bb_bad hbb (br_f (by decide) (my_ip_good hn5 hp (br_f (by decide) (my_bb_bad hbb (br_t rfl ⟨rfl, mg_in G hs G'⟩)))))))
/-- the reference counts up to x -/
theorem my_six {post : Int32 → SY → Prop} {fn mt mb wt wb : Int32} {ow ta we : Nat → Int32} {x A : Int} {B : Nat} (hx : -180 ≤ x ∧ x ≤ 180) (h1 : 1 ≤ B) (h5 : B ≤ 5) (h : 60 * A = x * (B : Int)) (J : post (mg_z x) (fn, mt, mb, wt, wb, mg_z A, nI B, ow, ta, we)) : ∀ (d : Nat) (r : Int), -3000 ≤ r → r + (d : Int) = x → wY_sixtieths_21 post fn mt mb wt wb (mg_z A) (nI B) ow ta we (d + 1) (mg_z r) := by
  have hA := mg_frac_bd hx h1 h5 h
  have e60 : (60 : Int32) * mg_z A = mg_z (60 * A) := by
    show mg_z 60 * mg_z A = _
    rw [mg_z_mul]
  have er : ∀ r : Int, (mg_z r + 1) * nI B = mg_z ((r + 1) * (B : Int)) := by
    intro r
    show (mg_z r + mg_z 1) * nI B = _
    rw [mg_z_add, mg_z_TD]
  have hrb : ∀ r : Int, -3000 ≤ r → r ≤ 180 → -20000 ≤ (r + 1) * (B : Int) ∧ (r + 1) * (B : Int) ≤ 20000 := by
    intro r hr1 hr2
    rcases mg_c5 h1 h5 with e | e | e | e | e <;> subst e <;> omega
  intro d
  induction d with
  | zero =>
    intro r hr he
    have e : r = x := by omega
    subst e
    have hb := hrb r hr hx.2
    refine mg_b_le 3000 r (fun l => absurd l (by omega)) (fun _ => mg_b_lt (60 * A) ((r + 1) * (B : Int)) (fun _ => J) (fun l => ?_) e60 (er r) (by omega) (by omega)) rfl rfl (by omega) (by omega)
    exact absurd ((mg_sixty_lt (r := r) h1 h5 h).mpr (Int.le_refl _)) (by omega)
  | succ d ih =>
    intro r hr he
    have hb := hrb r hr (by omega)
    refine mg_b_le 3000 r (fun l => absurd l (by omega)) (fun _ => mg_b_lt (60 * A) ((r + 1) * (B : Int)) (fun l => ?_) (fun _ => ?_) e60 (er r) (by omega) (by omega)) rfl rfl (by omega) (by omega)
    · exact absurd ((mg_sixty_lt (r := r) h1 h5 h).mp l) (by omega)
    · exact nm_r (e' := mg_z (r + 1)) (mg_z_add r 1) (ih (r + 1) (by omega) (by omega))
theorem i_vc_sixtieths {k : Nat} {u : SX} {v : SY} (I : i_Rel k u v) (hk : k + 5 ≤ 2561) (v1 : Int32) : wpX_sixtieths (fun r u' => wpY_sixtieths (fun r' v' => r' = r ∧ i_Rel (k + 5) u' v') v v1) u v1 := by
  refine mg_el (P := fun u v => wpX_sixtieths (fun r u' => wpY_sixtieths (fun r' v' => r' = r ∧ i_Rel (k + 5) u' v') v v1) u v1) I ?_
  intro n o t w sv pl go co nw th tp bt mt mb wt wb yt yb ow ta we G hs G'
  have hn5 := G.1.2
  unfold wpX_sixtieths wpY_sixtieths
  dsimp only
  rcases mg_ix3 v1 (n := n) (by omega) with hb | ⟨p, hp, rfl⟩
  · exact mx_bp_bad hb (br_f (by decide) (my_ip_bad hb (br_t rfl ⟨rfl, mg_in G hs G'⟩)))
  · have ip : vp_in (nI p) 5 := vp_in_nI (by omega) (by omega)
    refine mx_bp_good hn5 hp (br_t rfl (mx_solve G hs (fun sv' nw' th' tp' bt' hS => ⟨ip, ?_⟩)))
    obtain ⟨A, B, hI, h2, h3⟩ := hS p hp
    obtain ⟨x, hx, hL⟩ := id hI
    have h1 := hL.1
    have h5 := hL.2.1
    have hxb := mg_180 hp (mg_G_t G) (mg_G_w G) hx
    dsimp only
    rw [nI_clamp (by omega), h3]
    have e60 : (60 : Int32) / nI B = nI (60 / B) := pk_div (a := 60) (by decide) (by omega) (by omega)
    refine br_f (nI_nle (by omega) (by omega)) ⟨ip, ⟨nI_ne0 (by omega) (by omega), nm_r e60 ⟨ip, ?_⟩⟩⟩
    refine my_ip_good hn5 hp (br_f (by decide) (my_value G' hp (fun mt' mb' wt' wb' A' B' hI' => ?_)))
    have hu := mg_Is_uniq hI hI'
    rw [← hu.1, ← hu.2]
    dsimp only
    refine ⟨_, my_six hxb h1 (by omega) hL.2.2.1 ⟨?_, mg_in G (Or.inr hS) G'⟩ (x + 3000).toNat (-3000) (by omega) (by omega)⟩
    rw [nI_clamp (by omega), h2, mg_z_TD, mg_sixty h1 (by omega) hL.2.2.1]
end
section
/-! keeps, winning -/
/-- a table with entry K made the same as entry k -/
def mg_cp {α : Type} (f : Nat → α) (K k : Nat) : Nat → α := fun i => if i = K then f k else f i
theorem mg_G_cp {n : Nat} {o : Nat → Bool} {t : Nat → Nat} {w : Nat → Int} {pl go co : Nat → Int32} (G : mg_G n o t w pl go co) {K k : Nat} (hk : k < 2 * n) : mg_G n o (mg_cp t K k) (mg_cp w K k) pl (upd go K (nI (t k))) (upd co K (mg_z (w k))) :=
  mg_G_co (mg_G_go G (mg_G_t G k hk)) (mg_G_w G k hk)
/-- the answer of keeps -/
def mg_kp (A A2 : Int) (B B2 : Nat) : Int32 := if mg_z A2 = mg_z A then (if nI B2 = nI B then 1 else 0) else 0
section
variable {n : Nat} {o : Nat → Bool} {t : Nat → Nat} {w : Nat → Int} {pl go co : Nat → Int32} {sv : Int32} {nw th tp bt : Nat → Int32} {mt mb wt wb yt yb : Int32} {ow ta we : Nat → Int32}
theorem mx_k126 {post : Int32 → SX → Prop} {K : Nat} {z g c : Int32} (hK : K < 10) (hz : narrow .boolean (.int z) = .int z) (J : post z (nI n, 0, pl, go, co, nw, th, tp, bt)) : wX_keeps_126 post (nI K) (go K) (co K) z (nI n) sv pl (upd go K g) (upd co K c) nw th tp bt := by
  have c0 : (nI K).toNatClampNeg = K := nI_clamp (by omega)
  have iK : vp_in (nI K) 10 := vp_in_nI hK (by omega)
  exact ⟨iK, nm_r (by rw [c0, mg_uu]) ⟨iK, nm_r (by rw [c0, mg_uu]) ⟨hz, J⟩⟩⟩
theorem mx_keeps (G : mg_G n o t w pl go co) (hs : sv = 0 ∨ mg_Sol n o t w tp bt) {post : Int32 → SX → Prop} {p a B B2 : Nat} {A A2 : Int} (hp : p < n) (ha : a < 2) (hI : mg_Is n o t w p A B) (hI2 : mg_Is n o (mg_cp t (2 * p + 1 - a) (2 * p + a)) (mg_cp w (2 * p + 1 - a) (2 * p + a)) p A2 B2) (J : ∀ (nw' th' tp' bt' : Nat → Int32), post (mg_kp A A2 B B2) (nI n, 0, pl, go, co, nw', th', tp', bt')) : wpX_keeps post (nI n, sv, pl, go, co, nw, th, tp, bt) (nI p) (nI a) := by
  have hn5 := G.1.2
  unfold wpX_keeps
  dsimp only
  have ip : vp_in (nI p) 5 := vp_in_nI (by omega) (by omega)
  have cp : (nI p).toNatClampNeg = p := nI_clamp (by omega)
  have iK : vp_in (nI (2 * p + 1 - a)) 10 := vp_in_nI (by omega) (by omega)
  have cK : (nI (2 * p + 1 - a)).toNatClampNeg = 2 * p + 1 - a := nI_clamp (by omega)
  have ek := @mg_k1 p a
  have ck : (nI (2 * p + a)).toNatClampNeg = 2 * p + a := nI_clamp (by omega)
  have ik : vp_in (nI p * 2 + nI a) 10 := by rw [ek]; exact vp_in_nI (by omega) (by omega)
  have e5 : nI p * 2 + 1 - nI a = nI (2 * p + 1 - a) := by rw [mg_m1, pk_sub (by omega)]
  have g := G.2.2 (2 * p + a) (by omega)
  have eg : upd go (nI (2 * p + 1 - a)).toNatClampNeg (go (nI p * 2 + nI a).toNatClampNeg) = upd go (2 * p + 1 - a) (nI (t (2 * p + a))) := by rw [cK, ek, ck, g.1]
  have ec : upd co (nI (2 * p + 1 - a)).toNatClampNeg (co (nI p * 2 + nI a).toNatClampNeg) = upd co (2 * p + 1 - a) (mg_z (w (2 * p + a))) := by rw [cK, ek, ck, g.2.2.1]
  refine mx_bm_good hn5 hp ha (br_t rfl (mx_solve G hs (fun sv1 nw1 th1 tp1 bt1 hS1 => ?_)))
  obtain ⟨A', B', h1, h2, h3⟩ := hS1 p hp
  have hu := mg_Is_uniq hI h1
  dsimp only
  refine ⟨ip, nm_r (e' := mg_z A) (by rw [cp, h2, hu.1]) ⟨ip, nm_r (e' := nI B) (by rw [cp, h3, hu.2]) (nm_r e5 ⟨iK, nm_r (e' := go (2 * p + 1 - a)) (by rw [cK]) ⟨iK, nm_r (e' := co (2 * p + 1 - a)) (by rw [cK]) ⟨ik, iK, nm_r eg ⟨ik, iK, nm_r ec ?_⟩⟩⟩⟩)⟩⟩
  refine mx_solve (mg_G_cp G (by omega)) (Or.inl rfl) (fun sv2 nw2 th2 tp2 bt2 hS2 => ?_)
  obtain ⟨A3, B3, h4, h5, h6⟩ := hS2 p hp
  have hu2 := mg_Is_uniq hI2 h4
  have j := J nw2 th2 tp2 bt2
  dsimp only
  rw [cp, h5, h6, ← hu2.1, ← hu2.2]
  unfold mg_kp at j
  refine ⟨ip, br_c (fun z => ⟨ip, br_c (fun y => ?_) (fun y => ?_)⟩) (fun z => ?_)⟩
  · rw [if_pos z, if_pos y] at j
    exact mx_k126 (by omega) rfl j
  · rw [if_pos z, if_neg y] at j
    exact mx_k126 (by omega) rfl j
  · rw [if_neg z] at j
    exact mx_k126 (by omega) rfl j
theorem my_keeps (G : mg_G n o t w ow ta we) {post : Int32 → SY → Prop} {p a B B2 : Nat} {A A2 : Int} (hp : p < n) (ha : a < 2) (hI : mg_Is n o t w p A B) (hI2 : mg_Is n o (mg_cp t (2 * p + 1 - a) (2 * p + a)) (mg_cp w (2 * p + 1 - a) (2 * p + a)) p A2 B2) (J : ∀ (mt' mb' wt' wb' yt' yb' : Int32), post (mg_kp A A2 B B2) (nI n, mt', mb', wt', wb', yt', yb', ow, ta, we)) : wpY_keeps post (nI n, mt, mb, wt, wb, yt, yb, ow, ta, we) (nI p) (nI a) := by
  have hn5 := G.1.2
  unfold wpY_keeps
  dsimp only
  have iK : vp_in (nI (2 * p + 1 - a)) 10 := vp_in_nI (by omega) (by omega)
  have cK : (nI (2 * p + 1 - a)).toNatClampNeg = 2 * p + 1 - a := nI_clamp (by omega)
  have ek := @mg_k2 p a
  have ck : (nI (2 * p + a)).toNatClampNeg = 2 * p + a := nI_clamp (by omega)
  have ik : vp_in ((2 : Int32) * nI p + nI a) 10 := by rw [ek]; exact vp_in_nI (by omega) (by omega)
  have m0 : (2 : Int32) * nI p = nI (2 * p) := pk_mul 2 p
  have e5 : (2 : Int32) * nI p + 1 - nI a = nI (2 * p + 1 - a) := by rw [m0, nI_1, pk_sub (by omega)]
  have g := G.2.2 (2 * p + a) (by omega)
  have eg : upd ta (nI (2 * p + 1 - a)).toNatClampNeg (ta ((2 : Int32) * nI p + nI a).toNatClampNeg) = upd ta (2 * p + 1 - a) (nI (t (2 * p + a))) := by rw [cK, ek, ck, g.1]
  have ec : upd we (nI (2 * p + 1 - a)).toNatClampNeg (we ((2 : Int32) * nI p + nI a).toNatClampNeg) = upd we (2 * p + 1 - a) (mg_z (w (2 * p + a))) := by rw [cK, ek, ck, g.2.2.1]
  refine my_im_good hn5 hp ha (br_f (by decide) (my_value G hp (fun mt1 mb1 wt1 wb1 A' B' h1 => ?_)))
  have hu := mg_Is_uniq hI h1
  rw [← hu.1, ← hu.2]
  dsimp only
  refine nm_r e5 ⟨iK, nm_r (e' := ta (2 * p + 1 - a)) (by rw [cK]) ⟨iK, nm_r (e' := we (2 * p + 1 - a)) (by rw [cK]) ⟨ik, iK, nm_r eg ⟨ik, iK, nm_r ec ?_⟩⟩⟩⟩
  refine my_value (mg_G_cp G (by omega)) hp (fun mt2 mb2 wt2 wb2 A3 B3 h4 => ?_)
  have hu2 := mg_Is_uniq hI2 h4
  rw [← hu2.1, ← hu2.2]
  have j := J mt2 mb2 wt2 wb2 (mg_z A2) (nI B2)
  dsimp only
  unfold mg_kp at j
  refine ⟨iK, nm_r (e' := ta) (by rw [cK, mg_uu]) ⟨iK, nm_r (e' := we) (by rw [cK, mg_uu]) (br_c (fun z => br_c (fun y => ?_) (fun y => ?_)) (fun z => ?_))⟩⟩
  · rw [if_pos z, if_pos y] at j
    exact j
  · rw [if_pos z, if_neg y] at j
    exact j
  · rw [if_neg z] at j
    exact j
end
theorem i_vc_keeps {k : Nat} {u : SX} {v : SY} (I : i_Rel k u v) (hk : k + 5 ≤ 2561) (v1 : Int32) (v2 : Int32) : wpX_keeps (fun r u' => wpY_keeps (fun r' v' => r' = r ∧ i_Rel (k + 5) u' v') v v1 v2) u v1 v2 := by
  refine mg_el (P := fun u v => wpX_keeps (fun r u' => wpY_keeps (fun r' v' => r' = r ∧ i_Rel (k + 5) u' v') v v1 v2) u v1 v2) I ?_
  intro n o t w sv pl go co nw th tp bt mt mb wt wb yt yb ow ta we G hs G'
  have hn5 := G.1.2
  have bad : ((v1 < 0 ∨ nI n ≤ v1) ∨ (v2 < 0 ∨ nI 2 ≤ v2)) ∨ ∃ p a : Nat, p < n ∧ a < 2 ∧ v1 = nI p ∧ v2 = nI a := by
    rcases mg_ix3 v1 (n := n) (by omega) with hb | ⟨p, hp, e1⟩
    · exact Or.inl (Or.inl hb)
    · rcases mg_ix3 v2 (n := 2) (by decide) with hb | ⟨a, ha, e2⟩
      · exact Or.inl (Or.inr hb)
      · exact Or.inr ⟨p, a, hp, ha, e1, e2⟩
  rcases bad with hb | ⟨p, a, hp, ha, rfl, rfl⟩
  · unfold wpX_keeps wpY_keeps
    dsimp only
    exact mx_bm_bad hn5 hb (br_f (by decide) (my_im_bad hn5 hb (br_t rfl ⟨rfl, mg_in G hs G'⟩)))
  · obtain ⟨A, B, hI⟩ := mg_Is_ex (o := o) (w := w) hn5 (mg_G_t G) hp
    have hk2 : 2 * p + a < 2 * n := by omega
    obtain ⟨A2, B2, hI2⟩ := mg_Is_ex (o := o) (w := mg_cp w (2 * p + 1 - a) (2 * p + a)) hn5 (mg_G_t (mg_G_cp (K := 2 * p + 1 - a) G hk2)) hp
    exact mx_keeps G hs hp ha hI hI2 (fun nw' th' tp' bt' => my_keeps G' hp ha hI hI2 (fun mt' mb' wt' wb' yt' yb' => ⟨rfl, mg_in G (Or.inl rfl) G'⟩))
/-- how many of the places below i win -/
def mg_win (a b : Int32) (fA : Nat → Int) (fB : Nat → Nat) : Nat → Int32
  | 0 => 0
  | i + 1 => if mg_z (fA i) * b < a * nI (fB i) then mg_win a b fA fB i else mg_win a b fA fB i + 1
section
variable {n : Nat} {o : Nat → Bool} {t : Nat → Nat} {w : Nat → Int} {pl go co : Nat → Int32} {ow ta we : Nat → Int32} {a b : Int32} {fA : Nat → Int} {fB : Nat → Nat}
theorem mx_w16 (G : mg_G n o t w pl go co) {post : Int32 → SX → Prop} (hbb : mg_bb a b) (hI : ∀ p, p < n → mg_Is n o t w p (fA p) (fB p)) (J : ∀ (sv : Int32) (nw th tp bt : Nat → Int32), (sv = 0 ∨ mg_Sol n o t w tp bt) → post (mg_win a b fA fB n) (nI n, sv, pl, go, co, nw, th, tp, bt)) : ∀ (d i : Nat) (sv : Int32) (nw th tp bt : Nat → Int32), i + d = n → (sv = 0 ∨ mg_Sol n o t w tp bt) → wX_winning_16 post a b (d + 1) (mg_win a b fA fB i) (nI i) (nI n) sv pl go co nw th tp bt := by
  have hn5 := G.1.2
  intro d
  induction d with
  | zero =>
    intro i sv nw th tp bt hi hs
    have e : i = n := by omega
    subst e
    exact br_t (Int32.le_refl _) (J sv nw th tp bt hs)
  | succ d ih =>
    intro i sv nw th tp bt hi hs
    refine br_f (nI_ge (by omega) (by omega)) (mx_atLeast G hs (by omega) hbb (hI i (by omega)) (fun sv' nw' th' tp' bt' hs' => ?_))
    have j := ih (i + 1) sv' nw' th' tp' bt' (by omega) hs'
    by_cases z : mg_z (fA i) * b < a * nI (fB i)
    · have e : mg_win a b fA fB (i + 1) = mg_win a b fA fB i := if_pos z
      rw [e] at j
      rw [if_pos z]
      exact br_t rfl (nm_r (nI_1 i) j)
    · have e : mg_win a b fA fB (i + 1) = mg_win a b fA fB i + 1 := if_neg z
      rw [e] at j
      rw [if_neg z]
      exact br_f (by decide) (nm_e (nm_r (nI_1 i) j))
theorem my_w5 (G : mg_G n o t w ow ta we) {post : Int32 → SY → Prop} (hbb : mg_bb a b) (hI : ∀ p, p < n → mg_Is n o t w p (fA p) (fB p)) (J : ∀ (mt mb wt wb yt yb : Int32), post (mg_win a b fA fB n) (nI n, mt, mb, wt, wb, yt, yb, ow, ta, we)) : ∀ (d i : Nat) (mt mb wt wb yt yb : Int32), i + d = n → wY_winning_5 post a b (d + 1) (mg_win a b fA fB i) (nI i) (nI n) mt mb wt wb yt yb ow ta we := by
  have hn5 := G.1.2
  intro d
  induction d with
  | zero =>
    intro i mt mb wt wb yt yb hi
    have e : i = n := by omega
    subst e
    exact br_t (Int32.le_refl _) (J mt mb wt wb yt yb)
  | succ d ih =>
    intro i mt mb wt wb yt yb hi
    refine br_f (nI_ge (by omega) (by omega)) (my_atLeast G (by omega) hbb (hI i (by omega)) (fun mt' mb' wt' wb' yt' yb' => ?_))
    have j := ih (i + 1) mt' mb' wt' wb' yt' yb' (by omega)
    by_cases z : mg_z (fA i) * b < a * nI (fB i)
    · have e : mg_win a b fA fB (i + 1) = mg_win a b fA fB i := if_pos z
      rw [e] at j
      rw [if_pos z]
      exact br_t rfl (nm_r (nI_1 i) j)
    · have e : mg_win a b fA fB (i + 1) = mg_win a b fA fB i + 1 := if_neg z
      rw [e] at j
      rw [if_neg z]
      exact br_f (by decide) (nm_e (nm_r (nI_1 i) j))
theorem my_w5_bad (hn5 : n ≤ 5) {post : Int32 → SY → Prop} {mt mb wt wb yt yb : Int32} (hbb : ¬ mg_bb a b) (J : post 0 (nI n, mt, mb, wt, wb, yt, yb, ow, ta, we)) : ∀ (d i : Nat), i + d = n → wY_winning_5 post a b (d + 1) 0 (nI i) (nI n) mt mb wt wb yt yb ow ta we := by
  intro d
  induction d with
  | zero =>
    intro i hi
    have e : i = n := by omega
    subst e
    exact br_t (Int32.le_refl _) J
  | succ d ih =>
    intro i hi
    refine br_f (nI_ge (by omega) (by omega)) ?_
    unfold wpY_atLeast
    dsimp only
    exact my_ip_good hn5 (by omega) (br_f (by decide) (my_bb_bad hbb (br_t rfl (br_t rfl (nm_r (nI_1 i) (ih (i + 1) (by omega)))))))
end
theorem i_vc_winning {k : Nat} {u : SX} {v : SY} (I : i_Rel k u v) (hk : k + 5 ≤ 2561) (v1 : Int32) (v2 : Int32) : wpX_winning (fun r u' => wpY_winning (fun r' v' => r' = r ∧ i_Rel (k + 5) u' v') v v1 v2) u v1 v2 := by
  refine mg_el (P := fun u v => wpX_winning (fun r u' => wpY_winning (fun r' v' => r' = r ∧ i_Rel (k + 5) u' v') v v1 v2) u v1 v2) I ?_
  intro n o t w sv pl go co nw th tp bt mt mb wt wb yt yb ow ta we G hs G'
  have hn5 := G.1.2
  unfold wpX_winning wpY_winning
  dsimp only
  by_cases hbb : mg_bb v1 v2
  · have hex : ∀ p : Nat, ∃ AB : Int × Nat, p < n → mg_Is n o t w p AB.1 AB.2 := by
      intro p
      by_cases hp : p < n
      · obtain ⟨A, B, hI⟩ := mg_Is_ex (o := o) (w := w) hn5 (mg_G_t G) hp
        exact ⟨(A, B), fun _ => hI⟩
      · exact ⟨(0, 0), fun z => absurd z hp⟩
    obtain ⟨f, hf⟩ := Classical.axiomOfChoice hex
    exact mx_bb_good hbb (br_t rfl ⟨n + 1, mx_w16 (fA := fun p => (f p).1) (fB := fun p => (f p).2) G hbb hf (fun sv' nw' th' tp' bt' hs' => ⟨n + 1, my_w5 (fA := fun p => (f p).1) (fB := fun p => (f p).2) G' hbb hf (fun mt' mb' wt' wb' yt' yb' => ⟨rfl, mg_in G hs' G'⟩) n 0 mt mb wt wb yt yb (Nat.zero_add n)⟩) n 0 sv nw th tp bt (Nat.zero_add n) hs⟩)
  · exact mx_bb_bad hbb (br_f (by decide) ⟨n + 1, my_w5_bad hn5 hbb ⟨rfl, mg_in G hs G'⟩ n 0 (Nat.zero_add n)⟩)
end
section
/-! gifts -/
/-- how many of the places below k lie in s -/
def mg_sz (s : Nat) : Nat → Nat
  | 0 => 0
  | k + 1 => mg_sz s k + mg_dg s k
theorem mx_sz4 {post : Int32 → Prop} {s : Nat} {fn sv : Int32} {pl go co nw th tp bt : Nat → Int32} (hs : s < 32) (J : post (nI (mg_sz s 5))) : ∀ (d i : Nat), i + d = 5 → wX_sizeOf_4 post (nI s) fn sv pl go co nw th tp bt (d + 1) (nI (mg_sz s i)) (nI i) := by
  intro d
  induction d with
  | zero =>
    intro i hi
    have e : i = 5 := by omega
    subst e
    exact br_t (Int32.le_refl _) J
  | succ d ih =>
    intro i hi
    have e : nI (mg_sz s i) + ((nI s >>> (nI i &&& 31)) &&& 1) = nI (mg_sz s (i + 1)) := by
      rw [mg_bit (by omega) (by omega), nI_add]
      rfl
    exact br_f (nI_ge (b := 5) (by omega) (by decide)) (nm_r e (nm_r (nI_1 i) (ih (i + 1) (by omega))))
theorem mx_sizeOf {post : Int32 → Prop} {s : Nat} {fn sv : Int32} {pl go co nw th tp bt : Nat → Int32} (hs : s < 32) (J : post (nI (mg_sz s 5))) : wpX_sizeOf post (fn, sv, pl, go, co, nw, th, tp, bt) (nI s) :=
  ⟨6, mx_sz4 hs J 5 0 rfl⟩
theorem my_sz4 {post : Int32 → Prop} {s : Nat} {fn mt mb wt wb yt yb : Int32} {ow ta we : Nat → Int32} (hs : s < 32) (J : post (nI (mg_sz s 5))) : ∀ (d i : Nat), i + d = 5 → wY_sizeOf_4 post (nI s) fn mt mb wt wb yt yb ow ta we (d + 1) (nI (mg_sz s i)) (nI i) := by
  intro d
  induction d with
  | zero =>
    intro i hi
    have e : i = 5 := by omega
    subst e
    exact br_t (Int32.le_refl _) J
  | succ d ih =>
    intro i hi
    have e : nI (mg_sz s i) + ((nI s >>> (nI i &&& 31)) &&& 1) = nI (mg_sz s (i + 1)) := by
      rw [mg_bit (by omega) (by omega), nI_add]
      rfl
    exact br_f (nI_ge (b := 5) (by omega) (by decide)) (nm_r e (nm_r (nI_1 i) (ih (i + 1) (by omega))))
theorem my_sizeOf {post : Int32 → Prop} {s : Nat} {fn mt mb wt wb yt yb : Int32} {ow ta we : Nat → Int32} (hs : s < 32) (J : post (nI (mg_sz s 5))) : wpY_sizeOf post (fn, mt, mb, wt, wb, yt, yb, ow, ta, we) (nI s) :=
  ⟨6, my_sz4 hs J 5 0 rfl⟩
/-- the owners once the places of s belong to b -/
def mg_gs (o : Nat → Bool) (s : Nat) (b : Bool) : Nat → Bool := fun q => if s.testBit q = true then b else o q
/-- the same while the places below i are done -/
def mg_gv (o : Nat → Bool) (s : Nat) (b : Bool) (i : Nat) : Nat → Bool := fun q => if q < i then mg_gs o s b q else o q
theorem mg_gv_0 (o : Nat → Bool) (s : Nat) (b : Bool) (q : Nat) : mg_gv o s b 0 q = o q := if_neg (Nat.not_lt_zero q)
theorem mg_gv_n {o : Nat → Bool} {s : Nat} {b : Bool} {n q : Nat} (h : q < n) : mg_gs o s b q = mg_gv o s b n q := (if_pos h).symm
theorem mg_gv_yes {o : Nat → Bool} {s : Nat} {b : Bool} {i : Nat} (h : s.testBit i = true) (q : Nat) : mg_gv o s b (i + 1) q = if q = i then b else mg_gv o s b i q := by
  unfold mg_gv
  by_cases e : q = i
  · rw [if_pos e, e, if_pos (Nat.lt_succ_self i)]
    exact if_pos h
  · rw [if_neg e]
    by_cases l : q < i
    · rw [if_pos l, if_pos (by omega)]
    · rw [if_neg l, if_neg (by omega)]
theorem mg_gv_no {o : Nat → Bool} {s : Nat} {b : Bool} {i : Nat} (h : ¬ s.testBit i = true) (q : Nat) : mg_gv o s b (i + 1) q = mg_gv o s b i q := by
  unfold mg_gv
  by_cases e : q = i
  · rw [e, if_pos (Nat.lt_succ_self i), if_neg (Nat.lt_irrefl i)]
    exact if_neg h
  · by_cases l : q < i
    · rw [if_pos l, if_pos (by omega)]
    · rw [if_neg l, if_neg (by omega)]
theorem mg_gs_back {n : Nat} {o : Nat → Bool} {s : Nat} (h : mg_vm n o false s) (q : Nat) : o q = mg_gs (mg_gs o s true) s false q := by
  unfold mg_gs
  by_cases e : s.testBit q = true
  · rw [if_pos e]; exact (h q e).2
  · rw [if_neg e, if_neg e]
theorem mg_dg1 {s i : Nat} (hs : s < 32) (hi : i < 5) : (((nI s >>> (nI i &&& 31)) &&& 1) = 1) ↔ s.testBit i = true := by
  rw [mg_bit (by omega) (by omega)]
  unfold mg_dg
  by_cases e : s.testBit i = true
  · rw [if_pos e]; exact ⟨fun _ => e, fun _ => rfl⟩
  · rw [if_neg e]; exact ⟨fun z => absurd z (by decide), fun z => absurd z e⟩
section
variable {n : Nat} {o : Nat → Bool} {t : Nat → Nat} {w : Nat → Int}
theorem mx_g2 {post : SX → Prop} {sv : Int32} {go co nw th tp bt : Nat → Int32} {s a : Nat} (hn5 : n ≤ 5) (hs : s < 32) (ha : a < 2) (J : ∀ pl' : Nat → Int32, mg_G n (mg_gs o s (decide (a = 1))) t w pl' go co → post (nI n, 0, pl', go, co, nw, th, tp, bt)) : ∀ (d i : Nat) (pl : Nat → Int32), i + d = n → mg_G n (mg_gv o s (decide (a = 1)) i) t w pl go co → wX_give_2 post (nI s) (nI a) (nI n) sv (d + 1) (nI i) pl go co nw th tp bt := by
  intro d
  induction d with
  | zero =>
    intro i pl hi G
    have e : i = n := by omega
    subst e
    exact br_t (Int32.le_refl _) (J pl (mg_G_cg G (fun p hp => mg_gv_n hp) (fun i _ => ⟨rfl, rfl⟩)))
  | succ d ih =>
    intro i pl hi G
    have c : (nI i).toNatClampNeg = i := nI_clamp (by omega)
    by_cases z : s.testBit i = true
    · refine br_f (nI_ge (by omega) (by omega)) (br_t ((mg_dg1 hs (by omega)).mpr z) ⟨vp_in_nI (by omega) (by omega), nm_r (e' := upd pl i (nI a)) (by rw [c]) (nm_r (nI_1 i) (ih (i + 1) _ (by omega) ?_))⟩)
      exact mg_G_cg (mg_G_own (p := i) G ha) (fun p hp => mg_gv_yes z p) (fun i _ => ⟨rfl, rfl⟩)
    · refine br_f (nI_ge (by omega) (by omega)) (br_f (fun y => z ((mg_dg1 hs (by omega)).mp y)) (nm_r (nI_1 i) (ih (i + 1) _ (by omega) ?_)))
      exact mg_G_cg G (fun p hp => mg_gv_no z p) (fun i _ => ⟨rfl, rfl⟩)
theorem mx_give {post : SX → Prop} {sv : Int32} {pl go co nw th tp bt : Nat → Int32} {s : Nat} (a : Nat) {x2 : Int32} (hx2 : x2 = nI a) (G : mg_G n o t w pl go co) (hs : s < 32) (ha : a < 2) (J : ∀ pl' : Nat → Int32, mg_G n (mg_gs o s (decide (a = 1))) t w pl' go co → post (nI n, 0, pl', go, co, nw, th, tp, bt)) : wpX_give post (nI n, sv, pl, go, co, nw, th, tp, bt) (nI s) x2 := by
  rw [hx2]
  exact ⟨n + 1, mx_g2 G.1.2 hs ha J n 0 pl (Nat.zero_add n) (mg_G_cg G (fun p _ => mg_gv_0 o s _ p) (fun i _ => ⟨rfl, rfl⟩))⟩
theorem my_g2 {post : SY → Prop} {mt mb wt wb yt yb : Int32} {ta we : Nat → Int32} {s a : Nat} (hn5 : n ≤ 5) (hs : s < 32) (ha : a < 2) (J : ∀ ow' : Nat → Int32, mg_G n (mg_gs o s (decide (a = 1))) t w ow' ta we → post (nI n, mt, mb, wt, wb, yt, yb, ow', ta, we)) : ∀ (d i : Nat) (ow : Nat → Int32), i + d = n → mg_G n (mg_gv o s (decide (a = 1)) i) t w ow ta we → wY_give_2 post (nI s) (nI a) (nI n) mt mb wt wb yt yb (d + 1) (nI i) ow ta we := by
  intro d
  induction d with
  | zero =>
    intro i pl hi G
    have e : i = n := by omega
    subst e
    exact br_t (Int32.le_refl _) (J pl (mg_G_cg G (fun p hp => mg_gv_n hp) (fun i _ => ⟨rfl, rfl⟩)))
  | succ d ih =>
    intro i pl hi G
    have c : (nI i).toNatClampNeg = i := nI_clamp (by omega)
    by_cases z : s.testBit i = true
    · refine br_f (nI_ge (by omega) (by omega)) (br_t ((mg_dg1 hs (by omega)).mpr z) ⟨vp_in_nI (by omega) (by omega), nm_r (e' := upd pl i (nI a)) (by rw [c]) (nm_r (nI_1 i) (ih (i + 1) _ (by omega) ?_))⟩)
      exact mg_G_cg (mg_G_own (p := i) G ha) (fun p hp => mg_gv_yes z p) (fun i _ => ⟨rfl, rfl⟩)
    · refine br_f (nI_ge (by omega) (by omega)) (br_f (fun y => z ((mg_dg1 hs (by omega)).mp y)) (nm_r (nI_1 i) (ih (i + 1) _ (by omega) ?_)))
      exact mg_G_cg G (fun p hp => mg_gv_no z p) (fun i _ => ⟨rfl, rfl⟩)
theorem my_give {post : SY → Prop} {mt mb wt wb yt yb : Int32} {ow ta we : Nat → Int32} {s : Nat} (a : Nat) {x2 : Int32} (hx2 : x2 = nI a) (G : mg_G n o t w ow ta we) (hs : s < 32) (ha : a < 2) (J : ∀ ow' : Nat → Int32, mg_G n (mg_gs o s (decide (a = 1))) t w ow' ta we → post (nI n, mt, mb, wt, wb, yt, yb, ow', ta, we)) : wpY_give post (nI n, mt, mb, wt, wb, yt, yb, ow, ta, we) (nI s) x2 := by
  rw [hx2]
  exact ⟨n + 1, my_g2 G.1.2 hs ha J n 0 ow (Nat.zero_add n) (mg_G_cg G (fun p _ => mg_gv_0 o s _ p) (fun i _ => ⟨rfl, rfl⟩))⟩
theorem mx_pl4 {post : Int32 → Prop} {sv : Int32} {pl go co nw th tp bt : Nat → Int32} (G : mg_G n o t w pl go co) (J : ∀ M, mg_Mk n o false M → post (nI M)) : ∀ (d i m : Nat), i + d = n → m < 2 ^ i → (∀ q, m.testBit q = (decide (q < i) && decide (o q = false))) → wX_placesOfMin_4 post (nI n) sv pl go co nw th tp bt (d + 1) (nI m) (nI i) := by
  have hn5 := G.1.2
  intro d
  induction d with
  | zero =>
    intro i m hi hm h
    have e : i = n := by omega
    subst e
    exact br_t (Int32.le_refl _) (J m ⟨hm, h⟩)
  | succ d ih =>
    intro i m hi hm h
    have ho := mg_own G (i := i) (by omega) false
    refine br_f (nI_ge (by omega) (by omega)) ⟨vp_in_nI (by omega) (by omega), br_c (fun z => ?_) (fun z => ?_)⟩
    · have k := mg_mk_yes hm h (ho.mp z)
      have e : nI m ||| ((1 : Int32) <<< (nI i &&& 31)) = nI (m ||| 2 ^ i) := by rw [mg_one (by omega), nx_or]
      exact nm_r e (nm_r (nI_1 i) (ih (i + 1) _ (by omega) k.1 k.2))
    · have k := mg_mk_no hm h (Bool.eq_false_iff.mpr (fun y => z (ho.mpr y)))
      exact nm_r (nI_1 i) (ih (i + 1) _ (by omega) k.1 k.2)
theorem mx_places {post : Int32 → Prop} {sv : Int32} {pl go co nw th tp bt : Nat → Int32} (G : mg_G n o t w pl go co) (J : ∀ M, mg_Mk n o false M → post (nI M)) : wpX_placesOfMin post (nI n, sv, pl, go, co, nw, th, tp, bt) :=
  ⟨n + 1, mx_pl4 G J n 0 0 (Nat.zero_add n) (by decide) (fun q => by rw [Nat.zero_testBit]; rfl)⟩
end
/-- the least size of a set below s whose gift helps -/
def mg_best (n M : Nat) (A : Int) (B : Nat) (fA : Nat → Int) (fB : Nat → Nat) : Nat → Int32
  | 0 => nI (n + 1)
  | s + 1 => if (nI s &&& nI M) = nI s then (if mg_best n M A B fA fB s ≤ nI (mg_sz s 5) then mg_best n M A B fA fB s else (if mg_z (fA s) * nI B ≤ mg_z A * nI (fB s) then mg_best n M A B fA fB s else nI (mg_sz s 5))) else mg_best n M A B fA fB s
end
section
/-! gifts: the loops over the sets -/
theorem mg_Mk_uniq {n : Nat} {o : Nat → Bool} {b : Bool} {M M' : Nat} (h : mg_Mk n o b M) (h' : mg_Mk n o b M') : M = M' := by
  apply Nat.eq_of_testBit_eq
  intro q
  rw [h.2, h'.2]
section
variable {n : Nat} {o : Nat → Bool} {t : Nat → Nat} {w : Nat → Int} {p M B : Nat} {A : Int} {fA : Nat → Int} {fB : Nat → Nat}
theorem mx_g46 (hM : mg_Mk n o false M) (hp : p < n) (hI : ∀ s, mg_Is n (mg_gs o s true) t w p (fA s) (fB s)) {post : Int32 → SX → Prop} {go co : Nat → Int32} (J : ∀ (sv : Int32) (pl nw th tp bt : Nat → Int32), mg_G n o t w pl go co → (sv = 0 ∨ mg_Sol n o t w tp bt) → post (mg_best n M A B fA fB (2 ^ n)) (nI n, sv, pl, go, co, nw, th, tp, bt)) : ∀ (d s : Nat) (sv : Int32) (pl nw th tp bt : Nat → Int32), s + d = 2 ^ n → mg_G n o t w pl go co → (sv = 0 ∨ mg_Sol n o t w tp bt) → wX_gifts_46 post (nI p) (mg_z A) (nI B) (nI M) (d + 1) (mg_best n M A B fA fB s) (nI s) (nI n) sv pl go co nw th tp bt := by
  intro d
  induction d with
  | zero =>
    intro s sv pl nw th tp bt hs G hv
    have hn5 := G.1.2
    have e : s = 2 ^ n := by omega
    subst e
    exact br_t (by rw [mg_one (by omega)]; exact Int32.le_refl _) (J sv pl nw th tp bt G hv)
  | succ d ih =>
    intro s sv pl nw th tp bt hs G hv
    have hn5 := G.1.2
    have h32 : 2 ^ n ≤ 2 ^ 5 := Nat.pow_le_pow_right (by decide) hn5
    have hM32 := mg_Mk_32 hn5 hM
    have hs32 : s < 32 := by omega
    have ip : vp_in (nI p) 5 := vp_in_nI (by omega) (by omega)
    have cp : (nI p).toNatClampNeg = p := nI_clamp (by omega)
    have eb : mg_best n M A B fA fB (s + 1) = if (nI s &&& nI M) = nI s then (if mg_best n M A B fA fB s ≤ nI (mg_sz s 5) then mg_best n M A B fA fB s else (if mg_z (fA s) * nI B ≤ mg_z A * nI (fB s) then mg_best n M A B fA fB s else nI (mg_sz s 5))) else mg_best n M A B fA fB s := rfl
    refine br_f (by rw [mg_one (by omega)]; exact nI_ge (by omega) (by omega)) (mx_sizeOf hs32 ?_)
    by_cases z : (nI s &&& nI M) = nI s
    · rw [if_pos z] at eb
      refine br_t ((mg_notin s hs32 M hM32).mpr z) ?_
      by_cases y : mg_best n M A B fA fB s ≤ nI (mg_sz s 5)
      · rw [if_pos y] at eb
        refine br_t y (nm_r (nI_1 s) ?_)
        have j := ih (s + 1) sv pl nw th tp bt (by omega) G hv
        rw [eb] at j
        exact j
      · rw [if_neg y] at eb
        have hvm := (mg_valid hs32 hM).mp z
        refine br_f y (mx_give 1 rfl G hs32 (by decide) (fun pl1 G1 => mx_solve G1 (Or.inl rfl) (fun sv2 nw2 th2 tp2 bt2 hS2 => ?_)))
        obtain ⟨A3, B3, h4, h5, h6⟩ := hS2 p hp
        have hu2 := mg_Is_uniq (hI s) h4
        dsimp only
        rw [cp, h5, h6, ← hu2.1, ← hu2.2]
        refine ⟨ip, ip, br_c (fun x => ?_) (fun x => ?_)⟩
        · rw [if_pos x] at eb
          refine mx_give 0 rfl G1 hs32 (by decide) (fun pl2 G2 => nm_r (nI_1 s) ?_)
          have j := ih (s + 1) 0 pl2 nw2 th2 tp2 bt2 (by omega) (mg_G_cg G2 (fun q _ => mg_gs_back hvm q) (fun i _ => ⟨rfl, rfl⟩)) (Or.inl rfl)
          rw [eb] at j
          exact j
        · rw [if_neg x] at eb
          refine mx_give 0 rfl G1 hs32 (by decide) (fun pl2 G2 => nm_r (nI_1 s) ?_)
          have j := ih (s + 1) 0 pl2 nw2 th2 tp2 bt2 (by omega) (mg_G_cg G2 (fun q _ => mg_gs_back hvm q) (fun i _ => ⟨rfl, rfl⟩)) (Or.inl rfl)
          rw [eb] at j
          exact j
    · rw [if_neg z] at eb
      refine br_f (fun y => z ((mg_notin s hs32 M hM32).mp y)) (nm_r (nI_1 s) ?_)
      have j := ih (s + 1) sv pl nw th tp bt (by omega) G hv
      rw [eb] at j
      exact j
theorem my_g44 (hM : mg_Mk n o false M) (hp : p < n) (hI : ∀ s, mg_Is n (mg_gs o s true) t w p (fA s) (fB s)) {post : Int32 → SY → Prop} {ta we : Nat → Int32} (J : ∀ (mt mb wt wb yt yb : Int32) (ow : Nat → Int32), mg_G n o t w ow ta we → post (mg_best n M A B fA fB 32) (nI n, mt, mb, wt, wb, yt, yb, ow, ta, we)) : ∀ (d s : Nat) (mt mb wt wb yt yb : Int32) (ow : Nat → Int32), s + d = 32 → mg_G n o t w ow ta we → wY_gifts_44 post (nI p) (mg_z A) (nI B) (nI M) (d + 1) (mg_best n M A B fA fB s) (nI s) (nI n) mt mb wt wb yt yb ow ta we := by
  intro d
  induction d with
  | zero =>
    intro s mt mb wt wb yt yb ow hs G
    have e : s = 32 := by omega
    subst e
    exact br_t (Int32.le_refl _) (J mt mb wt wb yt yb ow G)
  | succ d ih =>
    intro s mt mb wt wb yt yb ow hs G
    have hn5 := G.1.2
    have hs32 : s < 32 := by omega
    have eb : mg_best n M A B fA fB (s + 1) = if (nI s &&& nI M) = nI s then (if mg_best n M A B fA fB s ≤ nI (mg_sz s 5) then mg_best n M A B fA fB s else (if mg_z (fA s) * nI B ≤ mg_z A * nI (fB s) then mg_best n M A B fA fB s else nI (mg_sz s 5))) else mg_best n M A B fA fB s := rfl
    refine br_f (nI_ge (b := 32) (by omega) (by decide)) ?_
    by_cases z : (nI s &&& nI M) = nI s
    · rw [if_pos z] at eb
      refine br_t z (my_sizeOf hs32 ?_)
      by_cases y : mg_best n M A B fA fB s ≤ nI (mg_sz s 5)
      · rw [if_pos y] at eb
        refine br_t y (nm_r (nI_1 s) ?_)
        have j := ih (s + 1) mt mb wt wb yt yb ow (by omega) G
        rw [eb] at j
        exact j
      · rw [if_neg y] at eb
        have hvm := (mg_valid hs32 hM).mp z
        refine br_f y (my_give 1 rfl G hs32 (by decide) (fun ow1 G1 => my_value G1 hp (fun mt2 mb2 wt2 wb2 A3 B3 h4 => my_give 0 rfl G1 hs32 (by decide) (fun ow2 G2 => ?_))))
        have hu2 := mg_Is_uniq (hI s) h4
        dsimp only
        rw [← hu2.1, ← hu2.2]
        refine br_c (fun x => ?_) (fun x => ?_)
        · rw [if_pos x] at eb
          refine nm_r (nI_1 s) ?_
          have j := ih (s + 1) mt2 mb2 wt2 wb2 (mg_z (fA s)) (nI (fB s)) ow2 (by omega) (mg_G_cg G2 (fun q _ => mg_gs_back hvm q) (fun i _ => ⟨rfl, rfl⟩))
          rw [eb] at j
          exact j
        · rw [if_neg x] at eb
          refine my_sizeOf hs32 (nm_r (nI_1 s) ?_)
          have j := ih (s + 1) mt2 mb2 wt2 wb2 (mg_z (fA s)) (nI (fB s)) ow2 (by omega) (mg_G_cg G2 (fun q _ => mg_gs_back hvm q) (fun i _ => ⟨rfl, rfl⟩))
          rw [eb] at j
          exact j
    · rw [if_neg z] at eb
      refine br_f z (nm_r (nI_1 s) ?_)
      have j := ih (s + 1) mt mb wt wb yt yb ow (by omega) G
      rw [eb] at j
      exact j
theorem mg_best_1 (hn1 : 1 ≤ n) (hn5 : n ≤ 5) (h0 : fA 0 = A ∧ fB 0 = B) : mg_best n M A B fA fB 1 = nI (n + 1) := by
  have eb : mg_best n M A B fA fB 1 = if (nI 0 &&& nI M) = nI 0 then (if nI (n + 1) ≤ nI (mg_sz 0 5) then nI (n + 1) else (if mg_z (fA 0) * nI B ≤ mg_z A * nI (fB 0) then nI (n + 1) else nI (mg_sz 0 5))) else nI (n + 1) := rfl
  rw [eb, h0.1, h0.2, if_pos (Int32.le_refl (mg_z A * nI B))]
  by_cases x : (nI 0 &&& nI M) = nI 0
  · rw [if_pos x]
    by_cases y : nI (n + 1) ≤ nI (mg_sz 0 5)
    · rw [if_pos y]
    · rw [if_neg y]
  · rw [if_neg x]
theorem mg_best_stop (hn5 : n ≤ 5) (hM : mg_Mk n o false M) : ∀ d, 2 ^ n + d ≤ 32 → mg_best n M A B fA fB (2 ^ n + d) = mg_best n M A B fA fB (2 ^ n) := by
  intro d
  induction d with
  | zero => intro _; rfl
  | succ d ih =>
    intro h
    have eb : mg_best n M A B fA fB (2 ^ n + (d + 1)) = if (nI (2 ^ n + d) &&& nI M) = nI (2 ^ n + d) then (if mg_best n M A B fA fB (2 ^ n + d) ≤ nI (mg_sz (2 ^ n + d) 5) then mg_best n M A B fA fB (2 ^ n + d) else (if mg_z (fA (2 ^ n + d)) * nI B ≤ mg_z A * nI (fB (2 ^ n + d)) then mg_best n M A B fA fB (2 ^ n + d) else nI (mg_sz (2 ^ n + d) 5))) else mg_best n M A B fA fB (2 ^ n + d) := rfl
    have hz : ¬ (nI (2 ^ n + d) &&& nI M) = nI (2 ^ n + d) := by
      intro z
      have hv := (mg_valid (by omega) hM).mp z
      have hl : 2 ^ n + d < 2 ^ n := Nat.lt_pow_two_of_testBit _ (fun i hi => by
        cases e : (2 ^ n + d).testBit i with
        | false => rfl
        | true =>
          have := (hv i e).1
          omega)
      omega
    rw [eb, if_neg hz]
    exact ih (by omega)
end
theorem i_vc_gifts {k : Nat} {u : SX} {v : SY} (I : i_Rel k u v) (hk : k + 5 ≤ 2561) (v1 : Int32) : wpX_gifts (fun r u' => wpY_gifts (fun r' v' => r' = r ∧ i_Rel (k + 5) u' v') v v1) u v1 := by
  refine mg_el (P := fun u v => wpX_gifts (fun r u' => wpY_gifts (fun r' v' => r' = r ∧ i_Rel (k + 5) u' v') v v1) u v1) I ?_
  intro n o t w sv pl go co nw th tp bt mt mb wt wb yt yb ow ta we G hs G'
  have hn1 := G.1.1
  have hn5 := G.1.2
  have h32 : 2 ^ n ≤ 2 ^ 5 := Nat.pow_le_pow_right (by decide) hn5
  have hpos : 1 ≤ 2 ^ n := Nat.two_pow_pos n
  unfold wpX_gifts wpY_gifts
  dsimp only
  rcases mg_ix3 v1 (n := n) (by omega) with hb | ⟨p, hp, rfl⟩
  · exact mx_bp_bad hb (br_f (by decide) (my_ip_bad hb (br_t rfl ⟨rfl, mg_in G hs G'⟩)))
  · have ip : vp_in (nI p) 5 := vp_in_nI (by omega) (by omega)
    have cp : (nI p).toNatClampNeg = p := nI_clamp (by omega)
    have hex : ∀ s : Nat, ∃ AB : Int × Nat, mg_Is n (mg_gs o s true) t w p AB.1 AB.2 := by
      intro s
      obtain ⟨A, B, hI⟩ := mg_Is_ex (o := mg_gs o s true) (w := w) hn5 (mg_G_t G) hp
      exact ⟨(A, B), hI⟩
    obtain ⟨f, hf⟩ := Classical.axiomOfChoice hex
    refine mx_bp_good hn5 hp (br_t rfl (mx_solve G hs (fun sv1 nw1 th1 tp1 bt1 hS1 => ?_)))
    obtain ⟨A, B, hI, h2, h3⟩ := hS1 p hp
    have e0 : mg_gs o 0 true = o := by
      funext q
      unfold mg_gs
      rw [Nat.zero_testBit]
      exact if_neg (by decide)
    have hf0 := hf 0
    rw [e0] at hf0
    have h0 := mg_Is_uniq hf0 hI
    dsimp only
    refine ⟨ip, nm_r (e' := mg_z A) (by rw [cp, h2]) ⟨ip, nm_r (e' := nI B) (by rw [cp, h3]) (mx_places G (fun M hM => nm_r (nI_1 n) ⟨2 ^ n - 1 + 1, ?_⟩))⟩⟩
    have hb1 := mg_best_1 (M := M) (fA := fun s => (f s).1) (fB := fun s => (f s).2) hn1 hn5 h0
    rw [← hb1]
    refine mx_g46 hM hp hf (fun sv2 pl2 nw2 th2 tp2 bt2 G2 hs2 => ?_) (2 ^ n - 1) 1 sv1 pl nw1 th1 tp1 bt1 (by omega) G (Or.inr hS1)
    refine my_ip_good hn5 hp (br_f (by decide) (my_value G' hp (fun mt3 mb3 wt3 wb3 A3 B3 h4 => ?_)))
    have hu := mg_Is_uniq hI h4
    rw [← hu.1, ← hu.2]
    dsimp only
    refine my_places G' false rfl (fun M' hM' => nm_r (nI_1 n) ⟨32 + 1, ?_⟩)
    have eM := mg_Mk_uniq hM' hM
    rw [eM]
    refine my_g44 (fA := fun s => (f s).1) (fB := fun s => (f s).2) hM hp hf (fun mt5 mb5 wt5 wb5 yt5 yb5 ow5 G5 => ⟨?_, mg_in G2 hs2 G5⟩) 32 0 mt3 mb3 wt3 wb3 (mg_z A) (nI B) ow rfl G'
    have e := mg_best_stop (A := A) (B := B) (fA := fun s => (f s).1) (fB := fun s => (f s).2) hn5 hM (32 - 2 ^ n) (by omega)
    rw [← e]
    exact congrArg _ (by omega)
end
section
/-! shift, mirror -/
theorem mg_2n (n : Nat) : (2 : Int32) * nI n = nI (2 * n) := pk_mul 2 n
/-- every weight may be moved by s -/
def mg_ok (n : Nat) (w : Nat → Int) (s : Int) : Prop := ∀ j, j < 2 * n → -3 ≤ w j + s ∧ w j + s ≤ 3
section
variable {n : Nat} {o : Nat → Bool} {t : Nat → Nat} {w : Nat → Int} {s : Int}
theorem mg_G_sh {pl go co : Nat → Int32} {i : Nat} (hi : i < 2 * n) (hok : mg_ok n w s) (G : mg_G n o t (fun j => if j < i then w j + s else w j) pl go co) : co (nI i).toNatClampNeg + mg_z s = mg_z (w i + s) ∧ mg_G n o t (fun j => if j < i + 1 then w j + s else w j) pl go (upd co (nI i).toNatClampNeg (mg_z (w i + s))) := by
  have hn5 := G.1.2
  have c : (nI i).toNatClampNeg = i := nI_clamp (by omega)
  have g : co i = mg_z (if i < i then w i + s else w i) := (G.2.2 i hi).2.2.1
  rw [if_neg (Nat.lt_irrefl i)] at g
  refine ⟨by rw [c, g, mg_z_add], ?_⟩
  rw [c]
  refine mg_G_cg (mg_G_co (k := i) G (hok i hi)) (fun _ _ => rfl) (fun j _ => ⟨rfl, ?_⟩)
  show (if j < i + 1 then w j + s else w j) = if j = i then w i + s else if j < i then w j + s else w j
  by_cases e : j = i
  · rw [if_pos e, e, if_pos (Nat.lt_succ_self i)]
  · rw [if_neg e]
    by_cases l : j < i
    · rw [if_pos l, if_pos (by omega)]
    · rw [if_neg l, if_neg (by omega)]
theorem mg_G_sh0 {pl go co : Nat → Int32} (G : mg_G n o t w pl go co) : mg_G n o t (fun j => if j < 0 then w j + s else w j) pl go co :=
  mg_G_cg G (fun _ _ => rfl) (fun j _ => ⟨rfl, if_neg (Nat.not_lt_zero j)⟩)
theorem mg_G_shn {pl go co : Nat → Int32} (G : mg_G n o t (fun j => if j < 2 * n then w j + s else w j) pl go co) : mg_G n o t (fun j => w j + s) pl go co :=
  mg_G_cg G (fun _ _ => rfl) (fun j hj => ⟨rfl, (if_pos hj).symm⟩)
theorem mx_sh58 {post : Int32 → SX → Prop} {sv : Int32} {pl go nw th tp bt : Nat → Int32} (hn5 : n ≤ 5) (hok : mg_ok n w s) (J : ∀ co' : Nat → Int32, mg_G n o t (fun j => w j + s) pl go co' → post 0 (nI n, 0, pl, go, co', nw, th, tp, bt)) : ∀ (d i : Nat) (co : Nat → Int32), i + d = 2 * n → mg_G n o t (fun j => if j < i then w j + s else w j) pl go co → wX_shift_58 post (mg_z s) (nI n) sv (d + 1) (nI i) pl go co nw th tp bt := by
  intro d
  induction d with
  | zero =>
    intro i co hi G
    have e : i = 2 * n := by omega
    subst e
    exact br_t (by rw [mg_2n]; exact Int32.le_refl _) (J co (mg_G_shn G))
  | succ d ih =>
    intro i co hi G
    have k := mg_G_sh (by omega) hok G
    have ii : vp_in (nI i) 10 := vp_in_nI (by omega) (by omega)
    exact br_f (by rw [mg_2n]; exact nI_ge (by omega) (by omega)) ⟨ii, ii, nm_r (by rw [k.1]) (nm_r (nI_1 i) (ih (i + 1) _ (by omega) k.2))⟩
theorem my_sh63 {post : Int32 → SY → Prop} {mt mb wt wb yt yb : Int32} {ow ta : Nat → Int32} (hn5 : n ≤ 5) (hok : mg_ok n w s) (J : ∀ we' : Nat → Int32, mg_G n o t (fun j => w j + s) ow ta we' → post 0 (nI n, mt, mb, wt, wb, yt, yb, ow, ta, we')) : ∀ (d i : Nat) (we : Nat → Int32), i + d = 2 * n → mg_G n o t (fun j => if j < i then w j + s else w j) ow ta we → wY_shift_63 post (mg_z s) (nI n) mt mb wt wb yt yb (d + 1) (nI i) ow ta we := by
  intro d
  induction d with
  | zero =>
    intro i co hi G
    have e : i = 2 * n := by omega
    subst e
    exact br_t (by rw [mg_2n]; exact Int32.le_refl _) (J co (mg_G_shn G))
  | succ d ih =>
    intro i co hi G
    have k := mg_G_sh (by omega) hok G
    have ii : vp_in (nI i) 10 := vp_in_nI (by omega) (by omega)
    exact br_f (by rw [mg_2n]; exact nI_ge (by omega) (by omega)) ⟨ii, ii, nm_r (by rw [k.1]) (nm_r (nI_1 i) (ih (i + 1) _ (by omega) k.2))⟩
theorem mx_sh17 {post : Int32 → SX → Prop} {sv : Int32} {pl go co nw th tp bt : Nat → Int32} (hs : -6 ≤ s ∧ s ≤ 6) (G : mg_G n o t w pl go co) (J1 : mg_ok n w s → ∃ m, wX_shift_58 post (mg_z s) (nI n) sv m 0 pl go co nw th tp bt) (J2 : ¬ mg_ok n w s → post (-100) (nI n, sv, pl, go, co, nw, th, tp, bt)) : ∀ (d i : Nat), i + d = 2 * n → (∀ j, j < i → -3 ≤ w j + s ∧ w j + s ≤ 3) → wX_shift_17 post (mg_z s) (nI n) sv pl go co nw th tp bt (d + 1) (nI i) := by
  have hn5 := G.1.2
  intro d
  induction d with
  | zero =>
    intro i hi h
    have e : i = 2 * n := by omega
    subst e
    exact br_t (by rw [mg_2n]; exact Int32.le_refl _) (J1 h)
  | succ d ih =>
    intro i hi h
    have g := G.2.2 i (by omega)
    have e : co (nI i).toNatClampNeg + mg_z s = mg_z (w i + s) := by rw [nI_clamp (by omega), g.2.2.1, mg_z_add]
    refine br_f (by rw [mg_2n]; exact nI_ge (by omega) (by omega)) ⟨vp_in_nI (by omega) (by omega), nm_r e (mg_b_lt (w i + s) (-3) (fun l => J2 (fun z => ?_)) (fun l => mg_b_le (w i + s) 3 (fun l' => nm_r (nI_1 i) (ih (i + 1) (by omega) (fun j hj => ?_))) (fun l' => J2 (fun z => ?_)) rfl rfl (by omega) (by omega)) rfl rfl (by omega) (by omega))⟩
    · have := z i (by omega)
      omega
    · by_cases q : j = i
      · rw [q]; exact ⟨l, l'⟩
      · exact h j (by omega)
    · have := z i (by omega)
      omega
theorem my_sh17 {post : Int32 → SY → Prop} {mt mb wt wb yt yb : Int32} {ow ta we : Nat → Int32} (hs : -6 ≤ s ∧ s ≤ 6) (G : mg_G n o t w ow ta we) (J1 : mg_ok n w s → ∃ m, wY_shift_63 post (mg_z s) (nI n) mt mb wt wb yt yb m 0 ow ta we) (J2 : ¬ mg_ok n w s → post (-100) (nI n, mt, mb, wt, wb, yt, yb, ow, ta, we)) : ∀ (d i : Nat), i + d = 2 * n → (∀ j, j < i → -3 ≤ w j + s ∧ w j + s ≤ 3) → wY_shift_17 post (mg_z s) (nI n) mt mb wt wb yt yb ow ta we (d + 1) (nI i) := by
  have hn5 := G.1.2
  intro d
  induction d with
  | zero =>
    intro i hi h
    have e : i = 2 * n := by omega
    subst e
    exact br_t (by rw [mg_2n]; exact Int32.le_refl _) (J1 h)
  | succ d ih =>
    intro i hi h
    have g := G.2.2 i (by omega)
    have e : we (nI i).toNatClampNeg + mg_z s = mg_z (w i + s) := by rw [nI_clamp (by omega), g.2.2.1, mg_z_add]
    have ii : vp_in (nI i) 10 := vp_in_nI (by omega) (by omega)
    refine br_f (by rw [mg_2n]; exact nI_ge (by omega) (by omega)) ⟨ii, mg_b_lt (w i + s) (-3) (fun l => J2 (fun z => ?_)) (fun l => ⟨ii, mg_b_le (w i + s) 3 (fun l' => nm_r (nI_1 i) (ih (i + 1) (by omega) (fun j hj => ?_))) (fun l' => J2 (fun z => ?_)) e rfl (by omega) (by omega)⟩) e rfl (by omega) (by omega)⟩
    · have := z i (by omega)
      omega
    · by_cases q : j = i
      · rw [q]; exact ⟨l, l'⟩
      · exact h j (by omega)
    · have := z i (by omega)
      omega
end
theorem i_vc_shift {k : Nat} {u : SX} {v : SY} (I : i_Rel k u v) (hk : k + 5 ≤ 2561) (v1 : Int32) : wpX_shift (fun r u' => wpY_shift (fun r' v' => r' = r ∧ i_Rel (k + 5) u' v') v v1) u v1 := by
  refine mg_el (P := fun u v => wpX_shift (fun r u' => wpY_shift (fun r' v' => r' = r ∧ i_Rel (k + 5) u' v') v v1) u v1) I ?_
  intro n o t w sv pl go co nw th tp bt mt mb wt wb yt yb ow ta we G hs G'
  have hn5 := G.1.2
  by_cases z : v1 < -6
  · exact br_t z (br_t z ⟨rfl, mg_in G hs G'⟩)
  · by_cases y : v1 ≤ 6
    · have h1 : -6 ≤ v1.toInt := by
        have z' := z
        rw [Int32.lt_iff_toInt_lt, show (-6 : Int32).toInt = -6 from by decide] at z'
        omega
      have h2 : v1.toInt ≤ 6 := by
        have y' := y
        rw [Int32.le_iff_toInt_le, show (6 : Int32).toInt = 6 from by decide] at y'
        exact y'
      have e := mg_z_of v1
      generalize v1.toInt = s at h1 h2 e
      subst e
      refine br_f z (br_t y ⟨2 * n + 1, mx_sh17 ⟨h1, h2⟩ G (fun hok => ⟨2 * n + 1, mx_sh58 hn5 hok (fun co' G1 => ?_) (2 * n) 0 co (Nat.zero_add _) (mg_G_sh0 G)⟩) (fun hok => ?_) (2 * n) 0 (Nat.zero_add _) (fun j hj => absurd hj (Nat.not_lt_zero j))⟩)
      · exact br_f z (br_t y ⟨2 * n + 1, my_sh17 ⟨h1, h2⟩ G' (fun _ => ⟨2 * n + 1, my_sh63 hn5 hok (fun we' G2 => ⟨rfl, mg_in G1 (Or.inl rfl) G2⟩) (2 * n) 0 we (Nat.zero_add _) (mg_G_sh0 G')⟩) (fun q => absurd hok q) (2 * n) 0 (Nat.zero_add _) (fun j hj => absurd hj (Nat.not_lt_zero j))⟩)
      · exact br_f z (br_t y ⟨2 * n + 1, my_sh17 ⟨h1, h2⟩ G' (fun q => absurd q hok) (fun _ => ⟨rfl, mg_in G hs G'⟩) (2 * n) 0 (Nat.zero_add _) (fun j hj => absurd hj (Nat.not_lt_zero j))⟩)
    · exact br_f z (br_f y (br_f z (br_f y ⟨rfl, mg_in G hs G'⟩)))
section
variable {n : Nat} {o : Nat → Bool} {t : Nat → Nat} {w : Nat → Int}
def mg_mo (o : Nat → Bool) (i : Nat) : Nat → Bool := fun q => if q < i then !o q else o q
def mg_mw (w : Nat → Int) (i : Nat) : Nat → Int := fun j => if j < 2 * i then - w j else w j
theorem mg_mir {pl go co : Nat → Int32} {i : Nat} (hi : i < n) (G : mg_G n (mg_mo o i) t (mg_mw w i) pl go co) : mg_G n (mg_mo o (i + 1)) t (mg_mw w (i + 1)) (upd pl i (1 - pl i)) go (upd (upd co (2 * i) (-co (2 * i))) (2 * i + 1) (-(upd co (2 * i) (-co (2 * i))) (2 * i + 1))) := by
  have g0 := G.2.2 (2 * i) (by omega)
  have g1 := G.2.2 (2 * i + 1) (by omega)
  have gp := G.2.1 i hi
  have e0 : mg_mw w i (2 * i) = w (2 * i) := if_neg (by omega)
  have e1 : mg_mw w i (2 * i + 1) = w (2 * i + 1) := if_neg (by omega)
  have ep : mg_mo o i i = o i := if_neg (Nat.lt_irrefl i)
  rw [e0] at g0
  rw [e1] at g1
  rw [ep] at gp
  have hpl : 1 - pl i = nI (if o i = true then 0 else 1) := by
    rw [gp]
    cases o i <;> decide
  rw [pk_un (show 2 * i + 1 ≠ 2 * i from by omega), g0.2.2.1, g1.2.2.1, mg_z_neg, mg_z_neg, hpl]
  have ha : (if o i = true then 0 else 1) < 2 := by cases o i <;> decide
  refine mg_G_cg (mg_G_co (k := 2 * i + 1) (mg_G_co (k := 2 * i) (mg_G_own (p := i) G ha) (z := - w (2 * i)) (by omega)) (z := - w (2 * i + 1)) (by omega)) (fun q _ => ?_) (fun j _ => ⟨rfl, ?_⟩)
  · show mg_mo o (i + 1) q = if q = i then decide ((if o i = true then 0 else 1) = 1) else mg_mo o i q
    unfold mg_mo
    by_cases e : q = i
    · rw [if_pos e, e, if_pos (Nat.lt_succ_self i)]
      cases o i <;> decide
    · rw [if_neg e]
      by_cases l : q < i
      · rw [if_pos l, if_pos (by omega)]
      · rw [if_neg l, if_neg (by omega)]
  · show mg_mw w (i + 1) j = if j = 2 * i + 1 then - w (2 * i + 1) else if j = 2 * i then - w (2 * i) else mg_mw w i j
    unfold mg_mw
    by_cases e : j = 2 * i + 1
    · rw [if_pos e, e, if_pos (by omega)]
    · rw [if_neg e]
      by_cases e2 : j = 2 * i
      · rw [if_pos e2, e2, if_pos (by omega)]
      · rw [if_neg e2]
        by_cases l : j < 2 * i
        · rw [if_pos l, if_pos (by omega)]
        · rw [if_neg l, if_neg (by omega)]
theorem mg_mir0 {pl go co : Nat → Int32} (G : mg_G n o t w pl go co) : mg_G n (mg_mo o 0) t (mg_mw w 0) pl go co :=
  mg_G_cg G (fun q _ => if_neg (Nat.not_lt_zero q)) (fun j _ => ⟨rfl, if_neg (by omega)⟩)
theorem mx_mir2 {post : SX → Prop} {sv : Int32} {go nw th tp bt : Nat → Int32} (hn5 : n ≤ 5) (J : ∀ pl' co' : Nat → Int32, mg_G n (mg_mo o n) t (mg_mw w n) pl' go co' → post (nI n, 0, pl', go, co', nw, th, tp, bt)) : ∀ (d i : Nat) (pl co : Nat → Int32), i + d = n → mg_G n (mg_mo o i) t (mg_mw w i) pl go co → wX_mirror_2 post (nI n) sv (d + 1) (nI i) pl go co nw th tp bt := by
  intro d
  induction d with
  | zero =>
    intro i pl co hi G
    have e : i = n := by omega
    subst e
    exact br_t (Int32.le_refl _) (J pl co G)
  | succ d ih =>
    intro i pl co hi G
    have c : (nI i).toNatClampNeg = i := nI_clamp (by omega)
    have c0 : (nI i * 2).toNatClampNeg = 2 * i := by rw [mg_m0]; exact nI_clamp (by omega)
    have c1 : (nI i * 2 + 1).toNatClampNeg = 2 * i + 1 := by rw [mg_m1]; exact nI_clamp (by omega)
    have ii : vp_in (nI i) 5 := vp_in_nI (by omega) (by omega)
    have i0 : vp_in (nI i * 2) 10 := by rw [mg_m0]; exact vp_in_nI (by omega) (by omega)
    have i1 : vp_in (nI i * 2 + 1) 10 := by rw [mg_m1]; exact vp_in_nI (by omega) (by omega)
    have j := ih (i + 1) _ _ (by omega) (mg_mir (by omega) G)
    exact br_f (nI_ge (by omega) (by omega)) ⟨ii, ii, nm_r (by rw [c]) ⟨i0, i0, nm_r (by rw [c0]) ⟨i1, i1, nm_r (by rw [c1]) (nm_r (nI_1 i) j)⟩⟩⟩
theorem my_mir2 {post : SY → Prop} {mt mb wt wb yt yb : Int32} {ta : Nat → Int32} (hn5 : n ≤ 5) (J : ∀ ow' we' : Nat → Int32, mg_G n (mg_mo o n) t (mg_mw w n) ow' ta we' → post (nI n, mt, mb, wt, wb, yt, yb, ow', ta, we')) : ∀ (d i : Nat) (ow we : Nat → Int32), i + d = n → mg_G n (mg_mo o i) t (mg_mw w i) ow ta we → wY_mirror_2 post (nI n) mt mb wt wb yt yb (d + 1) (nI i) ow ta we := by
  intro d
  induction d with
  | zero =>
    intro i pl co hi G
    have e : i = n := by omega
    subst e
    exact br_t (Int32.le_refl _) (J pl co G)
  | succ d ih =>
    intro i pl co hi G
    have c : (nI i).toNatClampNeg = i := nI_clamp (by omega)
    have m1 : (2 : Int32) * nI i + 1 = nI (2 * i + 1) := by rw [mg_2n]; exact nI_1 _
    have c0 : ((2 : Int32) * nI i).toNatClampNeg = 2 * i := by rw [mg_2n]; exact nI_clamp (by omega)
    have c1 : ((2 : Int32) * nI i + 1).toNatClampNeg = 2 * i + 1 := by rw [m1]; exact nI_clamp (by omega)
    have ii : vp_in (nI i) 5 := vp_in_nI (by omega) (by omega)
    have i0 : vp_in ((2 : Int32) * nI i) 10 := by rw [mg_2n]; exact vp_in_nI (by omega) (by omega)
    have i1 : vp_in ((2 : Int32) * nI i + 1) 10 := by rw [m1]; exact vp_in_nI (by omega) (by omega)
    have j := ih (i + 1) _ _ (by omega) (mg_mir (by omega) G)
    exact br_f (nI_ge (by omega) (by omega)) ⟨ii, ii, nm_r (by rw [c]) ⟨i0, i0, nm_r (by rw [c0]) ⟨i1, i1, nm_r (by rw [c1]) (nm_r (nI_1 i) j)⟩⟩⟩
end
theorem i_vc_mirror {k : Nat} {u : SX} {v : SY} (I : i_Rel k u v) (hk : k + 5 ≤ 2561) : wpX_mirror (fun u' => wpY_mirror (fun v' => i_Rel (k + 5) u' v') v) u := by
  refine mg_el (P := fun u v => wpX_mirror (fun u' => wpY_mirror (fun v' => i_Rel (k + 5) u' v') v) u) I ?_
  intro n o t w sv pl go co nw th tp bt mt mb wt wb yt yb ow ta we G hs G'
  have hn5 := G.1.2
  exact ⟨n + 1, mx_mir2 hn5 (fun pl1 co1 G1 => ⟨n + 1, my_mir2 hn5 (fun ow1 we1 G2 => mg_in G1 (Or.inl rfl) G2) n 0 ow we (Nat.zero_add n) (mg_mir0 G')⟩) n 0 pl co (Nat.zero_add n) (mg_mir0 G)⟩
end
