section
/-! rows pasted from the kit's rows to paste (PURE-ROWS, BITS) -/
theorem pk_us {f : Nat → Int32} {k : Nat} {x : Int32} : upd f k x k = x := if_pos rfl
theorem pk_un {f : Nat → Int32} {k j : Nat} {x : Int32} (h : j ≠ k) : upd f k x j = f j := if_neg h
theorem pk_uLs {f : Nat → Int64} {k : Nat} {x : Int64} : vp_updL f k x k = x := if_pos rfl
theorem pk_uLn {f : Nat → Int64} {k j : Nat} {x : Int64} (h : j ≠ k) : vp_updL f k x j = f j := if_neg h
theorem pk_sub {a b : Nat} (h : b ≤ a) : nI a - nI b = nI (a - b) := by
  obtain ⟨c, rfl⟩ : ∃ c, a = c + b := ⟨a - b, by omega⟩
  rw [← nI_add, Int32.add_sub_cancel, Nat.add_sub_cancel]
theorem pk_m1 (n : Nat) : nI (n + 1) + (-1) = nI n := by
  rw [← nI_1, Int32.add_assoc, show (1 : Int32) + (-1) = 0 from rfl, Int32.add_zero]
theorem pk_mul (a b : Nat) : nI a * nI b = nI (a * b) := (Int32.ofNat_mul a b).symm
theorem pk_div {a d : Nat} (ha : a < 2 ^ 31) (h0 : 0 < d) (hd : d < 2 ^ 31) : nI a / nI d = nI (a / d) := by
  apply Int32.toInt_inj.mp
  rw [lg_idiv_nonneg (by rw [nI_toInt ha]; omega) (by rw [nI_toInt hd]; omega), nI_toInt ha, nI_toInt hd, nI_toInt (Nat.lt_of_le_of_lt (Nat.div_le_self a d) ha)]
  first | rfl | exact (Int.natCast_ediv _ _).symm
theorem pk_rem {a d : Nat} (ha : a < 2 ^ 31) (h0 : 0 < d) (hd : d < 2 ^ 31) : nI a - nI a / nI d * nI d = nI (a % d) := by
  rw [pk_div ha h0 hd, pk_mul, pk_sub (Nat.div_mul_le_self a d)]
  exact congrArg nI (by have := Nat.div_add_mod' a d; omega)
theorem pk_sub_toInt {a b : Nat} (ha : a < 2 ^ 30) (hb : b < 2 ^ 30) : (nI a - nI b).toInt = (a : Int) - b := by
  rw [Int32.toInt_sub, nI_toInt (by omega), nI_toInt (by omega)]
  exact Int.bmod_eq_of_le (by omega) (by omega)
theorem pk_sneg {a b : Nat} (hb : b < 2 ^ 30) (h : a < b) : nI a - nI b < 0 := by
  rw [Int32.lt_iff_toInt_lt, pk_sub_toInt (by omega) hb, show (0 : Int32).toInt = 0 from by decide]
  omega
theorem pk_ix (x : Int32) {n : Nat} (hn : n < 2 ^ 31) : x < 0 ∨ nI n ≤ x ∨ ∃ j : Nat, j < n ∧ x = nI j := by
  by_cases h : x < 0
  · exact Or.inl h
  · obtain ⟨j, hj, rfl⟩ := nI_of h
    by_cases h2 : j < n
    · exact Or.inr (Or.inr ⟨j, h2, rfl⟩)
    · exact Or.inr (Or.inl (nI_le (by omega) hj))
theorem pk_le {x y : Int32} {A B : Prop} (a b : Nat) (f : a ≤ b → A) (g : b < a → B) (hx : x = nI a := by rfl) (hy : y = nI b := by rfl) (ha : a < 2 ^ 31 := by omega) (hb : b < 2 ^ 31 := by omega) : (x ≤ y → A) ∧ (¬ x ≤ y → B) := by
  subst hx hy
  rw [nI_leI ha hb]
  exact ⟨f, fun z => g (by omega)⟩
theorem pk_lt {x y : Int32} {A B : Prop} (a b : Nat) (f : a < b → A) (g : b ≤ a → B) (hx : x = nI a := by rfl) (hy : y = nI b := by rfl) (ha : a < 2 ^ 31 := by omega) (hb : b < 2 ^ 31 := by omega) : (x < y → A) ∧ (¬ x < y → B) := by
  subst hx hy
  rw [nI_ltI ha hb]
  exact ⟨f, fun z => g (by omega)⟩
theorem pk_eq {x y : Int32} {A B : Prop} (a b : Nat) (f : a = b → A) (g : a ≠ b → B) (hx : x = nI a := by rfl) (hy : y = nI b := by rfl) (ha : a < 2 ^ 31 := by omega) (hb : b < 2 ^ 31 := by omega) : (x = y → A) ∧ (¬ x = y → B) := by
  subst hx hy
  rw [nI_eq ha hb]
  exact ⟨f, g⟩
theorem pk_in {x : Int32} (n N : Nat) (h : n < N) (hx : x = nI n := by rfl) (hN : N < 2 ^ 31 := by omega) : vp_in x N := by
  subst hx
  exact vp_in_nI h hN
theorem pk_cl {x : Int32} (n : Nat) (hx : x = nI n := by rfl) (h : n < 2 ^ 31 := by omega) : x.toNatClampNeg = n := by
  subst hx
  exact nI_clamp h
theorem pk_tn {n : Nat} (h : n < 2 ^ 32) : (nI n).toBitVec.toNat = n := Nat.mod_eq_of_lt h
theorem pk_and (x : Int32) {m : Int32} (k : Nat) (hm : m.toBitVec.toNat = 2 ^ k - 1) : x &&& m = nI (x.toBitVec.toNat % 2 ^ k) := by
  apply Int32.toBitVec_inj.mp
  apply BitVec.eq_of_toNat_eq
  rw [Int32.toBitVec_and, BitVec.toNat_and, hm, Nat.and_two_pow_sub_one_eq_mod]
  show _ = (BitVec.ofNat 32 _).toNat
  rw [BitVec.toNat_ofNat]
  exact (Nat.mod_eq_of_lt (Nat.lt_of_le_of_lt (Nat.mod_le _ _) x.toBitVec.isLt)).symm
theorem pk_andN {n : Nat} (h : n < 2 ^ 32) {m : Int32} (k : Nat) (hm : m.toBitVec.toNat = 2 ^ k - 1) : nI n &&& m = nI (n % 2 ^ k) := by
  rw [pk_and _ k hm, pk_tn h]
theorem pk_andE (x : Int32) {m : Int32} (k : Nat) (hm : m.toBitVec.toNat = 2 ^ k - 1) : ∃ j : Nat, j < 2 ^ k ∧ x &&& m = nI j := ⟨_, Nat.mod_lt _ (Nat.two_pow_pos k), pk_and x k hm⟩
theorem pk_andIn (x : Int32) {m : Int32} (k : Nat) (hm : m.toBitVec.toNat = 2 ^ k - 1) (hk : k ≤ 30) : vp_in (x &&& m) (2 ^ k) := by
  obtain ⟨j, hj, e⟩ := pk_andE x k hm
  rw [e]
  exact vp_in_nI hj (Nat.lt_of_le_of_lt (Nat.pow_le_pow_right (by decide) hk) (by decide))
theorem pk_shl (a s : Int32) (k : Nat) (hs : (s.toBitVec.smod 32).toNat = k) : (a <<< s).toBitVec.toNat = a.toBitVec.toNat * 2 ^ k % 2 ^ 32 := by
  show (a.toBitVec <<< (s.toBitVec.smod 32).toNat).toNat = _
  rw [hs, BitVec.toNat_shiftLeft, Nat.shiftLeft_eq]
theorem pk_shlN {n : Nat} (s : Int32) (k : Nat) (hs : (s.toBitVec.smod 32).toNat = k) (h : n * 2 ^ k < 2 ^ 32) : nI n <<< s = nI (n * 2 ^ k) := by
  apply Int32.toBitVec_inj.mp
  apply BitVec.eq_of_toNat_eq
  have hn : n < 2 ^ 32 := Nat.lt_of_le_of_lt (Nat.le_mul_of_pos_right n (Nat.two_pow_pos k)) h
  rw [pk_shl _ _ k hs, pk_tn hn, pk_tn h, Nat.mod_eq_of_lt h]
theorem pk_shr (a s : Int32) (k : Nat) (hs : (s.toBitVec.smod 32).toNat = k) : (a >>> s).toInt = a.toInt >>> k := by
  show (a.toBitVec.sshiftRight (s.toBitVec.smod 32).toNat).toInt = _
  rw [hs, BitVec.toInt_sshiftRight]
  rfl
theorem pk_shrN {n : Nat} (h : n < 2 ^ 31) (s : Int32) (k : Nat) (hs : (s.toBitVec.smod 32).toNat = k) : nI n >>> s = nI (n / 2 ^ k) := by
  apply Int32.toInt_inj.mp
  have h2 : n / 2 ^ k ≤ n := Nat.div_le_self _ _
  rw [pk_shr _ _ k hs, nI_toInt h, nI_toInt (by omega), Int.shiftRight_eq_div_pow]
  rfl
theorem pk_ushr (x s : Int32) (k : Nat) (hs : ((s.toUInt32 &&& Int32.toUInt32 31).toBitVec % 32).toNat = k) : (x.toUInt32 >>> (s.toUInt32 &&& Int32.toUInt32 31)).toInt32.toBitVec.toNat = x.toBitVec.toNat / 2 ^ k := by
  have e : (x.toUInt32 >>> (s.toUInt32 &&& Int32.toUInt32 31)).toInt32.toBitVec = x.toBitVec >>> k := by
    rw [← hs]
    exact UInt32.toBitVec_shiftRight _ _
  rw [e, BitVec.toNat_ushiftRight, Nat.shiftRight_eq_div_pow]
theorem pk_ushrN {n : Nat} (hn : n < 2 ^ 32) (s : Int32) (k : Nat) (hs : ((s.toUInt32 &&& Int32.toUInt32 31).toBitVec % 32).toNat = k) : ((nI n).toUInt32 >>> (s.toUInt32 &&& Int32.toUInt32 31)).toInt32 = nI (n / 2 ^ k) := by
  apply Int32.toBitVec_inj.mp
  apply BitVec.eq_of_toNat_eq
  rw [pk_ushr _ s k hs, pk_tn hn, pk_tn (Nat.lt_of_le_of_lt (Nat.div_le_self _ _) hn)]
theorem pk_lT {n : Nat} (h : n < 2 ^ 63) : (lN n).toInt = (n : Int) := lg_ofNat_toInt h
theorem pk_lLT {a b : Nat} (ha : a < 2 ^ 63) (hb : b < 2 ^ 63) : lN a < lN b ↔ a < b := by
  rw [Int64.lt_iff_toInt_lt, pk_lT ha, pk_lT hb]; omega
theorem pk_lLE {a b : Nat} (ha : a < 2 ^ 63) (hb : b < 2 ^ 63) : lN a ≤ lN b ↔ a ≤ b := by
  rw [Int64.le_iff_toInt_le, pk_lT ha, pk_lT hb]; omega
theorem pk_lEQ {a b : Nat} (ha : a < 2 ^ 63) (hb : b < 2 ^ 63) : lN a = lN b ↔ a = b := by
  rw [← Int64.toInt_inj, pk_lT ha, pk_lT hb]; omega
theorem pk_lOf {x : Int64} (h : ¬ x < 0) : ∃ k : Nat, k < 2 ^ 63 ∧ x = lN k := by
  rw [Int64.lt_iff_toInt_lt] at h
  have h0 : (0 : Int64).toInt = 0 := by decide
  have hx := Int64.toInt_lt x
  refine ⟨x.toInt.toNat, by omega, Int64.toInt_inj.mp ?_⟩
  rw [pk_lT (by omega)]
  omega
theorem pk_lDiv {a b : Nat} (ha : a < 2 ^ 63) (h0 : 0 < b) (hb : b < 2 ^ 63) : lN a / lN b = lN (a / b) := by
  apply Int64.toInt_inj.mp
  rw [lg_ldiv_nonneg (by rw [pk_lT ha]; omega) (by rw [pk_lT hb]; omega), pk_lT ha, pk_lT hb, pk_lT (Nat.lt_of_le_of_lt (Nat.div_le_self a b) ha)]
  rfl
theorem pk_lRem {a b : Nat} (ha : a < 2 ^ 63) (h0 : 0 < b) (hb : b < 2 ^ 63) : lN a - lN a / lN b * lN b = lN (a % b) := by
  rw [pk_lDiv ha h0 hb, lN_mul, lN_sub (Nat.div_mul_le_self a b)]
  exact congrArg lN (by have := Nat.div_add_mod' a b; omega)
theorem pk_least (P : Nat → Prop) (h : ∃ k, P k) : ∃ k, P k ∧ ∀ j, j < k → ¬ P j := by
  obtain ⟨k, hk⟩ := h
  induction k using Nat.strongRecOn with
  | ind k ih =>
    by_cases e : ∃ j, j < k ∧ P j
    · obtain ⟨j, hj, pj⟩ := e
      exact ih j hj pj
    · exact ⟨k, hk, fun j hj pj => e ⟨j, hj, pj⟩⟩
theorem s_l : ∀ n, n < 32 → ((nI n &&& 31).toBitVec.smod 32).toNat = n := by decide +kernel
theorem wb_of32 (x : Int32) : ∃ n, n < 2 ^ 32 ∧ x = nI n := ⟨x.toBitVec.toNat, x.toBitVec.isLt, Int32.toBitVec_inj.mp (by show _ = BitVec.ofNat 32 _; simp)⟩
end
section
/-! forward differences over Int32: 'the k-th difference of f is 0', sums, products, Newton's formula -/
def pd_D (f : Nat → Int32) : Nat → Int32 := fun n => f (n + 1) - f n
def pd_P : Nat → (Nat → Int32) → Prop
  | 0, f => ∀ n, f n = 0
  | k + 1, f => pd_P k (pd_D f)
theorem pd_zero : ∀ (k : Nat) (f : Nat → Int32), (∀ n, f n = 0) → pd_P k f := by
  intro k
  induction k with
  | zero => intro f h; exact h
  | succ k ih =>
    intro f h
    refine ih (pd_D f) (fun n => ?_)
    show f (n + 1) - f n = 0
    rw [h, h]; decide
theorem pd_succ : ∀ (k : Nat) (f : Nat → Int32), pd_P k f → pd_P (k + 1) f := by
  intro k
  induction k with
  | zero => intro f h; exact pd_zero 1 f h
  | succ k ih => intro f h; exact ih (pd_D f) h
theorem pd_mono {k j : Nat} {f : Nat → Int32} (h : pd_P k f) (hj : k ≤ j) : pd_P j f := by
  obtain ⟨d, rfl⟩ : ∃ d, j = k + d := ⟨j - k, by omega⟩
  clear hj
  induction d with
  | zero => exact h
  | succ d ih => exact pd_succ _ _ ih
theorem pd_add : ∀ (k : Nat) (f g : Nat → Int32), pd_P k f → pd_P k g → pd_P k (fun n => f n + g n) := by
  intro k
  induction k with
  | zero => intro f g hf hg n; show f n + g n = 0; rw [hf n, hg n]; decide
  | succ k ih =>
    intro f g hf hg
    have e : pd_D (fun n => f n + g n) = fun n => pd_D f n + pd_D g n := by
      funext n
      show (f (n + 1) + g (n + 1)) - (f n + g n) = (f (n + 1) - f n) + (g (n + 1) - g n)
      grind
    show pd_P k (pd_D (fun n => f n + g n))
    rw [e]
    exact ih _ _ hf hg
theorem pd_sub : ∀ (k : Nat) (f g : Nat → Int32), pd_P k f → pd_P k g → pd_P k (fun n => f n - g n) := by
  intro k
  induction k with
  | zero => intro f g hf hg n; show f n - g n = 0; rw [hf n, hg n]; decide
  | succ k ih =>
    intro f g hf hg
    have e : pd_D (fun n => f n - g n) = fun n => pd_D f n - pd_D g n := by
      funext n
      show (f (n + 1) - g (n + 1)) - (f n - g n) = (f (n + 1) - f n) - (g (n + 1) - g n)
      grind
    show pd_P k (pd_D (fun n => f n - g n))
    rw [e]
    exact ih _ _ hf hg
theorem pd_shift : ∀ (k : Nat) (f : Nat → Int32), pd_P k f → pd_P k (fun n => f (n + 1)) := by
  intro k
  induction k with
  | zero => intro f h n; exact h (n + 1)
  | succ k ih => intro f h; exact ih (pd_D f) h
theorem pd_mul : ∀ (s a b : Nat) (f g : Nat → Int32), a + b ≤ s + 1 → pd_P a f → pd_P b g → pd_P s (fun n => f n * g n) := by
  intro s
  induction s with
  | zero =>
    intro a b f g h hf hg
    rcases a with _ | a
    · intro n; show f n * g n = 0; rw [hf n]; grind
    · rcases b with _ | b
      · intro n; show f n * g n = 0; rw [hg n]; grind
      · omega
  | succ s ih =>
    intro a b f g h hf hg
    rcases a with _ | a
    · refine pd_zero _ _ (fun n => ?_)
      show f n * g n = 0; rw [hf n]; grind
    · rcases b with _ | b
      · refine pd_zero _ _ (fun n => ?_)
        show f n * g n = 0; rw [hg n]; grind
      · have e : pd_D (fun n => f n * g n) = fun n => pd_D f n * (fun n => g (n + 1)) n + f n * pd_D g n := by
          funext n
          show f (n + 1) * g (n + 1) - f n * g n = (f (n + 1) - f n) * g (n + 1) + f n * (g (n + 1) - g n)
          grind
        show pd_P s (pd_D (fun n => f n * g n))
        rw [e]
        refine pd_add s _ _ ?_ ?_
        · exact ih a (b + 1) (pd_D f) (fun n => g (n + 1)) (by omega) hf (pd_shift (b + 1) g hg)
        · exact ih (a + 1) b f (pd_D g) (by omega) hf hg
/-! binomial coefficients -/
def ch_ : Nat → Nat → Nat
  | _, 0 => 1
  | 0, _ + 1 => 0
  | n + 1, k + 1 => ch_ n k + ch_ n (k + 1)
theorem ch_n0 (n : Nat) : ch_ n 0 = 1 := by cases n <;> rfl
theorem ch_0s (k : Nat) : ch_ 0 (k + 1) = 0 := rfl
theorem ch_ss (n k : Nat) : ch_ (n + 1) (k + 1) = ch_ n k + ch_ n (k + 1) := rfl
theorem ch_abs : ∀ n k : Nat, (k + 1) * ch_ n (k + 1) + k * ch_ n k = n * ch_ n k := by
  intro n
  induction n with
  | zero =>
    intro k
    cases k with
    | zero => rw [ch_0s, ch_n0]
    | succ k => rw [ch_0s, ch_0s]; omega
  | succ n ih =>
    intro k
    cases k with
    | zero =>
      have h := ih 0
      rw [ch_ss, ch_n0, ch_n0] at *
      omega
    | succ k =>
      have h0 := ih k
      have h1 := ih (k + 1)
      rw [ch_ss, ch_ss]
      generalize ch_ n k = a0 at *
      generalize ch_ n (k + 1) = a1 at *
      generalize ch_ n (k + 1 + 1) = a2 at *
      grind
theorem ch_bnd : ∀ n k : Nat, ch_ n k ≤ (n + 1) ^ k := by
  intro n
  induction n with
  | zero =>
    intro k
    cases k with
    | zero => rw [ch_n0]; exact Nat.le_refl 1
    | succ k => rw [ch_0s]; exact Nat.zero_le _
  | succ n ih =>
    intro k
    cases k with
    | zero => rw [ch_n0]; exact Nat.le_refl 1
    | succ k =>
      rw [ch_ss]
      have h0 := ih k
      have h1 := ih (k + 1)
      have h2 : (n + 1) ^ k ≤ (n + 1 + 1) ^ k := Nat.pow_le_pow_left (by omega) k
      have h3 : (n + 1) ^ k * (n + 1 + 1) ≤ (n + 1 + 1) ^ k * (n + 1 + 1) := Nat.mul_le_mul_right _ h2
      rw [Nat.pow_succ] at h1
      rw [Nat.pow_succ]
      rw [Nat.mul_add (( n + 1) ^ k) (n + 1) 1] at h3
      omega
theorem ch_big {n k : Nat} (h : n < k) : ch_ n k = 0 := by
  induction n generalizing k with
  | zero => cases k with
    | zero => omega
    | succ k => rfl
  | succ n ih => cases k with
    | zero => omega
    | succ k => rw [ch_ss, ih (by omega), ih (by omega)]
/-- the class's own step from one coefficient to the next -/
theorem ch_step (n k : Nat) (h : k ≤ n) : ch_ n k * (n - k) / (k + 1) = ch_ n (k + 1) := by
  have e : ch_ n k * (n - k) = ch_ n (k + 1) * (k + 1) := by
    have := ch_abs n k
    rw [Nat.mul_sub, Nat.mul_comm (ch_ n k) n, Nat.mul_comm (ch_ n k) k, Nat.mul_comm (ch_ n (k + 1))]
    omega
  rw [e, Nat.mul_div_cancel _ (by omega)]
/-! Newton's formula -/
def pd_it : (Nat → Int32) → Nat → Nat → Int32
  | f, 0 => f
  | f, k + 1 => pd_it (pd_D f) k
def pd_S (f : Nat → Int32) (n : Nat) : Nat → Int32
  | 0 => 0
  | k + 1 => pd_S f n k + nI (ch_ n k) * pd_it f k 0
theorem pd_S0 (f : Nat → Int32) : ∀ k, pd_S f 0 (k + 1) = f 0 := by
  intro k
  induction k with
  | zero =>
    show 0 + nI 1 * f 0 = f 0
    rw [show nI 1 = 1 from rfl]; grind
  | succ k ih =>
    show pd_S f 0 (k + 1) + nI 0 * pd_it f (k + 1) 0 = f 0
    rw [ih, nI_0]; grind
theorem pd_pas (f : Nat → Int32) (n : Nat) : ∀ k, pd_S f (n + 1) (k + 1) = pd_S f n (k + 1) + pd_S (pd_D f) n k := by
  intro k
  induction k with
  | zero =>
    show 0 + nI (ch_ (n + 1) 0) * f 0 = (0 + nI (ch_ n 0) * f 0) + 0
    rw [ch_n0, ch_n0]; grind
  | succ k ih =>
    show pd_S f (n + 1) (k + 1) + nI (ch_ n k + ch_ n (k + 1)) * pd_it (pd_D f) k 0 = (pd_S f n (k + 1) + nI (ch_ n (k + 1)) * pd_it (pd_D f) k 0) + (pd_S (pd_D f) n k + nI (ch_ n k) * pd_it (pd_D f) k 0)
    rw [ih, ← nI_add]; grind
theorem pd_newton : ∀ (k : Nat) (f : Nat → Int32), pd_P k f → ∀ n, f n = pd_S f n k := by
  intro k
  induction k with
  | zero => intro f h n; exact h n
  | succ k ih =>
    intro f h n
    induction n with
    | zero => exact (pd_S0 f k).symm
    | succ n ihn =>
      have e : f (n + 1) = f n + pd_D f n := by
        show f (n + 1) = f n + (f (n + 1) - f n)
        grind
      rw [pd_pas, ← ihn, ← ih (pd_D f) h n]
      exact e
theorem pd_const {f : Nat → Int32} (h : pd_P 1 f) (n : Nat) : f n = f 0 := by
  rw [pd_newton 1 f h n]
  show 0 + nI (ch_ n 0) * f 0 = f 0
  rw [ch_n0, show nI 1 = 1 from rfl]; grind
theorem ch_n1 : ∀ n, ch_ n 1 = n := by
  intro n
  induction n with
  | zero => rfl
  | succ n ih => rw [ch_ss, ch_n0, ih]; omega
theorem pd_lin {f : Nat → Int32} (h : pd_P 2 f) (n : Nat) : f n = f 0 + nI n * (f 1 - f 0) := by
  rw [pd_newton 2 f h n]
  show (0 + nI (ch_ n 0) * f 0) + nI (ch_ n 1) * (f 1 - f 0) = _
  rw [ch_n0, ch_n1, show nI 1 = 1 from rfl]; grind
end
section
/-! the least n with a * n modulo s in lo..hi, by Euclid's steps -/
def fh_H (a s lo hi n : Nat) : Prop := lo ≤ (a * n) % s ∧ (a * n) % s ≤ hi
def fh_L (a s lo hi n : Nat) : Prop := fh_H a s lo hi n ∧ ∀ j, j < n → ¬ fh_H a s lo hi j
def fh_ok (a s lo hi : Nat) : Prop := 1 ≤ lo ∧ lo ≤ hi ∧ hi < s ∧ a < s
theorem fh_lt {a s lo hi n : Nat} (h : fh_L a s lo hi n) (hs : 0 < s) : n < s := by
  rcases Nat.lt_or_ge n s with h1 | h1
  · exact h1
  · exfalso
    obtain ⟨d, rfl⟩ : ∃ d, n = d + s := ⟨n - s, by omega⟩
    refine h.2 d (by omega) ?_
    have e : (a * (d + s)) % s = (a * d) % s := by
      rw [Nat.mul_add, Nat.add_mul_mod_self_right]
    have := h.1
    unfold fh_H at *
    rw [e] at this
    exact this
/-- rounding up -/
theorem fh_ceil {x a : Nat} (ha : 0 < a) : x ≤ (x + a - 1) / a * a ∧ ∀ n, x ≤ a * n → (x + a - 1) / a ≤ n := by
  have h := Nat.div_add_mod (x + a - 1) a
  have hm := Nat.mod_lt (x + a - 1) ha
  generalize (x + a - 1) / a = q at *
  generalize (x + a - 1) % a = r at *
  constructor
  · rw [Nat.mul_comm]; omega
  · intro n hn
    rcases Nat.lt_or_ge n q with h1 | h1
    · exfalso
      have h2 : a * (n + 1) ≤ a * q := Nat.mul_le_mul_left a h1
      rw [Nat.mul_add] at h2
      omega
    · exact h1
theorem fh_zero {s lo hi n : Nat} (h : 1 ≤ lo) : ¬ fh_H 0 s lo hi n := by
  unfold fh_H
  rw [Nat.zero_mul, Nat.zero_mod]
  omega
theorem fh_base {a s lo hi : Nat} (k : fh_ok a s lo hi) (ha : 0 < a) (h : (lo + a - 1) / a * a ≤ hi) : fh_L a s lo hi ((lo + a - 1) / a) := by
  obtain ⟨k1, k2, k3, k4⟩ := k
  obtain ⟨c1, c2⟩ := fh_ceil (x := lo) ha
  constructor
  · unfold fh_H
    rw [Nat.mul_comm, Nat.mod_eq_of_lt (by omega)]
    exact ⟨c1, h⟩
  · intro j hj hh
    unfold fh_H at hh
    have h1 : a * j < lo := by
      rcases Nat.lt_or_ge (a * j) lo with h2 | h2
      · exact h2
      · have := c2 j h2; omega
    rw [Nat.mod_eq_of_lt (by omega)] at hh
    omega
/-- what 'no multiple of a in lo..hi' says -/
theorem fh_dec {a lo hi : Nat} (ha : 0 < a) (hl : lo ≤ hi) (hn : hi < (lo + a - 1) / a * a) :
    hi / a = lo / a ∧ 1 ≤ lo % a ∧ lo % a ≤ hi % a := by
  have e1 := Nat.div_add_mod lo a
  have m1 := Nat.mod_lt lo ha
  have e2 := Nat.div_add_mod hi a
  have m2 := Nat.mod_lt hi ha
  have hc := (fh_ceil (x := lo) ha).2
  generalize lo / a = k at *
  generalize lo % a = l at *
  generalize hi / a = k' at *
  generalize hi % a = h at *
  have c1 : 1 ≤ l := by
    rcases Nat.eq_zero_or_pos l with z | z
    · exfalso
      have h1 := hc k (by omega)
      have h2 : (lo + a - 1) / a * a ≤ k * a := Nat.mul_le_mul_right a h1
      rw [Nat.mul_comm k a] at h2
      omega
    · exact z
  have c2 : hi < a * k + a := by
    have h1 := hc (k + 1) (by rw [Nat.mul_add]; omega)
    have h2 : (lo + a - 1) / a * a ≤ (k + 1) * a := Nat.mul_le_mul_right a h1
    rw [Nat.add_mul, Nat.mul_comm k a] at h2
    omega
  have c3 : k' = k := by
    rcases Nat.lt_trichotomy k' k with z | z | z
    · exfalso
      have h2 : a * (k' + 1) ≤ a * k := Nat.mul_le_mul_left a z
      rw [Nat.mul_add] at h2
      omega
    · exact z
    · exfalso
      have h2 : a * (k + 1) ≤ a * k' := Nat.mul_le_mul_left a z
      rw [Nat.mul_add] at h2
      omega
  subst c3
  exact ⟨rfl, c1, by omega⟩
theorem fh_key {a s lo hi : Nat} (ha : 0 < a) (hl : lo ≤ hi) (hn : hi < (lo + a - 1) / a * a) (w : Nat) :
    fh_H (s % a) a (a - hi % a) (a - lo % a) w ↔ ∃ n, lo + s * w ≤ a * n ∧ a * n ≤ hi + s * w := by
  obtain ⟨c1, c2, c3⟩ := fh_dec ha hl hn
  have e1 := Nat.div_add_mod lo a
  have e2 := Nat.div_add_mod hi a
  have m2 := Nat.mod_lt hi ha
  rw [c1] at e2
  have et : (s % a * w) % a = (s * w) % a := by
    rw [Nat.mul_mod, Nat.mod_mod, ← Nat.mul_mod]
  have e3 := Nat.div_add_mod (s * w) a
  have m3 := Nat.mod_lt (s * w) ha
  unfold fh_H
  rw [et]
  generalize lo / a = k at *
  generalize lo % a = l at *
  generalize hi % a = h at *
  generalize (s * w) / a = u at *
  generalize (s * w) % a = t at *
  constructor
  · intro hh
    refine ⟨k + u + 1, ?_⟩
    rw [Nat.mul_add, Nat.mul_add]
    omega
  · intro hh
    obtain ⟨n, h1, h2⟩ := hh
    have h3 : n = k + u + 1 := by
      rcases Nat.lt_trichotomy n (k + u + 1) with z | z | z
      · exfalso
        have h4 : a * n ≤ a * (k + u) := Nat.mul_le_mul_left a (by omega)
        rw [Nat.mul_add] at h4
        omega
      · exact z
      · exfalso
        have h4 : a * (k + u + 1 + 1) ≤ a * n := Nat.mul_le_mul_left a (by omega)
        rw [Nat.mul_add, Nat.mul_add, Nat.mul_add] at h4
        omega
    subst h3
    rw [Nat.mul_add, Nat.mul_add] at h1 h2
    omega
theorem fh_up {a s lo hi n w : Nat} (h3 : hi < s) (h1 : lo + s * w ≤ a * n) (h2 : a * n ≤ hi + s * w) : fh_H a s lo hi n := by
  unfold fh_H
  have e : (a * n) % s = a * n - s * w := by
    obtain ⟨d, hd⟩ : ∃ d, a * n = d + s * w := ⟨a * n - s * w, by omega⟩
    rw [hd, Nat.add_mul_mod_self_left, Nat.mod_eq_of_lt (by omega)]
    omega
  omega
theorem fh_dn {a s lo hi n : Nat} (h : fh_H a s lo hi n) : lo + s * ((a * n) / s) ≤ a * n ∧ a * n ≤ hi + s * ((a * n) / s) := by
  unfold fh_H at h
  have e := Nat.div_add_mod (a * n) s
  omega
theorem fh_none {a s lo hi : Nat} (ha : 0 < a) (hl : lo ≤ hi) (hn : hi < (lo + a - 1) / a * a)
    (h : ∀ w, ¬ fh_H (s % a) a (a - hi % a) (a - lo % a) w) : ∀ n, ¬ fh_H a s lo hi n := by
  intro n hh
  exact h _ ((fh_key ha hl hn _).mpr ⟨n, fh_dn hh⟩)
theorem fh_down {a s lo hi w : Nat} (k : fh_ok a s lo hi) (ha : 0 < a) (hn : hi < (lo + a - 1) / a * a)
    (h : fh_L (s % a) a (a - hi % a) (a - lo % a) w) : fh_L a s lo hi ((lo + s * w + a - 1) / a) := by
  obtain ⟨k1, k2, k3, k4⟩ := k
  obtain ⟨c1, c2⟩ := fh_ceil (x := lo + s * w) ha
  obtain ⟨n, hn1, hn2⟩ := (fh_key ha k2 hn w).mp h.1
  constructor
  · refine fh_up (w := w) k3 (by rw [Nat.mul_comm a]; exact c1) ?_
    have h1 : a * ((lo + s * w + a - 1) / a) ≤ a * n := Nat.mul_le_mul_left a (c2 n hn1)
    omega
  · intro j hj hh
    have hd := fh_dn hh
    have hw : w ≤ (a * j) / s := by
      rcases Nat.lt_or_ge ((a * j) / s) w with z | z
      · exact absurd ((fh_key ha k2 hn _).mpr ⟨j, hd⟩) (h.2 _ z)
      · exact z
    have h1 : s * w ≤ s * ((a * j) / s) := Nat.mul_le_mul_left s hw
    have h2 := c2 j (by omega)
    omega
theorem fh_next {a s lo hi : Nat} (k : fh_ok a s lo hi) (ha : 0 < a) (hn : hi < (lo + a - 1) / a * a) :
    fh_ok (s % a) a (a - hi % a) (a - lo % a) := by
  obtain ⟨k1, k2, k3, k4⟩ := k
  obtain ⟨c1, c2, c3⟩ := fh_dec ha k2 hn
  have m2 := Nat.mod_lt hi ha
  have m1 := Nat.mod_lt lo ha
  have m3 := Nat.mod_lt s ha
  exact ⟨by omega, by omega, by omega, m3⟩
/-- the questions level by level -/
def fh_pr (a s lo hi : Nat) : Nat → Nat × Nat × Nat × Nat
  | 0 => (a, s, lo, hi)
  | i + 1 => match fh_pr a s lo hi i with
    | (a, s, lo, hi) => (s % a, a, a - hi % a, a - lo % a)
theorem fh_half {a s : Nat} (ha : 0 < a) (h : a < s) : 2 * (s % a) ≤ s := by
  have e := Nat.div_add_mod s a
  have m := Nat.mod_lt s ha
  have q : 1 ≤ s / a := (Nat.le_div_iff_mul_le ha).mpr (by omega)
  have h1 : a * 1 ≤ a * (s / a) := Nat.mul_le_mul_left a q
  omega
/-! n * s modulo 2^b equal to g -/
theorem te_mod_aux {s o p q K n : Nat} (hs : s = o * p) (e : q = K * p) : (n * s) % q = (n * o) % K * p := by
  rw [hs, e, ← Nat.mul_assoc, Nat.mul_mod_mul_right]
theorem te_cut {x y k : Nat} : (x % k * y) % k = (x * y) % k := by
  rw [Nat.mul_mod, Nat.mod_mod, ← Nat.mul_mod]
theorem te_mod {s o z b : Nat} (hs : s = o * 2 ^ z) (hz : z ≤ b) (n : Nat) : (n * s) % 2 ^ b = (n * o) % 2 ^ (b - z) * 2 ^ z := by
  have e : 2 ^ b = 2 ^ (b - z) * 2 ^ z := by rw [← Nat.pow_add]; congr 1; omega
  rw [hs, e, ← Nat.mul_assoc, Nat.mul_mod_mul_right]
theorem te_no {s o z b g : Nat} (hs : s = o * 2 ^ z) (hz : z ≤ b) (hg : g % 2 ^ z ≠ 0) (n : Nat) : (n * s) % 2 ^ b ≠ g := by
  intro h
  rw [te_mod hs hz] at h
  apply hg
  rw [← h, Nat.mul_mod_left]
theorem te_yes {s o z b g iv : Nat} (hs : s = o * 2 ^ z) (hz : z ≤ b) (hg : g % 2 ^ z = 0) (hb : g < 2 ^ b) (hi : (o * iv) % 2 ^ (b - z) = 1 % 2 ^ (b - z)) :
    ((g / 2 ^ z * iv) % 2 ^ (b - z) * s) % 2 ^ b = g ∧ ∀ j, j < (g / 2 ^ z * iv) % 2 ^ (b - z) → (j * s) % 2 ^ b ≠ g := by
  have hp : 0 < 2 ^ z := Nat.two_pow_pos z
  have hK : 0 < 2 ^ (b - z) := Nat.two_pow_pos _
  have e : 2 ^ b = 2 ^ (b - z) * 2 ^ z := by rw [← Nat.pow_add]; congr 1; omega
  have hg2 : g = g / 2 ^ z * 2 ^ z := by
    have := Nat.div_add_mod' g (2 ^ z)
    omega
  have hg3 : g / 2 ^ z < 2 ^ (b - z) := by
    rw [Nat.div_lt_iff_lt_mul hp, ← e]; exact hb
  have inv : ∀ x : Nat, (x * (o * iv)) % 2 ^ (b - z) = x % 2 ^ (b - z) := by
    intro x
    rw [Nat.mul_mod, hi, ← Nat.mul_mod, Nat.mul_one]
  generalize g / 2 ^ z = q at *
  generalize 2 ^ (b - z) = K at *
  constructor
  · rw [te_mod_aux hs e]
    rw [hg2]
    congr 1
    rw [te_cut, Nat.mul_assoc, Nat.mul_comm iv o, inv, Nat.mod_eq_of_lt hg3]
  · intro j hj h
    rw [te_mod_aux hs e, hg2] at h
    have h1 : (j * o) % K = q := Nat.eq_of_mul_eq_mul_right hp h
    have h2 : (q * iv) % K = j % K := by
      rw [← h1, te_cut, Nat.mul_assoc, inv]
    have h3 : j < K := Nat.lt_trans hj (Nat.mod_lt _ hK)
    rw [h2, Nat.mod_eq_of_lt h3] at hj
    omega
end
section
/-! Int32 modulo powers of 2; the inverse of an odd number -/
theorem ar_tn (a : Nat) : (nI a).toBitVec.toNat = a % 2 ^ 32 := rfl
theorem ar_inj {a b : Nat} (h : nI a = nI b) : a % 2 ^ 32 = b % 2 ^ 32 := by
  rw [← ar_tn, ← ar_tn, h]
theorem ar_eq {a b : Nat} (h : a % 2 ^ 32 = b % 2 ^ 32) : nI a = nI b :=
  Int32.toBitVec_inj.mp (BitVec.eq_of_toNat_eq h)
theorem ar_dvd {K L : Nat} (h : K ≤ L) : 2 ^ K ∣ 2 ^ L := Nat.pow_dvd_pow 2 h
theorem ar_pw {K : Nat} (h : K ≤ 31) : 2 ^ K ≤ 2 ^ 31 := Nat.pow_le_pow_right (by decide) h
theorem ar_mm {a K : Nat} (h : K ≤ 32) : a % 2 ^ 32 % 2 ^ K = a % 2 ^ K := Nat.mod_mod_of_dvd a (ar_dvd h)
theorem ar_mask {K : Nat} (h : K ≤ 31) : (nI (2 ^ K - 1)).toBitVec.toNat = 2 ^ K - 1 :=
  pk_tn (by have := ar_pw h; have := Nat.two_pow_pos K; omega)
theorem ar_and (m : Nat) {K : Nat} (h : K ≤ 31) : nI m &&& nI (2 ^ K - 1) = nI (m % 2 ^ K) := by
  rw [pk_and (nI m) K (ar_mask h), ar_tn, ar_mm (by omega)]
/-- x modulo 2^K -/
def ar_m (K : Nat) (x : Int32) : Nat := x.toBitVec.toNat % 2 ^ K
theorem ar_mI {K : Nat} (h : K ≤ 32) (a : Nat) : ar_m K (nI a) = a % 2 ^ K := by
  show (nI a).toBitVec.toNat % 2 ^ K = _
  rw [ar_tn, ar_mm h]
theorem ar_lt (K : Nat) (x : Int32) : ar_m K x < 2 ^ K := Nat.mod_lt _ (Nat.two_pow_pos K)
theorem ar_mand {K : Nat} (h : K ≤ 31) (x : Int32) : x &&& nI (2 ^ K - 1) = nI (ar_m K x) := pk_and x K (ar_mask h)
theorem ar_lin {K : Nat} (h : K ≤ 32) (x d : Int32) (n : Nat) : ar_m K (x + nI n * d) = (ar_m K x + n * ar_m K d) % 2 ^ K := by
  obtain ⟨a, -, rfl⟩ := wb_of32 x
  obtain ⟨b, -, rfl⟩ := wb_of32 d
  have e : (n * b) % 2 ^ K = (n * (b % 2 ^ K)) % 2 ^ K := by
    rw [Nat.mul_mod, Nat.mul_mod n (b % 2 ^ K), Nat.mod_mod]
  rw [pk_mul, nI_add, ar_mI h, ar_mI h, ar_mI h, Nat.add_mod, e, Nat.add_mod_mod]
theorem ar_subN {a b : Nat} (hb : b ≤ 2 ^ 32) : nI a - nI b = nI (a + (2 ^ 32 - b)) := by
  have e : nI (a + (2 ^ 32 - b)) + nI b = nI a := by
    rw [nI_add]
    apply ar_eq
    rw [show a + (2 ^ 32 - b) + b = a + 2 ^ 32 from by omega, Nat.add_mod_right]
  rw [← e]; grind
/-- a difference under the mask -/
theorem ar_sub {a b K : Nat} (h : K ≤ 31) (hb : b ≤ 2 ^ K) : (nI a - nI b) &&& nI (2 ^ K - 1) = nI ((a + (2 ^ K - b)) % 2 ^ K) := by
  have h1 := ar_pw h
  rw [ar_subN (by omega), ar_and _ h]
  have e : 2 ^ 32 = 2 ^ K * 2 ^ (32 - K) := by rw [← Nat.pow_add]; congr 1; omega
  have p : 0 < 2 ^ (32 - K) := Nat.two_pow_pos _
  obtain ⟨c, hc⟩ : ∃ c, 2 ^ (32 - K) = c + 1 := ⟨2 ^ (32 - K) - 1, by omega⟩
  rw [hc, Nat.mul_add] at e
  congr 1
  rw [e, show a + (2 ^ K * c + 2 ^ K * 1 - b) = (a + (2 ^ K - b)) + 2 ^ K * c from by omega, Nat.add_mul_mod_self_left]
theorem ar_shl1 {k : Nat} (h : k ≤ 30) : (1 : Int32) <<< (nI k &&& 31) = nI (2 ^ k) := by
  have h1 := ar_pw (K := k) (by omega)
  have e := pk_shlN (n := 1) (nI k &&& 31) k (s_l k (by omega)) (by omega)
  rw [Nat.one_mul] at e
  exact e
theorem ar_msk {k : Nat} (h : k ≤ 30) : ((1 : Int32) <<< (nI k &&& 31)) - 1 = nI (2 ^ k - 1) := by
  rw [ar_shl1 h, show (1 : Int32) = nI 1 from rfl, pk_sub (Nat.two_pow_pos k)]
theorem ar_shr {n k : Nat} (hn : n < 2 ^ 31) (hk : k < 32) : nI n >>> (nI k &&& 31) = nI (n / 2 ^ k) := pk_shrN hn _ k (s_l k hk)
/-! the inverse of an odd number -/
theorem iv_1 (o x : Int32) : 1 - o * (x * (2 - o * x)) = (1 - o * x) * (1 - o * x) := by grind
def iv_x (o x : Int32) : Int32 := x * (2 - o * x)
def iv_f (o : Int32) : Int32 := iv_x o (iv_x o (iv_x o o))
theorem iv_c {n : Nat} (h : n % 2 = 1) : ∃ c : Int32, 1 - nI n * nI n = 8 * c := by
  obtain ⟨t, rfl⟩ : ∃ t, n = 2 * t + 1 := ⟨n / 2, by omega⟩
  have e : ∃ u, t * (t + 1) = 2 * u := by
    rcases Nat.mod_two_eq_zero_or_one t with z | z
    · obtain ⟨q, rfl⟩ : ∃ q, t = 2 * q := ⟨t / 2, by omega⟩
      exact ⟨q * (2 * q + 1), by rw [Nat.mul_assoc]⟩
    · obtain ⟨q, rfl⟩ : ∃ q, t = 2 * q + 1 := ⟨t / 2, by omega⟩
      exact ⟨(2 * q + 1) * (q + 1), by grind⟩
  obtain ⟨u, hu⟩ := e
  refine ⟨- nI u, ?_⟩
  have h2 : (2 * t + 1) * (2 * t + 1) = 8 * u + 1 := by
    have : (2 * t + 1) * (2 * t + 1) = 4 * (t * (t + 1)) + 1 := by grind
    rw [this, hu]; omega
  rw [pk_mul, h2, ← nI_add, ← pk_mul, show nI 8 = 8 from rfl, show nI 1 = 1 from rfl]
  grind
theorem iv_24 {n : Nat} (h : n % 2 = 1) : ∃ c : Int32, nI n * iv_f (nI n) + 16777216 * c = 1 := by
  obtain ⟨c, hc⟩ := iv_c h
  unfold iv_f iv_x
  generalize nI n = o at *
  have h1 : 1 - o * (o * (2 - o * o)) = 64 * (c * c) := by rw [iv_1, hc]; grind
  generalize o * (2 - o * o) = x1 at *
  have h2 : 1 - o * (x1 * (2 - o * x1)) = 4096 * (c * c * (c * c)) := by rw [iv_1, h1]; grind
  generalize x1 * (2 - o * x1) = x2 at *
  have h3 : 1 - o * (x2 * (2 - o * x2)) = 16777216 * (c * c * (c * c) * (c * c * (c * c))) := by rw [iv_1, h2]; grind
  exact ⟨_, by rw [← h3]; grind⟩
theorem iv_ok {n K : Nat} (h : n % 2 = 1) (hK : K ≤ 24) : (n * (iv_f (nI n)).toBitVec.toNat) % 2 ^ K = 1 % 2 ^ K := by
  obtain ⟨c, hc⟩ := iv_24 h
  obtain ⟨m, hm, rfl⟩ := wb_of32 c
  obtain ⟨v, hv, ev⟩ := wb_of32 (iv_f (nI n))
  rw [ev] at hc ⊢
  rw [pk_tn hv]
  rw [show (16777216 : Int32) = nI (2 ^ 24) from by decide, show (1 : Int32) = nI 1 from rfl, pk_mul, pk_mul, nI_add] at hc
  have h1 := ar_inj hc
  have h2 : (n * v + 2 ^ 24 * m) % 2 ^ K = 1 % 2 ^ K := by
    rw [← ar_mm (K := K) (by omega), h1, ar_mm (by omega)]
  have e : 2 ^ 24 = 2 ^ K * 2 ^ (24 - K) := by rw [← Nat.pow_add]; congr 1; omega
  rw [e, Nat.mul_assoc, Nat.add_mul_mod_self_left] at h2
  exact h2
/-! one bit of eight -/
theorem lb_bit : ∀ L, L < 256 → ∀ v, v < 8 → (((nI L >>> (nI v &&& 31)) &&& 1) = 0 ↔ L.testBit v = false) := by decide +kernel
theorem lb_on : ∀ L, L < 256 → ∀ v, v < 8 → nI L ||| ((1 : Int32) <<< (nI v &&& 31)) = nI (L ||| 2 ^ v) := by decide +kernel
theorem lb_off : ∀ L, L < 256 → ∀ v, v < 8 → nI L &&& (((1 : Int32) <<< (nI v &&& 31)) ^^^ (-1)) = nI (L &&& (255 - 2 ^ v)) := by decide +kernel
theorem lb_tb : ∀ v, v < 8 → ∀ j, j < 8 → (255 - 2 ^ v).testBit j = decide (j ≠ v) := by decide +kernel
theorem lb_sum (L j : Nat) : L % 2 ^ (j + 1) = L % 2 ^ j + (if L.testBit j then 2 ^ j else 0) := by
  rw [Nat.testBit_eq_decide_div_mod_eq, Nat.pow_succ, Nat.mod_mul]
  rcases Nat.mod_two_eq_zero_or_one (L / 2 ^ j) with z | z <;> simp [z]
end
section
/-! marks as naturals: 0..4 free, 9..14 self (9 + k: the head's own value and a k-th difference 0), 99 lost; the body's pure passes -/
def mk_mx (a b : Nat) : Nat := if a ≤ b then b else a
def mk_n (op l r : Nat) : Nat :=
  if op = 1 then l else if l = 99 then 99 else if r = 99 then 99
  else if op = 4 then (if l < 9 then (if r < 9 then (if l + r ≤ 4 then l + r else 99) else 99) else 99)
  else if r < 9 then (if l < 9 then mk_mx l r else 9 + mk_mx (l - 9) (r + 1))
  else if l < 9 then (if op = 3 then 99 else 9 + mk_mx (r - 9) (l + 1)) else 99
def mk_ok (c : Nat) : Prop := c ≤ 4 ∨ (9 ≤ c ∧ c ≤ 14) ∨ c = 99
def mk_fr (c : Nat) : Prop := c ≤ 4 ∨ c = 99
theorem mk_nok {op l r : Nat} (hl : mk_ok l) (hr : mk_ok r) : mk_ok (mk_n op l r) := by
  unfold mk_n mk_mx mk_ok at *
  repeat' split
  all_goals omega
theorem mk_nfr {op l r : Nat} (hl : mk_fr l) (hr : mk_fr r) : mk_fr (mk_n op l r) := by
  unfold mk_n mk_mx mk_fr at *
  repeat' split
  all_goals omega
def mk_L : List Nat := [0, 1, 2, 3, 4, 9, 10, 11, 12, 13, 14, 99]
theorem mk_mem {c : Nat} (h : mk_ok c) : c ∈ mk_L := by
  unfold mk_ok at h
  simp only [mk_L, List.mem_cons, List.not_mem_nil, or_false]
  omega
/-- the class's combine -/
def mk_cb (op l r : Int32) : Int32 :=
  if op = 1 then l else if l = 99 then 99 else if r = 99 then 99
  else if op = 4 then (if l < 9 then (if r < 9 then (if 4 < l + r then 99 else l + r) else 99) else 99)
  else if r < 9 then (if l < 9 then (if l ≤ r then r else l) else 10 + (if l - 10 ≤ r then r else l - 10))
  else if l < 9 then (if op = 3 then 99 else 10 + (if r - 10 ≤ l then l else r - 10)) else 99
theorem mk_cbn1 : ∀ op ∈ [1, 2, 3, 4], ∀ l ∈ mk_L, ∀ r ∈ mk_L, mk_cb (nI op) (nI l) (nI r) = nI (mk_n op l r) := by decide +kernel
theorem mk_op {op : Nat} (h1 : 1 ≤ op) (h4 : op ≤ 4) : op ∈ [1, 2, 3, 4] := by
  simp only [List.mem_cons, List.not_mem_nil, or_false]; omega
theorem mk_cbn {op l r : Nat} (h1 : 1 ≤ op) (h4 : op ≤ 4) (hl : mk_ok l) (hr : mk_ok r) : mk_cb (nI op) (nI l) (nI r) = nI (mk_n op l r) :=
  mk_cbn1 op (mk_op h1 h4) l (mk_mem hl) r (mk_mem hr)
/-- the reference's kind and degree of a mark -/
def mk_k (c : Nat) : Int32 := if c = 99 then 0 else if c < 9 then 1 else 2
def mk_d (c : Nat) : Int32 := if c = 99 then 0 else if c < 9 then nI c else nI c - 10
def mk_yk (op ka da kb db : Int32) : Int32 :=
  if op = 1 then ka else if op = 4 then (if ka = 1 then (if kb = 1 then (if 4 < da + db then 0 else 1) else 0) else 0)
  else if ka = 1 ∧ kb = 1 then 1 else if ka = 2 ∧ kb = 1 then 2 else if op = 2 ∧ ka = 1 ∧ kb = 2 then 2 else 0
def mk_yd (op ka da kb db : Int32) : Int32 :=
  if op = 1 then da else if op = 4 then (if ka = 1 then (if kb = 1 then (if 4 < da + db then 0 else da + db) else 0) else 0)
  else if ka = 1 ∧ kb = 1 then (if da ≤ db then db else da) else if ka = 2 ∧ kb = 1 then (if da ≤ db then db else da) else if op = 2 ∧ ka = 1 ∧ kb = 2 then (if da ≤ db then db else da) else 0
theorem mk_ykn1 : ∀ op ∈ [1, 2, 3, 4], ∀ l ∈ mk_L, ∀ r ∈ mk_L, mk_yk (nI op) (mk_k l) (mk_d l) (mk_k r) (mk_d r) = mk_k (mk_n op l r) := by decide +kernel
theorem mk_ydn1 : ∀ op ∈ [1, 2, 3, 4], ∀ l ∈ mk_L, ∀ r ∈ mk_L, mk_yd (nI op) (mk_k l) (mk_d l) (mk_k r) (mk_d r) = mk_d (mk_n op l r) := by decide +kernel
theorem mk_ykn {op l r : Nat} (h1 : 1 ≤ op) (h4 : op ≤ 4) (hl : mk_ok l) (hr : mk_ok r) : mk_yk (nI op) (mk_k l) (mk_d l) (mk_k r) (mk_d r) = mk_k (mk_n op l r) :=
  mk_ykn1 op (mk_op h1 h4) l (mk_mem hl) r (mk_mem hr)
theorem mk_ydn {op l r : Nat} (h1 : 1 ≤ op) (h4 : op ≤ 4) (hl : mk_ok l) (hr : mk_ok r) : mk_yd (nI op) (mk_k l) (mk_d l) (mk_k r) (mk_d r) = mk_d (mk_n op l r) :=
  mk_ydn1 op (mk_op h1 h4) l (mk_mem hl) r (mk_mem hr)
/-- the body's rows are right -/
def bd_ok (V C : Nat) (o d l r : Nat → Int32) : Prop :=
  ∀ i, i < C → (∃ k, 1 ≤ k ∧ k ≤ 4 ∧ o i = nI k) ∧ vp_in (d i) V ∧ vp_in (l i) V ∧ vp_in (r i) V
theorem bd_lt {x : Int32} {V : Nat} (h : vp_in x V) : x.toNatClampNeg < V := by
  unfold vp_in at h; omega
theorem bd_in {x : Int32} {V : Nat} (h : vp_in x V) (hV : V ≤ 8) : vp_in x 8 := by
  unfold vp_in at *
  exact fun z => z.elim (fun a => h (Or.inl a)) (fun a => h (Or.inr (by omega)))
/-- values through the first k rows -/
def ps_ap (op : Nat) (x y : Int32) : Int32 := if op = 2 then x + y else if op = 3 then x - y else if op = 4 then x * y else x
def ps_f (o d l r : Nat → Int32) : Nat → (Nat → Int32) → (Nat → Int32)
  | 0, w => w
  | k + 1, w => upd (ps_f o d l r k w) (d k).toNatClampNeg (ps_ap (o k).toNatClampNeg (ps_f o d l r k w (l k).toNatClampNeg) (ps_f o d l r k w (r k).toNatClampNeg))
def hd_ (o d l r : Nat → Int32) (C : Nat) (s : Nat → Int32) : Nat → (Nat → Int32)
  | 0 => s
  | n + 1 => ps_f o d l r C (hd_ o d l r C s n)
def ag_ (V : Nat) (f g : Nat → Int32) : Prop := ∀ j, j < V → f j = g j
theorem ps_ag {V C : Nat} {o d l r : Nat → Int32} (B : bd_ok V C o d l r) {f g : Nat → Int32} (h : ag_ V f g) : ∀ k, k ≤ C → ag_ V (ps_f o d l r k f) (ps_f o d l r k g) := by
  intro k
  induction k with
  | zero => intro _; exact h
  | succ k ih =>
    intro hk j hj
    have h1 := ih (by omega)
    obtain ⟨-, b2, b3, b4⟩ := B k (by omega)
    show upd _ _ _ j = upd _ _ _ j
    rw [h1 _ (bd_lt b3), h1 _ (bd_lt b4)]
    unfold upd
    split
    · rfl
    · exact h1 j hj
/-- marks through the first k rows -/
def mk_u (m : Nat → Nat) (x c : Nat) : Nat → Nat := fun j => if j = x then c else m j
def mk_f (o d l r : Nat → Int32) : Nat → (Nat → Nat) → (Nat → Nat)
  | 0, m => m
  | k + 1, m => mk_u (mk_f o d l r k m) (d k).toNatClampNeg (mk_n (o k).toNatClampNeg (mk_f o d l r k m (l k).toNatClampNeg) (mk_f o d l r k m (r k).toNatClampNeg))
theorem mk_fok {V C : Nat} {o d l r : Nat → Int32} (B : bd_ok V C o d l r) {m : Nat → Nat} (h : ∀ j, j < V → mk_ok (m j)) : ∀ k, k ≤ C → ∀ j, j < V → mk_ok (mk_f o d l r k m j) := by
  intro k
  induction k with
  | zero => intro _; exact h
  | succ k ih =>
    intro hk j hj
    have h1 := ih (by omega)
    obtain ⟨-, b2, b3, b4⟩ := B k (by omega)
    show mk_ok (mk_u _ _ _ j)
    unfold mk_u
    split
    · exact mk_nok (h1 _ (bd_lt b3)) (h1 _ (bd_lt b4))
    · exact h1 j hj
theorem mk_ffr {V C : Nat} {o d l r : Nat → Int32} (B : bd_ok V C o d l r) {m : Nat → Nat} (h : ∀ j, j < V → mk_fr (m j)) : ∀ k, k ≤ C → ∀ j, j < V → mk_fr (mk_f o d l r k m j) := by
  intro k
  induction k with
  | zero => intro _; exact h
  | succ k ih =>
    intro hk j hj
    have h1 := ih (by omega)
    obtain ⟨-, b2, b3, b4⟩ := B k (by omega)
    show mk_fr (mk_u _ _ _ j)
    unfold mk_u
    split
    · exact mk_nfr (h1 _ (bd_lt b3)) (h1 _ (bd_lt b4))
    · exact h1 j hj
/-- what a mark says of a sequence of values -/
def mk_S (c : Nat) (X g : Nat → Int32) : Prop := (c ≤ 4 → pd_P (c + 1) g) ∧ (9 ≤ c → c ≤ 14 → pd_P (c - 9) (fun n => g n - X n))
theorem mk_lost (X g : Nat → Int32) : mk_S 99 X g := ⟨fun h => by omega, fun _ h => by omega⟩
theorem mk_free {c : Nat} {X g : Nat → Int32} (h : c ≤ 4) (p : pd_P (c + 1) g) : mk_S c X g := ⟨fun _ => p, fun h1 => by omega⟩
theorem mk_self {k : Nat} {X g : Nat → Int32} (p : pd_P k (fun n => g n - X n)) : mk_S (9 + k) X g := ⟨fun h => by omega, fun _ _ => by rw [show 9 + k - 9 = k from by omega]; exact p⟩
theorem mk_mxl (a b : Nat) : a ≤ mk_mx a b := by unfold mk_mx; split <;> omega
theorem mk_mxr (a b : Nat) : b ≤ mk_mx a b := by unfold mk_mx; split <;> omega
theorem mk_mx4 {a b : Nat} (ha : a ≤ 4) (hb : b ≤ 4) : mk_mx a b ≤ 4 := by unfold mk_mx; split <;> omega
theorem mk_Sn {op l r : Nat} {X f g : Nat → Int32} (h1 : 1 ≤ op) (h4 : op ≤ 4) (hl : mk_ok l) (hr : mk_ok r) (sl : mk_S l X f) (sr : mk_S r X g) : mk_S (mk_n op l r) X (fun n => ps_ap op (f n) (g n)) := by
  obtain rfl | rfl | rfl | rfl : op = 1 ∨ op = 2 ∨ op = 3 ∨ op = 4 := by omega
  · exact sl
  · show mk_S (mk_n 2 l r) X (fun n => f n + g n)
    rcases hl with a | a | a
    · rcases hr with b | b | b
      · rw [show mk_n 2 l r = mk_mx l r from by unfold mk_n; simp (disch := omega) only [if_neg, if_pos, if_true]]
        exact mk_free (mk_mx4 a b) (pd_add _ _ _ (pd_mono (sl.1 a) (by have := mk_mxl l r; omega)) (pd_mono (sr.1 b) (by have := mk_mxr l r; omega)))
      · rw [show mk_n 2 l r = 9 + mk_mx (r - 9) (l + 1) from by unfold mk_n; simp (disch := omega) only [if_neg, if_pos, if_true]]
        refine mk_self ?_
        have e : (fun n => f n + g n - X n) = fun n => f n + (g n - X n) := by funext n; grind
        rw [e]
        exact pd_add _ _ _ (pd_mono (sl.1 a) (mk_mxr _ _)) (pd_mono (sr.2 b.1 b.2) (mk_mxl _ _))
      · rw [show mk_n 2 l r = 99 from by unfold mk_n; simp (disch := omega) only [if_neg, if_pos, if_true]]
        exact mk_lost _ _
    · rcases hr with b | b | b
      · rw [show mk_n 2 l r = 9 + mk_mx (l - 9) (r + 1) from by unfold mk_n; simp (disch := omega) only [if_neg, if_pos, if_true]]
        refine mk_self ?_
        have e : (fun n => f n + g n - X n) = fun n => (f n - X n) + g n := by funext n; grind
        rw [e]
        exact pd_add _ _ _ (pd_mono (sl.2 a.1 a.2) (mk_mxl _ _)) (pd_mono (sr.1 b) (mk_mxr _ _))
      · rw [show mk_n 2 l r = 99 from by unfold mk_n; simp (disch := omega) only [if_neg, if_pos, if_true]]
        exact mk_lost _ _
      · rw [show mk_n 2 l r = 99 from by unfold mk_n; simp (disch := omega) only [if_neg, if_pos, if_true]]
        exact mk_lost _ _
    · rw [show mk_n 2 l r = 99 from by unfold mk_n; simp (disch := omega) only [if_neg, if_pos, if_true]]
      exact mk_lost _ _
  · show mk_S (mk_n 3 l r) X (fun n => f n - g n)
    rcases hl with a | a | a
    · rcases hr with b | b | b
      · rw [show mk_n 3 l r = mk_mx l r from by unfold mk_n; simp (disch := omega) only [if_neg, if_pos, if_true]]
        exact mk_free (mk_mx4 a b) (pd_sub _ _ _ (pd_mono (sl.1 a) (by have := mk_mxl l r; omega)) (pd_mono (sr.1 b) (by have := mk_mxr l r; omega)))
      · rw [show mk_n 3 l r = 99 from by unfold mk_n; simp (disch := omega) only [if_neg, if_pos, if_true]]
        exact mk_lost _ _
      · rw [show mk_n 3 l r = 99 from by unfold mk_n; simp (disch := omega) only [if_neg, if_pos, if_true]]
        exact mk_lost _ _
    · rcases hr with b | b | b
      · rw [show mk_n 3 l r = 9 + mk_mx (l - 9) (r + 1) from by unfold mk_n; simp (disch := omega) only [if_neg, if_pos, if_true]]
        refine mk_self ?_
        have e : (fun n => f n - g n - X n) = fun n => (f n - X n) - g n := by funext n; grind
        rw [e]
        exact pd_sub _ _ _ (pd_mono (sl.2 a.1 a.2) (mk_mxl _ _)) (pd_mono (sr.1 b) (mk_mxr _ _))
      · rw [show mk_n 3 l r = 99 from by unfold mk_n; simp (disch := omega) only [if_neg, if_pos, if_true]]
        exact mk_lost _ _
      · rw [show mk_n 3 l r = 99 from by unfold mk_n; simp (disch := omega) only [if_neg, if_pos, if_true]]
        exact mk_lost _ _
    · rw [show mk_n 3 l r = 99 from by unfold mk_n; simp (disch := omega) only [if_neg, if_pos, if_true]]
      exact mk_lost _ _
  · show mk_S (mk_n 4 l r) X (fun n => f n * g n)
    rcases Nat.lt_or_ge 4 (l + r) with z | z
    · rw [show mk_n 4 l r = 99 from by
        unfold mk_n
        simp only [show ¬ (4 = 1) from by omega, if_false, if_true]
        repeat' split
        all_goals omega]
      exact mk_lost _ _
    · rw [show mk_n 4 l r = l + r from by unfold mk_n; simp (disch := omega) only [if_neg, if_pos, if_true]]
      exact mk_free z (pd_mul _ (l + 1) (r + 1) _ _ (by omega) (sl.1 (by omega)) (sr.1 (by omega)))
theorem mk_fS {V C : Nat} {o d l r : Nat → Int32} (B : bd_ok V C o d l r) (hC : C ≤ 12) {m : Nat → Nat} {X : Nat → Int32} {W : Nat → Nat → Int32} (h : ∀ j, j < V → mk_ok (m j)) (hS : ∀ j, j < V → mk_S (m j) X (fun n => W n j)) :
    ∀ k, k ≤ C → ∀ j, j < V → mk_S (mk_f o d l r k m j) X (fun n => ps_f o d l r k (W n) j) := by
  intro k
  induction k with
  | zero => intro _; exact hS
  | succ k ih =>
    intro hk j hj
    have h1 := ih (by omega)
    have h2 := mk_fok B h k (by omega)
    obtain ⟨⟨q, q1, q4, qe⟩, b2, b3, b4⟩ := B k (by omega)
    show mk_S (mk_u _ _ _ j) X (fun n => upd _ _ _ j)
    unfold mk_u upd
    split
    · rw [qe, nI_clamp (by omega)]
      exact mk_Sn q1 q4 (h2 _ (bd_lt b3)) (h2 _ (bd_lt b4)) (h1 _ (bd_lt b3)) (h1 _ (bd_lt b4))
    · exact h1 j hj
/-! the degrees -/
def mk_st (D : Nat → Nat) : Nat → Nat := fun v => if D v = 5 then 99 else D v
def mk_tr (o d l r : Nat → Int32) (C : Nat) (D : Nat → Nat) (x : Nat) : Nat :=
  if mk_f o d l r C (mk_u (mk_st D) x 9) x < 9 then 5 else if 13 < mk_f o d l r C (mk_u (mk_st D) x 9) x then 5 else mk_f o d l r C (mk_u (mk_st D) x 9) x - 9
def mk_t1 (o d l r : Nat → Int32) (C : Nat) (D : Nat → Nat) (x : Nat) : Nat → Nat := if D x = 5 then mk_u D x (mk_tr o d l r C D x) else D
def mk_in (o d l r : Nat → Int32) (C : Nat) : Nat → (Nat → Nat) → (Nat → Nat)
  | 0, D => D
  | k + 1, D => mk_t1 o d l r C (mk_in o d l r C k D) k
def mk_rd (o d l r : Nat → Int32) (C V : Nat) : Nat → (Nat → Nat)
  | 0 => fun _ => 5
  | k + 1 => mk_in o d l r C V (mk_rd o d l r C V k)
def mk_D (o d l r : Nat → Int32) (C V : Nat) : Nat → Nat := mk_rd o d l r C V V
def mk_M (o d l r : Nat → Int32) (C V : Nat) : Nat → Nat := mk_f o d l r C (mk_st (mk_D o d l r C V))
def mk_E (o d l r : Nat → Int32) (C V v : Nat) : Nat := if mk_M o d l r C V v = 99 then 5 else mk_M o d l r C V v
theorem mk_stfr {D : Nat → Nat} {j : Nat} (h : D j ≤ 5) : mk_fr (mk_st D j) := by
  unfold mk_st mk_fr; split <;> omega
theorem mk_frok {c : Nat} (h : mk_fr c) : mk_ok c := by
  unfold mk_fr mk_ok at *; omega
theorem mk_stok {V : Nat} {D : Nat → Nat} (h : ∀ j, j < V → D j ≤ 5) (x : Nat) : ∀ j, j < V → mk_ok (mk_u (mk_st D) x 9 j) := by
  intro j hj
  unfold mk_u
  split
  · unfold mk_ok; omega
  · exact mk_frok (mk_stfr (h j hj))
theorem mk_tr5 {V C : Nat} {o d l r : Nat → Int32} {D : Nat → Nat} {x : Nat} : mk_tr o d l r C D x ≤ 5 := by
  unfold mk_tr
  split
  · omega
  · split <;> omega
/-- degrees that are right for the heads H -/
def mk_R (V : Nat) (H : Nat → Nat → Int32) (D : Nat → Nat) : Prop := ∀ j, j < V → D j ≤ 5 ∧ (D j ≤ 4 → pd_P (D j + 1) (fun n => H n j))
theorem mk_Rt {V C : Nat} {o d l r s : Nat → Int32} (B : bd_ok V C o d l r) (hC : C ≤ 12) {D : Nat → Nat} (R : mk_R V (hd_ o d l r C s) D) {x : Nat} (hx : x < V) : mk_R V (hd_ o d l r C s) (mk_t1 o d l r C D x) := by
  unfold mk_t1
  split
  · intro j hj
    show mk_u D x _ j ≤ 5 ∧ _
    unfold mk_u
    split
    · subst j
      refine ⟨mk_tr5 (V := V), ?_⟩
      have hS : ∀ j, j < V → mk_S (mk_u (mk_st D) x 9 j) (fun n => hd_ o d l r C s n x) (fun n => hd_ o d l r C s n j) := by
        intro j hj
        unfold mk_u
        split
        · subst j
          exact mk_self (k := 0) (fun n => by show _ - _ = (0 : Int32); grind)
        · unfold mk_st
          split
          · exact mk_lost _ _
          · have := R j hj
            exact mk_free (by omega) (this.2 (by omega))
      have h2 := mk_fS B hC (mk_stok (fun j hj => (R j hj).1) x) hS C (Nat.le_refl C) x hx
      unfold mk_tr
      generalize mk_f o d l r C (mk_u (mk_st D) x 9) x = m at *
      split
      · intro h; omega
      · split
        · intro h; omega
        · intro _
          exact h2.2 (by omega) (by omega)
    · exact R j hj
  · exact R
theorem mk_Ri {V C : Nat} {o d l r s : Nat → Int32} (B : bd_ok V C o d l r) (hC : C ≤ 12) {D : Nat → Nat} (R : mk_R V (hd_ o d l r C s) D) : ∀ k, k ≤ V → mk_R V (hd_ o d l r C s) (mk_in o d l r C k D) := by
  intro k
  induction k with
  | zero => intro _; exact R
  | succ k ih => intro hk; exact mk_Rt B hC (ih (by omega)) (by omega)
theorem mk_Rr {V C : Nat} {o d l r : Nat → Int32} (s : Nat → Int32) (B : bd_ok V C o d l r) (hC : C ≤ 12) : ∀ k, mk_R V (hd_ o d l r C s) (mk_rd o d l r C V k) := by
  intro k
  induction k with
  | zero => intro j hj; exact ⟨Nat.le_refl 5, fun h => absurd h (by show ¬ 5 ≤ 4; omega)⟩
  | succ k ih => exact mk_Ri B hC ih V (Nat.le_refl V)
theorem mk_RD {V C : Nat} {o d l r : Nat → Int32} (s : Nat → Int32) (B : bd_ok V C o d l r) (hC : C ≤ 12) : mk_R V (hd_ o d l r C s) (mk_D o d l r C V) := mk_Rr s B hC V
theorem mk_Mfr {V C : Nat} {o d l r : Nat → Int32} (B : bd_ok V C o d l r) (hC : C ≤ 12) {j : Nat} (hj : j < V) : mk_fr (mk_M o d l r C V j) :=
  mk_ffr B (fun j hj => mk_stfr (mk_RD (fun _ => 0) B hC j hj).1) C (Nat.le_refl C) j hj
/-- a solved variable is a polynomial from head 1 on -/
theorem mk_RE {V C : Nat} {o d l r : Nat → Int32} (s : Nat → Int32) (B : bd_ok V C o d l r) (hC : C ≤ 12) {v : Nat} (hv : v < V) (h : mk_E o d l r C V v ≠ 5) : pd_P 5 (fun n => hd_ o d l r C s (n + 1) v) := by
  have R := mk_RD s B hC
  have F := mk_Mfr B hC hv
  have hS : ∀ j, j < V → mk_S (mk_st (mk_D o d l r C V) j) (fun _ => 0) (fun n => hd_ o d l r C s n j) := by
    intro j hj
    unfold mk_st
    split
    · exact mk_lost _ _
    · have := R j hj
      exact mk_free (by omega) (this.2 (by omega))
  have h2 := mk_fS B hC (fun j hj => mk_frok (mk_stfr (R j hj).1)) hS C (Nat.le_refl C) v hv
  have h3 : mk_M o d l r C V v ≤ 4 := by
    unfold mk_E at h
    unfold mk_fr at F
    split at h <;> omega
  exact pd_mono (h2.1 h3) (by show mk_M o d l r C V v + 1 ≤ 5; omega)
end
section
/-! X: small helpers, marks, degrees, ends -/
theorem ex_upd {m : Nat → Int32} {i : Nat} {x : Int32} (P : Nat → Int32 → Prop) (h : ∀ j, j < i → P j (m j)) (hx : P i x) : ∀ j, j < i + 1 → P j (upd m i x j) := by
  intro j hj
  unfold upd
  split
  · rename_i e; rw [e]; exact hx
  · exact h j (by omega)
theorem ex_mk {V x c : Nat} {m : Nat → Int32} {g : Nat → Nat} (h : ∀ j, j < V → m j = nI (g j)) : ∀ j, j < V → upd m x (nI c) j = nI (mk_u g x c j) := by
  intro j hj
  unfold upd mk_u
  split
  · rfl
  · exact h j hj
theorem mk_t15 {V C : Nat} {o d l r : Nat → Int32} {D : Nat → Nat} (h : ∀ j, j < V → D j ≤ 5) (x : Nat) : ∀ j, j < V → mk_t1 o d l r C D x j ≤ 5 := by
  intro j hj
  unfold mk_t1
  split
  · unfold mk_u
    split
    · exact mk_tr5 (V := V)
    · exact h j hj
  · exact h j hj
theorem mk_in5 {V C : Nat} {o d l r : Nat → Int32} {D : Nat → Nat} (h : ∀ j, j < V → D j ≤ 5) : ∀ k, ∀ j, j < V → mk_in o d l r C k D j ≤ 5 := by
  intro k
  induction k with
  | zero => exact h
  | succ k ih => exact mk_t15 ih k
theorem mk_rd5 {V C : Nat} {o d l r : Nat → Int32} : ∀ k, ∀ j, j < V → mk_rd o d l r C V k j ≤ 5 := by
  intro k
  induction k with
  | zero => intro j _; exact Nat.le_refl 5
  | succ k ih => exact mk_in5 ih V
section
variable {f_self f_lost f_vars f_room f_bits f_mask f_count f_exitRel f_exitVar f_exitBound f_liveBits f_shapeNow f_formed : Int32} {a_ops a_dsts a_lefts a_rights a_store a_work a_marks a_degrees a_ends a_coef a_stackStep a_stackSize a_stackLow : Nat → Int32}
theorem xw_gt {post : Int32 → Prop} {V C : Nat} {p : Int32} (hV : V ≤ 8) (h : vp_in p V) (hp : post 1) : wpX_good post (f_self, f_lost, nI V, f_room, f_bits, f_mask, nI C, f_exitRel, f_exitVar, f_exitBound, f_liveBits, f_shapeNow, f_formed, a_ops, a_dsts, a_lefts, a_rights, a_store, a_work, a_marks, a_degrees, a_ends, a_coef, a_stackStep, a_stackSize, a_stackLow) p := by
  obtain ⟨j, hj, rfl⟩ := vp_in_of h (by omega)
  exact br_f (nI_pos (by omega)) (br_f (nI_ge hj (by omega)) hp)
theorem xw_gf {post : Int32 → Prop} {V C : Nat} {p : Int32} (hV : V ≤ 8) (h : ¬ vp_in p V) (hp : post 0) : wpX_good post (f_self, f_lost, nI V, f_room, f_bits, f_mask, nI C, f_exitRel, f_exitVar, f_exitBound, f_liveBits, f_shapeNow, f_formed, a_ops, a_dsts, a_lefts, a_rights, a_store, a_work, a_marks, a_degrees, a_ends, a_coef, a_stackStep, a_stackSize, a_stackLow) p := by
  refine br_c (fun _ => hp) (fun h0 => br_c (fun _ => hp) (fun h1 => absurd ?_ h))
  obtain ⟨j, hj, rfl⟩ := nI_of h0
  rcases Nat.lt_or_ge j V with z | z
  · exact vp_in_nI z (by omega)
  · exact absurd (nI_le z hj) h1
theorem xw_ft {post : Int32 → Prop} {V C : Nat} (h : f_shapeNow = -4) (hp : post 0) : wpX_folded post (f_self, f_lost, nI V, f_room, f_bits, f_mask, nI C, f_exitRel, f_exitVar, f_exitBound, f_liveBits, f_shapeNow, f_formed, a_ops, a_dsts, a_lefts, a_rights, a_store, a_work, a_marks, a_degrees, a_ends, a_coef, a_stackStep, a_stackSize, a_stackLow) := br_t h hp
theorem xw_ff {post : Int32 → Prop} {V C : Nat} (h : ¬ f_shapeNow = -4) (hp : post 1) : wpX_folded post (f_self, f_lost, nI V, f_room, f_bits, f_mask, nI C, f_exitRel, f_exitVar, f_exitBound, f_liveBits, f_shapeNow, f_formed, a_ops, a_dsts, a_lefts, a_rights, a_store, a_work, a_marks, a_degrees, a_ends, a_coef, a_stackStep, a_stackSize, a_stackLow) := br_f h hp
theorem xw_sm2 {post : SX → Prop} {V C : Nat} (hV : V ≤ 8) {D : Nat → Nat} (hD : ∀ j, j < V → D j ≤ 5) (hE : ∀ j, j < V → a_degrees j = nI (D j))
    (hp : ∀ m, (∀ j, j < V → m j = nI (mk_st D j)) → post (f_self, f_lost, nI V, f_room, f_bits, f_mask, nI C, f_exitRel, f_exitVar, f_exitBound, f_liveBits, f_shapeNow, f_formed, a_ops, a_dsts, a_lefts, a_rights, a_store, a_work, m, a_degrees, a_ends, a_coef, a_stackStep, a_stackSize, a_stackLow)) :
    ∀ n i m, i ≤ V → V - i < n → (∀ j, j < i → m j = nI (mk_st D j)) → wX_startMarks_2 post f_self f_lost (nI V) f_room f_bits f_mask (nI C) f_exitRel f_exitVar f_exitBound f_liveBits f_shapeNow f_formed n (nI i) a_ops a_dsts a_lefts a_rights a_store a_work m a_degrees a_ends a_coef a_stackStep a_stackSize a_stackLow := by
  intro n
  induction n with
  | zero => intro i m _ h; omega
  | succ n ih =>
    intro i m hi hn hm
    rcases Nat.lt_or_ge i V with h | h
    · have hx : (nI i).toNatClampNeg = i := nI_clamp (by omega)
      have hv : vp_in (nI i) 8 := vp_in_nI (by omega) (by omega)
      have d5 := hD i h
      simp only [wX_startMarks_2, hx, hE i h]
      refine br_f (nI_ge h (by omega)) ⟨hv, pk_eq (D i) 5 (fun h5 => ⟨hv, ?_⟩) (fun h5 => ⟨hv, hv, ?_⟩)⟩
      · intro m' em x' ex
        subst em ex
        rw [nI_1]
        exact ih (i + 1) _ (by omega) (by omega) (ex_upd (fun j y => y = nI (mk_st D j)) hm (by unfold mk_st; rw [if_pos h5]; rfl))
      · intro m' em x' ex
        subst em ex
        rw [nI_1]
        exact ih (i + 1) _ (by omega) (by omega) (ex_upd (fun j y => y = nI (mk_st D j)) hm (by unfold mk_st; rw [if_neg h5]))
    · obtain rfl : i = V := by omega
      exact br_t (nI_le (by omega) (by omega)) (hp m hm)
theorem xw_sm {post : SX → Prop} {V C : Nat} (hV : V ≤ 8) {D : Nat → Nat} (hD : ∀ j, j < V → D j ≤ 5) (hE : ∀ j, j < V → a_degrees j = nI (D j))
    (hp : ∀ m, (∀ j, j < V → m j = nI (mk_st D j)) → post (f_self, f_lost, nI V, f_room, f_bits, f_mask, nI C, f_exitRel, f_exitVar, f_exitBound, f_liveBits, f_shapeNow, f_formed, a_ops, a_dsts, a_lefts, a_rights, a_store, a_work, m, a_degrees, a_ends, a_coef, a_stackStep, a_stackSize, a_stackLow)) : wpX_startMarks post (f_self, f_lost, nI V, f_room, f_bits, f_mask, nI C, f_exitRel, f_exitVar, f_exitBound, f_liveBits, f_shapeNow, f_formed, a_ops, a_dsts, a_lefts, a_rights, a_store, a_work, a_marks, a_degrees, a_ends, a_coef, a_stackStep, a_stackSize, a_stackLow) :=
  ⟨V + 1, xw_sm2 hV hD hE hp (V + 1) 0 a_marks (by omega) (by omega) (fun j h => absurd h (by omega))⟩
theorem xw_lg {post : Int32 → Prop} {V C : Nat} {x y : Int32} (hp : post (if x ≤ y then y else x)) : wpX_larger post (f_self, f_lost, nI V, f_room, f_bits, f_mask, nI C, f_exitRel, f_exitVar, f_exitBound, f_liveBits, f_shapeNow, f_formed, a_ops, a_dsts, a_lefts, a_rights, a_store, a_work, a_marks, a_degrees, a_ends, a_coef, a_stackStep, a_stackSize, a_stackLow) x y := by
  refine br_c (fun h => ?_) (fun h => ?_)
  · rw [if_pos h] at hp; exact hp
  · rw [if_neg h] at hp; exact hp
theorem xw_cb {post : Int32 → Prop} {V C : Nat} {op x y : Int32} (hp : post (mk_cb op x y)) : wpX_combine post (f_self, f_lost, nI V, f_room, f_bits, f_mask, nI C, f_exitRel, f_exitVar, f_exitBound, f_liveBits, f_shapeNow, f_formed, a_ops, a_dsts, a_lefts, a_rights, a_store, a_work, a_marks, a_degrees, a_ends, a_coef, a_stackStep, a_stackSize, a_stackLow) op x y := by
  unfold mk_cb at hp
  refine br_c (fun h1 => ?_) (fun h1 => ?_)
  · rw [if_pos h1] at hp; exact hp
  rw [if_neg h1] at hp
  refine br_c (fun h2 => ?_) (fun h2 => ?_)
  · rw [if_pos h2] at hp; exact hp
  rw [if_neg h2] at hp
  refine br_c (fun h3 => ?_) (fun h3 => ?_)
  · rw [if_pos h3] at hp; exact hp
  rw [if_neg h3] at hp
  by_cases h4 : op = 4
  · rw [if_pos h4] at hp
    by_cases hx : x < 9
    · rw [if_pos hx] at hp
      by_cases hy : y < 9
      · rw [if_pos hy] at hp
        refine br_t hx (br_t hy (br_t h4 (br_t rfl (br_t rfl (br_c (fun h => ?_) (fun h => ?_))))))
        · rw [if_pos h] at hp; exact br_t rfl hp
        · rw [if_neg h] at hp; exact br_f (by decide) hp
      · rw [if_neg hy] at hp
        exact br_t hx (br_f hy (br_t h4 (br_t rfl (br_f (by decide) (br_t rfl hp)))))
    · rw [if_neg hx] at hp
      by_cases hy : y < 9
      · exact br_f hx (br_t hy (br_t h4 (br_f (by decide) (br_t rfl hp))))
      · exact br_f hx (br_f hy (br_t h4 (br_f (by decide) (br_t rfl hp))))
  · rw [if_neg h4] at hp
    by_cases hx : x < 9
    · by_cases hy : y < 9
      · rw [if_pos hy, if_pos hx] at hp
        exact br_t hx (br_t hy (br_f h4 (br_t rfl (br_t rfl (br_t rfl (xw_lg (V := V) (C := C) hp))))))
      · rw [if_neg hy, if_pos hx] at hp
        by_cases h5 : op = 3
        · rw [if_pos h5] at hp
          exact br_t hx (br_f hy (br_f h4 (br_f (by decide) (br_t rfl (br_t h5 hp)))))
        · rw [if_neg h5] at hp
          exact br_t hx (br_f hy (br_f h4 (br_f (by decide) (br_t rfl (br_f h5 (br_t rfl (br_f (by decide) (xw_lg (V := V) (C := C) hp))))))))
    · by_cases hy : y < 9
      · rw [if_pos hy, if_neg hx] at hp
        exact br_f hx (br_t hy (br_f h4 (br_t rfl (br_f (by decide) (xw_lg (V := V) (C := C) hp)))))
      · rw [if_neg hy, if_neg hx] at hp
        exact br_f hx (br_f hy (br_f h4 (br_f (by decide) (br_f (by decide) hp))))
theorem xw_pm2 {post : SX → Prop} {V C : Nat} (hV : V ≤ 8) (hC : C ≤ 12) (B : bd_ok V C a_ops a_dsts a_lefts a_rights) {M : Nat → Nat} (hM : ∀ j, j < V → mk_ok (M j))
    (hp : ∀ m, (∀ j, j < V → m j = nI (mk_f a_ops a_dsts a_lefts a_rights C M j)) → post (f_self, f_lost, nI V, f_room, f_bits, f_mask, nI C, f_exitRel, f_exitVar, f_exitBound, f_liveBits, f_shapeNow, f_formed, a_ops, a_dsts, a_lefts, a_rights, a_store, a_work, m, a_degrees, a_ends, a_coef, a_stackStep, a_stackSize, a_stackLow)) :
    ∀ n i m, i ≤ C → C - i < n → (∀ j, j < V → m j = nI (mk_f a_ops a_dsts a_lefts a_rights i M j)) → wX_passMarks_2 post f_self f_lost (nI V) f_room f_bits f_mask (nI C) f_exitRel f_exitVar f_exitBound f_liveBits f_shapeNow f_formed n (nI i) a_ops a_dsts a_lefts a_rights a_store a_work m a_degrees a_ends a_coef a_stackStep a_stackSize a_stackLow := by
  intro n
  induction n with
  | zero => intro i m _ h; omega
  | succ n ih =>
    intro i m hi hn hm
    rcases Nat.lt_or_ge i C with h | h
    · have hx : (nI i).toNatClampNeg = i := nI_clamp (by omega)
      have hv : vp_in (nI i) 12 := vp_in_nI (by omega) (by omega)
      obtain ⟨⟨q, q1, q4, qe⟩, b2, b3, b4⟩ := B i h
      have ok := mk_fok B hM i hi
      simp only [wX_passMarks_2, hx]
      refine br_f (nI_ge h (by omega)) ⟨hv, bd_in b3 hV, ?_⟩
      intro y1 e1
      refine ⟨hv, bd_in b4 hV, ?_⟩
      intro y2 e2
      refine ⟨hv, hv, xw_cb (V := V) (C := C) ⟨bd_in b2 hV, ?_⟩⟩
      intro m' em x' ex
      have em2 : m' = upd m (a_dsts i).toNatClampNeg (nI (mk_n (a_ops i).toNatClampNeg (mk_f a_ops a_dsts a_lefts a_rights i M (a_lefts i).toNatClampNeg) (mk_f a_ops a_dsts a_lefts a_rights i M (a_rights i).toNatClampNeg))) := by
        rw [em, e1, e2, hm _ (bd_lt b3), hm _ (bd_lt b4), qe, mk_cbn q1 q4 (ok _ (bd_lt b3)) (ok _ (bd_lt b4)), nI_clamp (by omega)]
      subst em2 ex
      rw [nI_1]
      exact ih (i + 1) _ (by omega) (by omega) (ex_mk hm)
    · obtain rfl : i = C := by omega
      exact br_t (nI_le (by omega) (by omega)) (hp m hm)
theorem xw_pm {post : SX → Prop} {V C : Nat} (hV : V ≤ 8) (hC : C ≤ 12) (B : bd_ok V C a_ops a_dsts a_lefts a_rights) {M : Nat → Nat} (hM : ∀ j, j < V → mk_ok (M j)) (h0 : ∀ j, j < V → a_marks j = nI (M j))
    (hp : ∀ m, (∀ j, j < V → m j = nI (mk_f a_ops a_dsts a_lefts a_rights C M j)) → post (f_self, f_lost, nI V, f_room, f_bits, f_mask, nI C, f_exitRel, f_exitVar, f_exitBound, f_liveBits, f_shapeNow, f_formed, a_ops, a_dsts, a_lefts, a_rights, a_store, a_work, m, a_degrees, a_ends, a_coef, a_stackStep, a_stackSize, a_stackLow)) : wpX_passMarks post (f_self, f_lost, nI V, f_room, f_bits, f_mask, nI C, f_exitRel, f_exitVar, f_exitBound, f_liveBits, f_shapeNow, f_formed, a_ops, a_dsts, a_lefts, a_rights, a_store, a_work, a_marks, a_degrees, a_ends, a_coef, a_stackStep, a_stackSize, a_stackLow) :=
  ⟨C + 1, xw_pm2 hV hC B hM hp (C + 1) 0 a_marks (by omega) (by omega) h0⟩
theorem xw_tr {post : Int32 → SX → Prop} {V C x : Nat} (hV : V ≤ 8) (hC : C ≤ 12) (hx : x < V) (B : bd_ok V C a_ops a_dsts a_lefts a_rights) {D : Nat → Nat} (hD : ∀ j, j < V → D j ≤ 5) (hE : ∀ j, j < V → a_degrees j = nI (D j))
    (hp : ∀ m, post (nI (mk_tr a_ops a_dsts a_lefts a_rights C D x)) (f_self, f_lost, nI V, f_room, f_bits, f_mask, nI C, f_exitRel, f_exitVar, f_exitBound, f_liveBits, f_shapeNow, f_formed, a_ops, a_dsts, a_lefts, a_rights, a_store, a_work, m, a_degrees, a_ends, a_coef, a_stackStep, a_stackSize, a_stackLow)) : wpX_trial post (f_self, f_lost, nI V, f_room, f_bits, f_mask, nI C, f_exitRel, f_exitVar, f_exitBound, f_liveBits, f_shapeNow, f_formed, a_ops, a_dsts, a_lefts, a_rights, a_store, a_work, a_marks, a_degrees, a_ends, a_coef, a_stackStep, a_stackSize, a_stackLow) (nI x) := by
  have hv : vp_in (nI x) 8 := vp_in_nI (by omega) (by omega)
  have ex : (nI x).toNatClampNeg = x := nI_clamp (by omega)
  unfold wpX_trial
  dsimp only
  refine xw_sm hV hD hE (fun m hm => ?_)
  dsimp only
  refine ⟨hv, ?_⟩
  intro m1 e1
  rw [ex] at e1
  have e9 : upd m x 9 = upd m x (nI 9) := rfl
  rw [e9] at e1
  subst e1
  refine xw_pm hV hC B (mk_stok hD x) (ex_mk hm) (fun m2 h2 => ?_)
  dsimp only
  refine ⟨hv, ?_⟩
  intro y ey
  rw [ex, h2 x hx] at ey
  have ok := mk_fok B (mk_stok hD x) C (Nat.le_refl C) x hx
  have hp2 := hp m2
  unfold mk_tr at hp2
  unfold mk_ok at ok
  generalize mk_f a_ops a_dsts a_lefts a_rights C (mk_u (mk_st D) x 9) x = c at *
  subst ey
  refine pk_lt c 9 (fun h => ?_) (fun h => ?_)
  · rw [if_pos h] at hp2; exact hp2
  · rw [if_neg (by omega)] at hp2
    refine pk_lt 13 c (fun h3 => ?_) (fun h3 => ?_)
    · rw [if_pos h3] at hp2; exact hp2
    · rw [if_neg (by omega)] at hp2
      have e : nI c - 10 + 1 = nI (c - 9) := by
        obtain ⟨k, rfl⟩ : ∃ k, c = k + 9 := ⟨c - 9, by omega⟩
        rw [← nI_add, show nI 9 = 9 from rfl, Nat.add_sub_cancel]
        grind
      rw [e]
      exact hp2
end
end
section
/-! X: degrees, ends, shape -/
theorem mk_fr99 {c : Nat} (h : mk_fr c) : c ≤ 99 := by unfold mk_fr at h; omega
section
variable {f_self f_lost f_vars f_room f_bits f_mask f_count f_exitRel f_exitVar f_exitBound f_liveBits f_shapeNow f_formed : Int32} {a_ops a_dsts a_lefts a_rights a_store a_work a_marks a_degrees a_ends a_coef a_stackStep a_stackSize a_stackLow : Nat → Int32}
theorem xw_fd35 {post : SX → Prop} {J : Int32 → Int32 → Int32 → Int32 → Int32 → Int32 → Int32 → Int32 → Int32 → Int32 → Int32 → Int32 → Int32 → Int32 → (Nat → Int32) → (Nat → Int32) → (Nat → Int32) → (Nat → Int32) → (Nat → Int32) → (Nat → Int32) → (Nat → Int32) → (Nat → Int32) → (Nat → Int32) → (Nat → Int32) → (Nat → Int32) → (Nat → Int32) → (Nat → Int32) → Prop} {k : Int32} {V C : Nat} (hV : V ≤ 8) (hC : C ≤ 12) (B : bd_ok V C a_ops a_dsts a_lefts a_rights) {D : Nat → Nat} (hD : ∀ j, j < V → D j ≤ 5)
    (hp : ∀ m e, (∀ j, j < V → e j = nI (mk_in a_ops a_dsts a_lefts a_rights C V D j)) → J (k + 1) f_self f_lost (nI V) f_room f_bits f_mask (nI C) f_exitRel f_exitVar f_exitBound f_liveBits f_shapeNow f_formed a_ops a_dsts a_lefts a_rights a_store a_work m e a_ends a_coef a_stackStep a_stackSize a_stackLow) :
    ∀ n i m e, i ≤ V → V - i < n → (∀ j, j < V → e j = nI (mk_in a_ops a_dsts a_lefts a_rights C i D j)) → wX_findDegrees_35 post J k n (nI i) f_self f_lost (nI V) f_room f_bits f_mask (nI C) f_exitRel f_exitVar f_exitBound f_liveBits f_shapeNow f_formed a_ops a_dsts a_lefts a_rights a_store a_work m e a_ends a_coef a_stackStep a_stackSize a_stackLow := by
  intro n
  induction n with
  | zero => intro i m e _ h; omega
  | succ n ih =>
    intro i m e hi hn he
    rcases Nat.lt_or_ge i V with h | h
    · have hx : (nI i).toNatClampNeg = i := nI_clamp (by omega)
      have hv : vp_in (nI i) 8 := vp_in_nI (by omega) (by omega)
      have i5 := mk_in5 (o := a_ops) (d := a_dsts) (l := a_lefts) (r := a_rights) (C := C) hD i
      have d5 := i5 i h
      simp only [wX_findDegrees_35, hx, he i h]
      refine br_f (nI_ge h (by omega)) ⟨hv, pk_eq (mk_in a_ops a_dsts a_lefts a_rights C i D i) 5 (fun h5 => ?_) (fun h5 => ?_)⟩
      · refine xw_tr hV hC h B i5 he (fun m' => ?_)
        dsimp only
        refine ⟨hv, ?_⟩
        intro e' ee x' ex
        subst ee ex
        rw [nI_1]
        refine ih (i + 1) _ _ (by omega) (by omega) ?_
        have q : mk_in a_ops a_dsts a_lefts a_rights C (i + 1) D = mk_u (mk_in a_ops a_dsts a_lefts a_rights C i D) i (mk_tr a_ops a_dsts a_lefts a_rights C (mk_in a_ops a_dsts a_lefts a_rights C i D) i) := if_pos h5
        rw [q]
        exact ex_mk he
      · intro x' ex
        subst ex
        rw [nI_1]
        refine ih (i + 1) _ _ (by omega) (by omega) ?_
        have q : mk_in a_ops a_dsts a_lefts a_rights C (i + 1) D = mk_in a_ops a_dsts a_lefts a_rights C i D := if_neg h5
        rw [q]
        exact he
    · obtain rfl : i = V := by omega
      exact br_t (nI_le (by omega) (by omega)) (nm_e (hp m e he))
theorem xw_fd25 {post : SX → Prop} {V C : Nat} (hV : V ≤ 8) (hC : C ≤ 12) (B : bd_ok V C a_ops a_dsts a_lefts a_rights)
    (hp : ∀ m e, (∀ j, j < V → e j = nI (mk_D a_ops a_dsts a_lefts a_rights C V j)) → post (f_self, f_lost, nI V, f_room, f_bits, f_mask, nI C, f_exitRel, f_exitVar, f_exitBound, f_liveBits, f_shapeNow, f_formed, a_ops, a_dsts, a_lefts, a_rights, a_store, a_work, m, e, a_ends, a_coef, a_stackStep, a_stackSize, a_stackLow)) :
    ∀ n i m e, i ≤ V → V - i < n → (∀ j, j < V → e j = nI (mk_rd a_ops a_dsts a_lefts a_rights C V i j)) → wX_findDegrees_25 post n (nI i) f_self f_lost (nI V) f_room f_bits f_mask (nI C) f_exitRel f_exitVar f_exitBound f_liveBits f_shapeNow f_formed a_ops a_dsts a_lefts a_rights a_store a_work m e a_ends a_coef a_stackStep a_stackSize a_stackLow := by
  intro n
  induction n with
  | zero => intro i m e _ h; omega
  | succ n ih =>
    intro i m e hi hn he
    rcases Nat.lt_or_ge i V with h | h
    · refine br_f (nI_ge h (by omega)) ⟨V + 1, ?_⟩
      refine xw_fd35 hV hC B (mk_rd5 i) (fun m' e' he' => ?_) (V + 1) 0 m e (by omega) (by omega) he
      rw [nI_1]
      exact ih (i + 1) m' e' (by omega) (by omega) he'
    · obtain rfl : i = V := by omega
      exact br_t (nI_le (by omega) (by omega)) (hp m e he)
theorem xw_fd2 {post : SX → Prop} {V C : Nat} (hV : V ≤ 8) (hC : C ≤ 12) (B : bd_ok V C a_ops a_dsts a_lefts a_rights)
    (hp : ∀ m e, (∀ j, j < V → e j = nI (mk_D a_ops a_dsts a_lefts a_rights C V j)) → post (f_self, f_lost, nI V, f_room, f_bits, f_mask, nI C, f_exitRel, f_exitVar, f_exitBound, f_liveBits, f_shapeNow, f_formed, a_ops, a_dsts, a_lefts, a_rights, a_store, a_work, m, e, a_ends, a_coef, a_stackStep, a_stackSize, a_stackLow)) :
    ∀ n i e, i ≤ V → V - i < n → (∀ j, j < i → e j = nI 5) → wX_findDegrees_2 post f_self f_lost (nI V) f_room f_bits f_mask (nI C) f_exitRel f_exitVar f_exitBound f_liveBits f_shapeNow f_formed n (nI i) a_ops a_dsts a_lefts a_rights a_store a_work a_marks e a_ends a_coef a_stackStep a_stackSize a_stackLow := by
  intro n
  induction n with
  | zero => intro i e _ h; omega
  | succ n ih =>
    intro i e hi hn he
    rcases Nat.lt_or_ge i V with h | h
    · have hx : (nI i).toNatClampNeg = i := nI_clamp (by omega)
      have hv : vp_in (nI i) 8 := vp_in_nI (by omega) (by omega)
      simp only [wX_findDegrees_2, hx]
      refine br_f (nI_ge h (by omega)) ⟨hv, ?_⟩
      intro e' ee x' ex
      subst ee ex
      rw [nI_1]
      exact ih (i + 1) _ (by omega) (by omega) (ex_upd (fun _ y => y = nI 5) he rfl)
    · obtain rfl : i = V := by omega
      exact br_t (nI_le (by omega) (by omega)) ⟨i + 1, xw_fd25 hV hC B hp (i + 1) 0 a_marks e (by omega) (by omega) he⟩
theorem xw_fd {post : SX → Prop} {V C : Nat} (hV : V ≤ 8) (hC : C ≤ 12) (B : bd_ok V C a_ops a_dsts a_lefts a_rights)
    (hp : ∀ m e, (∀ j, j < V → e j = nI (mk_D a_ops a_dsts a_lefts a_rights C V j)) → post (f_self, f_lost, nI V, f_room, f_bits, f_mask, nI C, f_exitRel, f_exitVar, f_exitBound, f_liveBits, f_shapeNow, f_formed, a_ops, a_dsts, a_lefts, a_rights, a_store, a_work, m, e, a_ends, a_coef, a_stackStep, a_stackSize, a_stackLow)) : wpX_findDegrees post (f_self, f_lost, nI V, f_room, f_bits, f_mask, nI C, f_exitRel, f_exitVar, f_exitBound, f_liveBits, f_shapeNow, f_formed, a_ops, a_dsts, a_lefts, a_rights, a_store, a_work, a_marks, a_degrees, a_ends, a_coef, a_stackStep, a_stackSize, a_stackLow) :=
  ⟨V + 1, xw_fd2 hV hC B hp (V + 1) 0 a_degrees (by omega) (by omega) (fun j h => absurd h (by omega))⟩
theorem xw_fe10 {post : SX → Prop} {V C : Nat} (hV : V ≤ 8) {M : Nat → Nat} (hM : ∀ j, j < V → M j ≤ 99) (h0 : ∀ j, j < V → a_marks j = nI (M j))
    (hp : ∀ e, (∀ j, j < V → e j = nI (if M j = 99 then 5 else M j)) → post (f_self, f_lost, nI V, f_room, f_bits, f_mask, nI C, f_exitRel, f_exitVar, f_exitBound, f_liveBits, f_shapeNow, f_formed, a_ops, a_dsts, a_lefts, a_rights, a_store, a_work, a_marks, a_degrees, e, a_coef, a_stackStep, a_stackSize, a_stackLow)) :
    ∀ n i e, i ≤ V → V - i < n → (∀ j, j < i → e j = nI (if M j = 99 then 5 else M j)) → wX_findEnds_10 post f_self f_lost (nI V) f_room f_bits f_mask (nI C) f_exitRel f_exitVar f_exitBound f_liveBits f_shapeNow f_formed n (nI i) a_ops a_dsts a_lefts a_rights a_store a_work a_marks a_degrees e a_coef a_stackStep a_stackSize a_stackLow := by
  intro n
  induction n with
  | zero => intro i e _ h; omega
  | succ n ih =>
    intro i e hi hn he
    rcases Nat.lt_or_ge i V with h | h
    · have hx : (nI i).toNatClampNeg = i := nI_clamp (by omega)
      have hv : vp_in (nI i) 8 := vp_in_nI (by omega) (by omega)
      have m9 := hM i h
      simp only [wX_findEnds_10, hx, h0 i h]
      refine br_f (nI_ge h (by omega)) ⟨hv, pk_eq (M i) 99 (fun h5 => ⟨hv, ?_⟩) (fun h5 => ⟨hv, hv, ?_⟩)⟩
      · intro e' ee x' ex
        subst ee ex
        rw [nI_1]
        exact ih (i + 1) _ (by omega) (by omega) (ex_upd (fun j y => y = nI (if M j = 99 then 5 else M j)) he (by rw [if_pos h5]; rfl))
      · intro e' ee x' ex
        subst ee ex
        rw [nI_1]
        exact ih (i + 1) _ (by omega) (by omega) (ex_upd (fun j y => y = nI (if M j = 99 then 5 else M j)) he (by rw [if_neg h5]))
    · obtain rfl : i = V := by omega
      exact br_t (nI_le (by omega) (by omega)) (hp e he)
theorem xw_fe {post : SX → Prop} {V C : Nat} (hV : V ≤ 8) (hC : C ≤ 12) (B : bd_ok V C a_ops a_dsts a_lefts a_rights) (h0 : ∀ j, j < V → a_degrees j = nI (mk_D a_ops a_dsts a_lefts a_rights C V j))
    (hp : ∀ m e, (∀ j, j < V → e j = nI (mk_E a_ops a_dsts a_lefts a_rights C V j)) → post (f_self, f_lost, nI V, f_room, f_bits, f_mask, nI C, f_exitRel, f_exitVar, f_exitBound, f_liveBits, f_shapeNow, f_formed, a_ops, a_dsts, a_lefts, a_rights, a_store, a_work, m, a_degrees, e, a_coef, a_stackStep, a_stackSize, a_stackLow)) : wpX_findEnds post (f_self, f_lost, nI V, f_room, f_bits, f_mask, nI C, f_exitRel, f_exitVar, f_exitBound, f_liveBits, f_shapeNow, f_formed, a_ops, a_dsts, a_lefts, a_rights, a_store, a_work, a_marks, a_degrees, a_ends, a_coef, a_stackStep, a_stackSize, a_stackLow) := by
  unfold wpX_findEnds
  dsimp only
  refine xw_sm hV (mk_rd5 V) h0 (fun m hm => ?_)
  dsimp only
  refine xw_pm hV hC B (fun j hj => mk_frok (mk_stfr (mk_rd5 V j hj))) hm (fun m2 h2 => ?_)
  dsimp only
  refine ⟨V + 1, xw_fe10 hV (fun j hj => ?_) h2 (fun e he => hp m2 e he) (V + 1) 0 a_ends (by omega) (by omega) (fun j h => absurd h (by omega))⟩
  exact mk_fr99 (mk_Mfr B hC hj)
theorem xw_il {post : Int32 → Prop} {V C L v : Nat} (hL : L < 256) (hv : v < 8) (ht : L.testBit v = true → post 1) (hf : L.testBit v = false → post 0) : wpX_isLive post (f_self, f_lost, nI V, f_room, f_bits, f_mask, nI C, f_exitRel, f_exitVar, f_exitBound, nI L, f_shapeNow, f_formed, a_ops, a_dsts, a_lefts, a_rights, a_store, a_work, a_marks, a_degrees, a_ends, a_coef, a_stackStep, a_stackSize, a_stackLow) (nI v) := by
  have h := lb_bit L hL v hv
  refine br_c (fun z => hf (h.mp z)) (fun z => ht ?_)
  cases e : L.testBit v
  · exact absurd (h.mpr e) z
  · rfl
/-- all live variables are solved -/
def sh_P (V L : Nat) (E : Nat → Nat) : Prop := ∀ v, v < V → L.testBit v = true → E v ≠ 5
theorem xw_cs29 {post : Int32 → Prop} {V C L : Nat} (hV : V ≤ 8) (hL : L < 256) {E : Nat → Nat} (hE : ∀ j, j < V → E j ≤ 5 ∧ a_ends j = nI (E j)) (h1 : sh_P V L E → post 1) (h2 : ¬ sh_P V L E → post 2) :
    ∀ n i, i ≤ V → V - i < n → (∀ j, j < i → L.testBit j = true → E j ≠ 5) → wX_chooseShape_29 post f_self f_lost (nI V) f_room f_bits f_mask (nI C) f_exitRel f_exitVar f_exitBound (nI L) f_shapeNow f_formed a_ops a_dsts a_lefts a_rights a_store a_work a_marks a_degrees a_ends a_coef a_stackStep a_stackSize a_stackLow n (nI i) := by
  intro n
  induction n with
  | zero => intro i _ h; omega
  | succ n ih =>
    intro i hi hn hj
    rcases Nat.lt_or_ge i V with h | h
    · have hx : (nI i).toNatClampNeg = i := nI_clamp (by omega)
      have hv : vp_in (nI i) 8 := vp_in_nI (by omega) (by omega)
      obtain ⟨d5, de⟩ := hE i h
      simp only [wX_chooseShape_29, hx, de]
      refine br_f (nI_ge h (by omega)) (xw_il hL (by omega) (fun t => ?_) (fun t => ?_))
      · refine br_f (by decide) ⟨hv, pk_eq (E i) 5 (fun h5 => h2 (fun p => p i h t h5)) (fun h5 => ?_)⟩
        refine nm_r (nI_1 i) (ih (i + 1) (by omega) (by omega) (fun j hj1 => ?_))
        rcases Nat.lt_or_ge j i with z | z
        · exact hj j z
        · obtain rfl : j = i := by omega
          exact fun _ => h5
      · refine br_t rfl (nm_r (nI_1 i) (ih (i + 1) (by omega) (by omega) (fun j hj1 => ?_)))
        rcases Nat.lt_or_ge j i with z | z
        · exact hj j z
        · obtain rfl : j = i := by omega
          intro t2
          rw [t] at t2
          exact absurd t2 (by decide)
    · obtain rfl : i = V := by omega
      exact br_t (nI_le (by omega) (by omega)) (h1 hj)
theorem xw_cs {post : Int32 → Prop} {V C L ev eb : Nat} (hV : V ≤ 8) (hL : L < 256) (hv : ev < V) (hb : eb < V) {D E : Nat → Nat} (hD : ∀ j, j < V → D j ≤ 5 ∧ a_degrees j = nI (D j)) (hE : ∀ j, j < V → E j ≤ 5 ∧ a_ends j = nI (E j))
    (h3 : ¬ (D ev ≤ 1 ∧ D eb = 0) → post 3) (h1 : D ev ≤ 1 ∧ D eb = 0 → sh_P V L E → post 1) (h2 : D ev ≤ 1 ∧ D eb = 0 → ¬ sh_P V L E → post 2) :
    wpX_chooseShape post (f_self, f_lost, nI V, f_room, f_bits, f_mask, nI C, f_exitRel, nI ev, nI eb, nI L, f_shapeNow, f_formed, a_ops, a_dsts, a_lefts, a_rights, a_store, a_work, a_marks, a_degrees, a_ends, a_coef, a_stackStep, a_stackSize, a_stackLow) := by
  have x1 : (nI ev).toNatClampNeg = ev := nI_clamp (by omega)
  have x2 : (nI eb).toNatClampNeg = eb := nI_clamp (by omega)
  obtain ⟨p1, q1⟩ := hD ev hv
  obtain ⟨p2, q2⟩ := hD eb hb
  unfold wpX_chooseShape
  dsimp only
  simp only [x1, x2, q1, q2]
  refine ⟨vp_in_nI (by omega) (by omega), pk_lt 1 (D ev) (fun h => h3 (by omega)) (fun h => ⟨vp_in_nI (by omega) (by omega), pk_eq (D eb) 0 (fun h0 => ?_) (fun h0 => h3 (by omega))⟩)⟩
  exact ⟨V + 1, xw_cs29 hV hL hE (h1 ⟨h, h0⟩) (h2 ⟨h, h0⟩) (V + 1) 0 (by omega) (by omega) (fun j h => absurd h (by omega))⟩
end
end
section
/-! Y: marks, degrees, ends -/
theorem mk_selfY : ∀ c, c < 15 → 9 ≤ c → (((3 : Int32) < nI c - 10) ↔ 13 < c) ∧ (nI c - 10 + 1 = nI (c - 9)) := by decide +kernel
section
variable {f_vars f_room f_bits f_count f_exitRel f_exitVar f_exitBound f_shapeNow : Int32} {a_ops a_dsts a_lefts a_rights a_store a_isLive a_head a_deg a_markKind a_markDeg : Nat → Int32}
variable {J : Int32 → (Nat → Int32) → (Nat → Int32) → (Nat → Int32) → (Nat → Int32) → (Nat → Int32) → (Nat → Int32) → (Nat → Int32) → (Nat → Int32) → (Nat → Int32) → (Nat → Int32) → Prop}
theorem yw_gt {post : Int32 → Prop} {V C : Nat} {p : Int32} (hV : V ≤ 8) (h : vp_in p V) (hp : post 1) : wpY_good post (nI V, f_room, f_bits, nI C, f_exitRel, f_exitVar, f_exitBound, f_shapeNow, a_ops, a_dsts, a_lefts, a_rights, a_store, a_isLive, a_head, a_deg, a_markKind, a_markDeg) p := by
  obtain ⟨j, hj, rfl⟩ := vp_in_of h (by omega)
  exact br_f (nI_pos (by omega)) (br_f (nI_ge hj (by omega)) hp)
theorem yw_gf {post : Int32 → Prop} {V C : Nat} {p : Int32} (hV : V ≤ 8) (h : ¬ vp_in p V) (hp : post 0) : wpY_good post (nI V, f_room, f_bits, nI C, f_exitRel, f_exitVar, f_exitBound, f_shapeNow, a_ops, a_dsts, a_lefts, a_rights, a_store, a_isLive, a_head, a_deg, a_markKind, a_markDeg) p := by
  refine br_c (fun _ => hp) (fun h0 => br_c (fun _ => hp) (fun h1 => absurd ?_ h))
  obtain ⟨j, hj, rfl⟩ := nI_of h0
  rcases Nat.lt_or_ge j V with z | z
  · exact vp_in_nI z (by omega)
  · exact absurd (nI_le z hj) h1
theorem yw_208 {post : SY → Prop} {V C i : Nat} (hV : V ≤ 8) (hi : i < 12) (hd : vp_in (a_dsts i) V) {k d : Int32}
    (hp : J (nI (i + 1)) a_ops a_dsts a_lefts a_rights a_store a_isLive a_head a_deg (upd a_markKind (a_dsts i).toNatClampNeg k) (upd a_markDeg (a_dsts i).toNatClampNeg d)) : wY_passMarks_208 post J (nI i) k d (nI V) f_room f_bits (nI C) f_exitRel f_exitVar f_exitBound f_shapeNow a_ops a_dsts a_lefts a_rights a_store a_isLive a_head a_deg a_markKind a_markDeg := by
  have hx : (nI i).toNatClampNeg = i := nI_clamp (by omega)
  have hv : vp_in (nI i) 12 := vp_in_nI (by omega) (by omega)
  simp only [wY_passMarks_208, hx]
  refine ⟨hv, bd_in hd hV, ?_⟩
  intro m1 e1
  refine ⟨hv, bd_in hd hV, ?_⟩
  intro m2 e2 x' ex
  subst e1 e2 ex
  rw [nI_1]
  exact hp
theorem yw_82 {post : SY → Prop} {V C i : Nat} (hV : V ≤ 8) (hi : i < 12) (hd : vp_in (a_dsts i) V) {op ka da kb db z : Int32} (hz : z = if da ≤ db then db else da)
    (hp : J (nI (i + 1)) a_ops a_dsts a_lefts a_rights a_store a_isLive a_head a_deg (upd a_markKind (a_dsts i).toNatClampNeg (mk_yk op ka da kb db)) (upd a_markDeg (a_dsts i).toNatClampNeg (mk_yd op ka da kb db))) : wY_passMarks_82 post J (nI i) op ka da kb db z (nI V) f_room f_bits (nI C) f_exitRel f_exitVar f_exitBound f_shapeNow a_ops a_dsts a_lefts a_rights a_store a_isLive a_head a_deg a_markKind a_markDeg := by
  unfold mk_yk mk_yd at hp
  rw [← hz] at hp
  refine br_c (fun h1 => ?_) (fun h1 => ?_)
  · simp only [if_pos h1] at hp; exact yw_208 hV hi hd hp
  simp only [if_neg h1] at hp
  refine br_c (fun h4 => ?_) (fun h4 => ?_)
  · simp only [if_pos h4] at hp
    refine br_c (fun h => ?_) (fun h => ?_)
    · simp only [if_pos h] at hp
      refine br_c (fun h => ?_) (fun h => ?_)
      · simp only [if_pos h] at hp
        refine br_c (fun h => ?_) (fun h => ?_)
        · simp only [if_pos h] at hp; exact yw_208 hV hi hd hp
        · simp only [if_neg h] at hp; exact nm_e (yw_208 hV hi hd hp)
      · simp only [if_neg h] at hp; exact yw_208 hV hi hd hp
    · simp only [if_neg h] at hp; exact yw_208 hV hi hd hp
  simp only [if_neg h4] at hp
  by_cases ha : ka = 1
  · by_cases hb : kb = 1
    · simp only [if_pos (And.intro ha hb)] at hp
      exact br_t ha (br_t hb (yw_208 hV hi hd hp))
    · have n1 : ¬ (ka = 1 ∧ kb = 1) := fun z => hb z.2
      have n2 : ¬ (ka = 2 ∧ kb = 1) := fun z => hb z.2
      have n3 : ¬ ka = 2 := by rw [ha]; decide
      simp only [if_neg n1, if_neg n2] at hp
      refine br_t ha (br_f hb (br_f n3 ?_))
      by_cases h2 : op = 2
      · by_cases hk : kb = 2
        · simp only [if_pos (And.intro h2 (And.intro ha hk))] at hp
          exact br_t h2 (br_t ha (br_t hk (yw_208 hV hi hd hp)))
        · have n4 : ¬ (op = 2 ∧ ka = 1 ∧ kb = 2) := fun z => hk z.2.2
          simp only [if_neg n4] at hp
          exact br_t h2 (br_t ha (br_f hk (yw_208 hV hi hd hp)))
      · have n4 : ¬ (op = 2 ∧ ka = 1 ∧ kb = 2) := fun z => h2 z.1
        simp only [if_neg n4] at hp
        exact br_f h2 (yw_208 hV hi hd hp)
  · have n1 : ¬ (ka = 1 ∧ kb = 1) := fun z => ha z.1
    have n4 : ¬ (op = 2 ∧ ka = 1 ∧ kb = 2) := fun z => ha z.2.1
    simp only [if_neg n1, if_neg n4] at hp
    refine br_f ha ?_
    have W : J (nI (i + 1)) a_ops a_dsts a_lefts a_rights a_store a_isLive a_head a_deg (upd a_markKind (a_dsts i).toNatClampNeg 0) (upd a_markDeg (a_dsts i).toNatClampNeg 0) → wY_passMarks_185 post J (nI i) op ka kb z 0 0 (nI V) f_room f_bits (nI C) f_exitRel f_exitVar f_exitBound f_shapeNow a_ops a_dsts a_lefts a_rights a_store a_isLive a_head a_deg a_markKind a_markDeg := by
      intro hp
      exact br_c (fun _ => br_f ha (yw_208 hV hi hd hp)) (fun _ => yw_208 hV hi hd hp)
    by_cases h2 : ka = 2
    · by_cases hb : kb = 1
      · simp only [if_pos (And.intro h2 hb)] at hp
        exact br_t h2 (br_t hb (yw_208 hV hi hd hp))
      · have n2 : ¬ (ka = 2 ∧ kb = 1) := fun z => hb z.2
        simp only [if_neg n2] at hp
        exact br_t h2 (br_f hb (W hp))
    · have n2 : ¬ (ka = 2 ∧ kb = 1) := fun z => h2 z.1
      simp only [if_neg n2] at hp
      exact br_f h2 (W hp)
/-- the reference's marks are these codes -/
def yk_ (V : Nat) (K G : Nat → Int32) (M : Nat → Nat) : Prop := ∀ j, j < V → K j = mk_k (M j) ∧ G j = mk_d (M j)
theorem yk_u {V x c : Nat} {K G : Nat → Int32} {M : Nat → Nat} (h : yk_ V K G M) : yk_ V (upd K x (mk_k c)) (upd G x (mk_d c)) (mk_u M x c) := by
  intro j hj
  unfold upd mk_u
  split
  · exact ⟨rfl, rfl⟩
  · exact h j hj
theorem yw_pm2 {post : SY → Prop} {V C : Nat} (hV : V ≤ 8) (hC : C ≤ 12) (B : bd_ok V C a_ops a_dsts a_lefts a_rights) {M : Nat → Nat} (hM : ∀ j, j < V → mk_ok (M j))
    (hp : ∀ K G, yk_ V K G (mk_f a_ops a_dsts a_lefts a_rights C M) → post (nI V, f_room, f_bits, nI C, f_exitRel, f_exitVar, f_exitBound, f_shapeNow, a_ops, a_dsts, a_lefts, a_rights, a_store, a_isLive, a_head, a_deg, K, G)) :
    ∀ n i K G, i ≤ C → C - i < n → yk_ V K G (mk_f a_ops a_dsts a_lefts a_rights i M) → wY_passMarks_2 post (nI V) f_room f_bits (nI C) f_exitRel f_exitVar f_exitBound f_shapeNow n (nI i) a_ops a_dsts a_lefts a_rights a_store a_isLive a_head a_deg K G := by
  intro n
  induction n with
  | zero => intro i K G _ h; omega
  | succ n ih =>
    intro i K G hi hn hm
    rcases Nat.lt_or_ge i C with h | h
    · have hx : (nI i).toNatClampNeg = i := nI_clamp (by omega)
      have hv : vp_in (nI i) 12 := vp_in_nI (by omega) (by omega)
      obtain ⟨⟨q, q1, q4, qe⟩, b2, b3, b4⟩ := B i h
      have ok := mk_fok B hM i hi
      have n3 := hm _ (bd_lt b3)
      have n4 := hm _ (bd_lt b4)
      simp only [wY_passMarks_2, hx]
      refine br_f (nI_ge h (by omega)) ⟨hv, ?_⟩
      intro y1 e1
      refine ⟨hv, bd_in b3 hV, ?_⟩
      intro y2 e2
      refine ⟨hv, bd_in b3 hV, ?_⟩
      intro y3 e3
      refine ⟨hv, bd_in b4 hV, ?_⟩
      intro y4 e4
      refine ⟨hv, bd_in b4 hV, ?_⟩
      intro y5 e5
      have key : wY_passMarks_2 post (nI V) f_room f_bits (nI C) f_exitRel f_exitVar f_exitBound f_shapeNow n (nI (i + 1)) a_ops a_dsts a_lefts a_rights a_store a_isLive a_head a_deg (upd K (a_dsts i).toNatClampNeg (mk_yk y1 y2 y3 y4 y5)) (upd G (a_dsts i).toNatClampNeg (mk_yd y1 y2 y3 y4 y5)) := by
        rw [e1, e2, e3, e4, e5, n3.1, n3.2, n4.1, n4.2, qe, mk_ykn q1 q4 (ok _ (bd_lt b3)) (ok _ (bd_lt b4)), mk_ydn q1 q4 (ok _ (bd_lt b3)) (ok _ (bd_lt b4))]
        refine ih (i + 1) _ _ (by omega) (by omega) ?_
        have e : mk_f a_ops a_dsts a_lefts a_rights (i + 1) M = mk_u (mk_f a_ops a_dsts a_lefts a_rights i M) (a_dsts i).toNatClampNeg (mk_n q (mk_f a_ops a_dsts a_lefts a_rights i M (a_lefts i).toNatClampNeg) (mk_f a_ops a_dsts a_lefts a_rights i M (a_rights i).toNatClampNeg)) := by
          show mk_u _ _ (mk_n (a_ops i).toNatClampNeg _ _) = _
          rw [qe, nI_clamp (by omega)]
        rw [e]
        exact yk_u hm
      refine br_c (fun hle => yw_82 hV (by omega) b2 (by rw [if_pos hle]) key) (fun hle => yw_82 hV (by omega) b2 (by rw [if_neg hle]) key)
    · obtain rfl : i = C := by omega
      exact br_t (nI_le (by omega) (by omega)) (hp K G hm)
theorem yw_pm {post : SY → Prop} {V C : Nat} (hV : V ≤ 8) (hC : C ≤ 12) (B : bd_ok V C a_ops a_dsts a_lefts a_rights) {M : Nat → Nat} (hM : ∀ j, j < V → mk_ok (M j)) (h0 : yk_ V a_markKind a_markDeg M)
    (hp : ∀ K G, yk_ V K G (mk_f a_ops a_dsts a_lefts a_rights C M) → post (nI V, f_room, f_bits, nI C, f_exitRel, f_exitVar, f_exitBound, f_shapeNow, a_ops, a_dsts, a_lefts, a_rights, a_store, a_isLive, a_head, a_deg, K, G)) : wpY_passMarks post (nI V, f_room, f_bits, nI C, f_exitRel, f_exitVar, f_exitBound, f_shapeNow, a_ops, a_dsts, a_lefts, a_rights, a_store, a_isLive, a_head, a_deg, a_markKind, a_markDeg) :=
  ⟨C + 1, yw_pm2 hV hC B hM hp (C + 1) 0 a_markKind a_markDeg (by omega) (by omega) h0⟩
theorem yk_s {i c : Nat} {K G : Nat → Int32} {M : Nat → Nat} {x y : Int32} (h : yk_ i K G M) (e : M i = c) (ex : x = mk_k c) (ey : y = mk_d c) : yk_ (i + 1) (upd K i x) (upd G i y) M := by
  intro j hj
  unfold upd
  split
  · rename_i z; rw [z, e]; exact ⟨ex, ey⟩
  · exact h j (by omega)
theorem yw_fm30 {post : SY → Prop} {V C i : Nat} (hi : i < 8) {z : Int32} {K G : Nat → Int32} {q : Int32} (hq : a_deg i = q)
    (h5 : q = 5 → J (nI (i + 1)) a_ops a_dsts a_lefts a_rights a_store a_isLive a_head a_deg (upd K i z) (upd G i 0)) (hn : ¬ q = 5 → J (nI (i + 1)) a_ops a_dsts a_lefts a_rights a_store a_isLive a_head a_deg (upd K i z) (upd G i q)) : wY_firstMarks_30 post J (nI i) z (nI i) (nI V) f_room f_bits (nI C) f_exitRel f_exitVar f_exitBound f_shapeNow a_ops a_dsts a_lefts a_rights a_store a_isLive a_head a_deg K G := by
  have hx : (nI i).toNatClampNeg = i := nI_clamp (by omega)
  have hv : vp_in (nI i) 8 := vp_in_nI (by omega) (by omega)
  simp only [wY_firstMarks_30, hx, hq]
  refine ⟨hv, ?_⟩
  intro K' eK
  subst eK
  refine ⟨hv, br_c (fun h => ⟨hv, ?_⟩) (fun h => ⟨hv, hv, ?_⟩)⟩
  · intro G' eG x' ex
    subst eG ex
    rw [nI_1]; exact h5 h
  · intro G' eG x' ex
    subst eG ex
    rw [nI_1]; exact hn h
theorem yw_fm2 {post : SY → Prop} {V C : Nat} (hV : V ≤ 8) {D : Nat → Nat} (hD : ∀ j, j < V → D j ≤ 5) (hE : ∀ j, j < V → a_deg j = nI (D j))
    (hp : ∀ K G, yk_ V K G (mk_st D) → post (nI V, f_room, f_bits, nI C, f_exitRel, f_exitVar, f_exitBound, f_shapeNow, a_ops, a_dsts, a_lefts, a_rights, a_store, a_isLive, a_head, a_deg, K, G)) :
    ∀ n i K G, i ≤ V → V - i < n → yk_ i K G (mk_st D) → wY_firstMarks_2 post (nI V) f_room f_bits (nI C) f_exitRel f_exitVar f_exitBound f_shapeNow n (nI i) a_ops a_dsts a_lefts a_rights a_store a_isLive a_head a_deg K G := by
  intro n
  induction n with
  | zero => intro i K G _ h; omega
  | succ n ih =>
    intro i K G hi hn hm
    rcases Nat.lt_or_ge i V with h | h
    · have hx : (nI i).toNatClampNeg = i := nI_clamp (by omega)
      have hv : vp_in (nI i) 8 := vp_in_nI (by omega) (by omega)
      have d5 := hD i h
      simp only [wY_firstMarks_2, hx, hE i h]
      have n5 : D i = 5 → nI (D i) = 5 := fun h5 => by rw [h5]; rfl
      have m5 : nI (D i) = 5 → D i = 5 := fun h5 => (nI_eq (b := 5) (by omega) (by omega)).mp h5
      refine br_f (nI_ge h (by omega)) ⟨hv, pk_eq (D i) 5 (fun h5 => ?_) (fun h5 => ?_)⟩
      · refine yw_fm30 (by omega) (hE i h) (fun _ => ?_) (fun z => absurd (n5 h5) z)
        exact ih (i + 1) _ _ (by omega) (by omega) (yk_s hm (if_pos h5) rfl rfl)
      · refine yw_fm30 (by omega) (hE i h) (fun z => absurd (m5 z) h5) (fun _ => ?_)
        refine ih (i + 1) _ _ (by omega) (by omega) (yk_s hm (if_neg h5) ?_ ?_)
        · unfold mk_k; rw [if_neg (by omega), if_pos (by omega)]
        · unfold mk_d; rw [if_neg (by omega), if_pos (by omega)]
    · obtain rfl : i = V := by omega
      exact br_t (nI_le (by omega) (by omega)) (hp K G hm)
theorem yw_fm {post : SY → Prop} {V C : Nat} (hV : V ≤ 8) {D : Nat → Nat} (hD : ∀ j, j < V → D j ≤ 5) (hE : ∀ j, j < V → a_deg j = nI (D j))
    (hp : ∀ K G, yk_ V K G (mk_st D) → post (nI V, f_room, f_bits, nI C, f_exitRel, f_exitVar, f_exitBound, f_shapeNow, a_ops, a_dsts, a_lefts, a_rights, a_store, a_isLive, a_head, a_deg, K, G)) : wpY_firstMarks post (nI V, f_room, f_bits, nI C, f_exitRel, f_exitVar, f_exitBound, f_shapeNow, a_ops, a_dsts, a_lefts, a_rights, a_store, a_isLive, a_head, a_deg, a_markKind, a_markDeg) :=
  ⟨V + 1, yw_fm2 hV hD hE hp (V + 1) 0 a_markKind a_markDeg (by omega) (by omega) (fun j h => absurd h (by omega))⟩
theorem yw_tr {post : Int32 → SY → Prop} {V C x : Nat} (hV : V ≤ 8) (hC : C ≤ 12) (hx : x < V) (B : bd_ok V C a_ops a_dsts a_lefts a_rights) {D : Nat → Nat} (hD : ∀ j, j < V → D j ≤ 5) (hE : ∀ j, j < V → a_deg j = nI (D j))
    (hp : ∀ K G, post (nI (mk_tr a_ops a_dsts a_lefts a_rights C D x)) (nI V, f_room, f_bits, nI C, f_exitRel, f_exitVar, f_exitBound, f_shapeNow, a_ops, a_dsts, a_lefts, a_rights, a_store, a_isLive, a_head, a_deg, K, G)) : wpY_trial post (nI V, f_room, f_bits, nI C, f_exitRel, f_exitVar, f_exitBound, f_shapeNow, a_ops, a_dsts, a_lefts, a_rights, a_store, a_isLive, a_head, a_deg, a_markKind, a_markDeg) (nI x) := by
  have hv : vp_in (nI x) 8 := vp_in_nI (by omega) (by omega)
  have ex : (nI x).toNatClampNeg = x := nI_clamp (by omega)
  unfold wpY_trial
  dsimp only
  refine yw_fm hV hD hE (fun K G hm => ?_)
  dsimp only
  refine ⟨hv, ?_⟩
  intro K1 e1
  refine ⟨hv, ?_⟩
  intro G1 e2
  rw [ex] at e1 e2
  have e9 : upd K x 2 = upd K x (mk_k 9) := rfl
  have f9 : upd G x (-1) = upd G x (mk_d 9) := congrArg (upd G x) (by decide)
  rw [e9] at e1
  rw [f9] at e2
  subst e1 e2
  refine yw_pm hV hC B (mk_stok hD x) (yk_u hm) (fun K2 G2 h2 => ?_)
  have h3 := h2 x hx
  simp only [ex, h3.1, h3.2]
  have ok := mk_fok B (mk_stok hD x) C (Nat.le_refl C) x hx
  have hp2 := hp K2 G2
  unfold mk_tr at hp2
  unfold mk_ok at ok
  generalize mk_f a_ops a_dsts a_lefts a_rights C (mk_u (mk_st D) x 9) x = c at *
  refine ⟨hv, ?_⟩
  rcases ok with a | a | a
  · have ek : mk_k c = 1 := by unfold mk_k; rw [if_neg (by omega), if_pos (by omega)]
    rw [if_pos (by omega)] at hp2
    rw [ek]
    exact br_f (by decide) hp2
  · have ek : mk_k c = 2 := by unfold mk_k; rw [if_neg (by omega), if_neg (by omega)]
    have ed : mk_d c = nI c - 10 := by unfold mk_d; rw [if_neg (by omega), if_neg (by omega)]
    obtain ⟨s1, s2⟩ := mk_selfY c (by omega) a.1
    rw [if_neg (by omega)] at hp2
    rw [ek, ed]
    refine br_t rfl ⟨hv, br_c (fun h => ?_) (fun h => ⟨hv, ?_⟩)⟩
    · rw [if_pos (s1.mp h)] at hp2; exact hp2
    · rw [if_neg (fun z => h (s1.mpr z))] at hp2
      rw [s2]; exact hp2
  · have ek : mk_k c = 0 := by unfold mk_k; rw [if_pos a]
    rw [if_neg (by omega), if_pos (by omega)] at hp2
    rw [ek]
    exact br_f (by decide) hp2
end
end
section
/-! Y: degrees, ends, fold -/
section
variable {f_vars f_room f_bits f_count f_exitRel f_exitVar f_exitBound f_shapeNow : Int32} {a_ops a_dsts a_lefts a_rights a_store a_isLive a_head a_deg a_markKind a_markDeg : Nat → Int32}
theorem yw_fd35 {post : SY → Prop} {J : Int32 → Int32 → Int32 → Int32 → Int32 → Int32 → Int32 → Int32 → Int32 → (Nat → Int32) → (Nat → Int32) → (Nat → Int32) → (Nat → Int32) → (Nat → Int32) → (Nat → Int32) → (Nat → Int32) → (Nat → Int32) → (Nat → Int32) → (Nat → Int32) → Prop} {k : Int32} {V C : Nat} (hV : V ≤ 8) (hC : C ≤ 12) (B : bd_ok V C a_ops a_dsts a_lefts a_rights) {D : Nat → Nat} (hD : ∀ j, j < V → D j ≤ 5)
    (hp : ∀ K G e, (∀ j, j < V → e j = nI (mk_in a_ops a_dsts a_lefts a_rights C V D j)) → J (k + 1) (nI V) f_room f_bits (nI C) f_exitRel f_exitVar f_exitBound f_shapeNow a_ops a_dsts a_lefts a_rights a_store a_isLive a_head e K G) :
    ∀ n i K G e, i ≤ V → V - i < n → (∀ j, j < V → e j = nI (mk_in a_ops a_dsts a_lefts a_rights C i D j)) → wY_findDegrees_35 post J k n (nI i) (nI V) f_room f_bits (nI C) f_exitRel f_exitVar f_exitBound f_shapeNow a_ops a_dsts a_lefts a_rights a_store a_isLive a_head e K G := by
  intro n
  induction n with
  | zero => intro i K G e _ h; omega
  | succ n ih =>
    intro i K G e hi hn he
    rcases Nat.lt_or_ge i V with h | h
    · have hx : (nI i).toNatClampNeg = i := nI_clamp (by omega)
      have hv : vp_in (nI i) 8 := vp_in_nI (by omega) (by omega)
      have i5 := mk_in5 (o := a_ops) (d := a_dsts) (l := a_lefts) (r := a_rights) (C := C) hD i
      have d5 := i5 i h
      simp only [wY_findDegrees_35, hx, he i h]
      refine br_f (nI_ge h (by omega)) ⟨hv, pk_eq (mk_in a_ops a_dsts a_lefts a_rights C i D i) 5 (fun h5 => ?_) (fun h5 => ?_)⟩
      · refine yw_tr hV hC h B i5 he (fun K' G' => ?_)
        dsimp only
        refine ⟨hv, ?_⟩
        intro e' ee x' ex
        subst ee ex
        rw [nI_1]
        refine ih (i + 1) _ _ _ (by omega) (by omega) ?_
        have q : mk_in a_ops a_dsts a_lefts a_rights C (i + 1) D = mk_u (mk_in a_ops a_dsts a_lefts a_rights C i D) i (mk_tr a_ops a_dsts a_lefts a_rights C (mk_in a_ops a_dsts a_lefts a_rights C i D) i) := if_pos h5
        rw [q]
        exact ex_mk he
      · intro x' ex
        subst ex
        rw [nI_1]
        refine ih (i + 1) _ _ _ (by omega) (by omega) ?_
        have q : mk_in a_ops a_dsts a_lefts a_rights C (i + 1) D = mk_in a_ops a_dsts a_lefts a_rights C i D := if_neg h5
        rw [q]
        exact he
    · obtain rfl : i = V := by omega
      exact br_t (nI_le (by omega) (by omega)) (nm_e (hp K G e he))
theorem yw_fd25 {post : SY → Prop} {V C : Nat} (hV : V ≤ 8) (hC : C ≤ 12) (B : bd_ok V C a_ops a_dsts a_lefts a_rights)
    (hp : ∀ K G e, (∀ j, j < V → e j = nI (mk_D a_ops a_dsts a_lefts a_rights C V j)) → post (nI V, f_room, f_bits, nI C, f_exitRel, f_exitVar, f_exitBound, f_shapeNow, a_ops, a_dsts, a_lefts, a_rights, a_store, a_isLive, a_head, e, K, G)) :
    ∀ n i K G e, i ≤ V → V - i < n → (∀ j, j < V → e j = nI (mk_rd a_ops a_dsts a_lefts a_rights C V i j)) → wY_findDegrees_25 post n (nI i) (nI V) f_room f_bits (nI C) f_exitRel f_exitVar f_exitBound f_shapeNow a_ops a_dsts a_lefts a_rights a_store a_isLive a_head e K G := by
  intro n
  induction n with
  | zero => intro i K G e _ h; omega
  | succ n ih =>
    intro i K G e hi hn he
    rcases Nat.lt_or_ge i V with h | h
    · refine br_f (nI_ge h (by omega)) ⟨V + 1, ?_⟩
      refine yw_fd35 hV hC B (mk_rd5 i) (fun K' G' e' he' => ?_) (V + 1) 0 K G e (by omega) (by omega) he
      rw [nI_1]
      exact ih (i + 1) K' G' e' (by omega) (by omega) he'
    · obtain rfl : i = V := by omega
      exact br_t (nI_le (by omega) (by omega)) (hp K G e he)
theorem yw_fd2 {post : SY → Prop} {V C : Nat} (hV : V ≤ 8) (hC : C ≤ 12) (B : bd_ok V C a_ops a_dsts a_lefts a_rights)
    (hp : ∀ K G e, (∀ j, j < V → e j = nI (mk_D a_ops a_dsts a_lefts a_rights C V j)) → post (nI V, f_room, f_bits, nI C, f_exitRel, f_exitVar, f_exitBound, f_shapeNow, a_ops, a_dsts, a_lefts, a_rights, a_store, a_isLive, a_head, e, K, G)) :
    ∀ n i e, i ≤ V → V - i < n → (∀ j, j < i → e j = nI 5) → wY_findDegrees_2 post (nI V) f_room f_bits (nI C) f_exitRel f_exitVar f_exitBound f_shapeNow n (nI i) a_ops a_dsts a_lefts a_rights a_store a_isLive a_head e a_markKind a_markDeg := by
  intro n
  induction n with
  | zero => intro i e _ h; omega
  | succ n ih =>
    intro i e hi hn he
    rcases Nat.lt_or_ge i V with h | h
    · have hx : (nI i).toNatClampNeg = i := nI_clamp (by omega)
      have hv : vp_in (nI i) 8 := vp_in_nI (by omega) (by omega)
      simp only [wY_findDegrees_2, hx]
      refine br_f (nI_ge h (by omega)) ⟨hv, ?_⟩
      intro e' ee x' ex
      subst ee ex
      rw [nI_1]
      exact ih (i + 1) _ (by omega) (by omega) (ex_upd (fun _ y => y = nI 5) he rfl)
    · obtain rfl : i = V := by omega
      exact br_t (nI_le (by omega) (by omega)) ⟨i + 1, yw_fd25 hV hC B hp (i + 1) 0 a_markKind a_markDeg e (by omega) (by omega) he⟩
theorem yw_fd {post : SY → Prop} {V C : Nat} (hV : V ≤ 8) (hC : C ≤ 12) (B : bd_ok V C a_ops a_dsts a_lefts a_rights)
    (hp : ∀ K G e, (∀ j, j < V → e j = nI (mk_D a_ops a_dsts a_lefts a_rights C V j)) → post (nI V, f_room, f_bits, nI C, f_exitRel, f_exitVar, f_exitBound, f_shapeNow, a_ops, a_dsts, a_lefts, a_rights, a_store, a_isLive, a_head, e, K, G)) : wpY_findDegrees post (nI V, f_room, f_bits, nI C, f_exitRel, f_exitVar, f_exitBound, f_shapeNow, a_ops, a_dsts, a_lefts, a_rights, a_store, a_isLive, a_head, a_deg, a_markKind, a_markDeg) :=
  ⟨V + 1, yw_fd2 hV hC B hp (V + 1) 0 a_deg (by omega) (by omega) (fun j h => absurd h (by omega))⟩
theorem yw_fe {post : Int32 → SY → Prop} {V C v : Nat} (hV : V ≤ 8) (hC : C ≤ 12) (hv : v < V) (B : bd_ok V C a_ops a_dsts a_lefts a_rights)
    (hp : ∀ K G e, post (nI (mk_E a_ops a_dsts a_lefts a_rights C V v)) (nI V, f_room, f_bits, nI C, f_exitRel, f_exitVar, f_exitBound, f_shapeNow, a_ops, a_dsts, a_lefts, a_rights, a_store, a_isLive, a_head, e, K, G)) : wpY_findEndDegree post (nI V, f_room, f_bits, nI C, f_exitRel, f_exitVar, f_exitBound, f_shapeNow, a_ops, a_dsts, a_lefts, a_rights, a_store, a_isLive, a_head, a_deg, a_markKind, a_markDeg) (nI v) := by
  have hw : vp_in (nI v) 8 := vp_in_nI (by omega) (by omega)
  have ex : (nI v).toNatClampNeg = v := nI_clamp (by omega)
  unfold wpY_findEndDegree
  dsimp only
  refine yw_fd hV hC B (fun K0 G0 e he => ?_)
  dsimp only
  refine yw_fm hV (mk_rd5 V) he (fun K G hm => ?_)
  dsimp only
  refine yw_pm hV hC B (fun j hj => mk_frok (mk_stfr (mk_rd5 V j hj))) hm (fun K2 G2 h2 => ?_)
  have h3 : K2 v = mk_k (mk_M a_ops a_dsts a_lefts a_rights C V v) ∧ G2 v = mk_d (mk_M a_ops a_dsts a_lefts a_rights C V v) := h2 v hv
  have F := mk_Mfr B hC hv
  have hp2 := hp K2 G2 e
  simp only [ex, h3.1, h3.2]
  unfold mk_E at hp2
  unfold mk_fr at F
  generalize mk_M a_ops a_dsts a_lefts a_rights C V v = c at *
  refine ⟨hw, ?_⟩
  rcases F with a | a
  · have ek : mk_k c = 1 := by unfold mk_k; rw [if_neg (by omega), if_pos (by omega)]
    have ed : mk_d c = nI c := by unfold mk_d; rw [if_neg (by omega), if_pos (by omega)]
    rw [if_neg (by omega)] at hp2
    rw [ek, ed]
    exact br_t rfl ⟨hw, hp2⟩
  · have ek : mk_k c = 0 := by unfold mk_k; rw [if_pos a]
    rw [if_pos a] at hp2
    rw [ek]
    exact br_f (by decide) hp2
/-- the reference's live flags -/
def lv_ok (V L : Nat) (F : Nat → Int32) : Prop := ∀ j, j < V → F j = if L.testBit j = true then 1 else 0
theorem yw_lv {V L : Nat} {F : Nat → Int32} (h : lv_ok V L F) {A B : Prop} {j : Nat} (hj : j < V) (ht : L.testBit j = true → B) (hf : L.testBit j = false → A) : (F j = 0 → A) ∧ (¬ F j = 0 → B) := by
  rw [h j hj]
  cases e : L.testBit j
  · exact br_t rfl (hf e)
  · exact br_f (by decide) (ht e)
theorem mk_E5 {V C : Nat} {o d l r : Nat → Int32} (B : bd_ok V C o d l r) (hC : C ≤ 12) {j : Nat} (hj : j < V) : mk_E o d l r C V j ≤ 5 := by
  have F := mk_Mfr B hC hj
  unfold mk_E
  unfold mk_fr at F
  split <;> omega
theorem yw_fo73 {post : Int32 → SY → Prop} {V C L : Nat} (hV : V ≤ 8) (hC : C ≤ 12) (B : bd_ok V C a_ops a_dsts a_lefts a_rights) (hL : lv_ok V L a_isLive) {x1 : Int32}
    (h3 : x1 = 0 → ∀ K G e, post 3 (nI V, f_room, f_bits, nI C, f_exitRel, f_exitVar, f_exitBound, 3, a_ops, a_dsts, a_lefts, a_rights, a_store, a_isLive, a_head, e, K, G))
    (h1 : ¬ x1 = 0 → sh_P V L (mk_E a_ops a_dsts a_lefts a_rights C V) → ∀ K G e, post 1 (nI V, f_room, f_bits, nI C, f_exitRel, f_exitVar, f_exitBound, 1, a_ops, a_dsts, a_lefts, a_rights, a_store, a_isLive, a_head, e, K, G))
    (h2 : ¬ x1 = 0 → ¬ sh_P V L (mk_E a_ops a_dsts a_lefts a_rights C V) → ∀ K G e, post 2 (nI V, f_room, f_bits, nI C, f_exitRel, f_exitVar, f_exitBound, 2, a_ops, a_dsts, a_lefts, a_rights, a_store, a_isLive, a_head, e, K, G)) :
    ∀ n i fl K G e, i ≤ V → V - i < n → ((fl = (1 : Int32) ∧ ∀ j, j < i → L.testBit j = true → mk_E a_ops a_dsts a_lefts a_rights C V j ≠ 5) ∨ (fl = 0 ∧ ¬ sh_P V L (mk_E a_ops a_dsts a_lefts a_rights C V))) →
      wY_fold_73 post x1 n fl (nI i) (nI V) f_room f_bits (nI C) f_exitRel f_exitVar f_exitBound f_shapeNow a_ops a_dsts a_lefts a_rights a_store a_isLive a_head e K G := by
  intro n
  induction n with
  | zero => intro i fl K G e _ h; omega
  | succ n ih =>
    intro i fl K G e hi hn hf
    rcases Nat.lt_or_ge i V with h | h
    · have hx : (nI i).toNatClampNeg = i := nI_clamp (by omega)
      have hv : vp_in (nI i) 8 := vp_in_nI (by omega) (by omega)
      have e5 := mk_E5 B hC h
      have ext : ∀ P : Nat → Prop, (∀ j, j < i → P j) → P i → ∀ j, j < i + 1 → P j := by
        intro P p q j hj
        rcases Nat.lt_or_ge j i with z | z
        · exact p j z
        · obtain rfl : j = i := by omega
          exact q
      simp only [wY_fold_73, hx]
      refine br_f (nI_ge h (by omega)) ⟨hv, yw_lv hL h (fun t => ?_) (fun t => ?_)⟩
      · refine yw_fe hV hC h B (fun K' G' e' => ?_)
        dsimp only
        refine pk_eq (mk_E a_ops a_dsts a_lefts a_rights C V i) 5 (fun h5 => ?_) (fun h5 => ?_)
        · refine nm_r (nI_1 i) (ih (i + 1) 0 K' G' e' (by omega) (by omega) (Or.inr ⟨rfl, fun p => p i h t h5⟩))
        · refine nm_r (nI_1 i) (ih (i + 1) fl K' G' e' (by omega) (by omega) ?_)
          rcases hf with ⟨a, b⟩ | a
          · exact Or.inl ⟨a, ext _ b (fun _ => h5)⟩
          · exact Or.inr a
      · refine nm_r (nI_1 i) (ih (i + 1) fl K G e (by omega) (by omega) ?_)
        rcases hf with ⟨a, b⟩ | a
        · exact Or.inl ⟨a, ext _ b (fun t2 => absurd (t.symm.trans t2) (by decide))⟩
        · exact Or.inr a
    · obtain rfl : i = V := by omega
      refine br_t (nI_le (by omega) (by omega)) (br_c (fun z => h3 z K G e) (fun z => ?_))
      rcases hf with ⟨a, b⟩ | ⟨a, b⟩
      · exact br_f (by rw [a]; decide) (h1 z b K G e)
      · exact br_t a (h2 z b K G e)
end
end
section
/-! stepping: X's loadWork, pass, holds, searchExit, takeStepped; Y's startHead, nextHead, exitHolds, firstExit, run's loop -/
/-- the exit condition of p and q -/
def ht_ (rel p q : Nat) : Prop := if rel = 1 then p = q else if rel = 2 then p ≠ q else if rel = 3 then p < q else q ≤ p
/-- the exit condition in head n -/
def ht_H (B rel ev eb : Nat) (H : Nat → Nat → Int32) (n : Nat) : Prop := ht_ rel (ar_m B (H n ev)) (ar_m B (H n eb))
theorem ht_br {A1 A0 : Prop} {rel p q : Nat} (hr : rel < 5) (hp : p < 2 ^ 31) (hq : q < 2 ^ 31) (h1 : ht_ rel p q → A1) (h0 : ¬ ht_ rel p q → A0) :
    (nI rel = 1 → (nI p = nI q → A1) ∧ (¬ nI p = nI q → A0)) ∧ (¬ nI rel = 1 → (nI rel = 2 → (nI p = nI q → A0) ∧ (¬ nI p = nI q → A1)) ∧ (¬ nI rel = 2 → (nI rel = 3 → (nI q ≤ nI p → A0) ∧ (¬ nI q ≤ nI p → A1)) ∧ (¬ nI rel = 3 → (nI p < nI q → A0) ∧ (¬ nI p < nI q → A1)))) := by
  unfold ht_ at *
  refine pk_eq rel 1 (fun h => ?_) (fun h => pk_eq rel 2 (fun h2 => ?_) (fun h2 => pk_eq rel 3 (fun h3 => ?_) (fun h3 => ?_)))
  · simp only [if_pos h] at h1 h0
    exact pk_eq p q h1 h0
  · simp only [if_neg h, if_pos h2] at h1 h0
    exact pk_eq p q (fun z => h0 (fun y => y z)) h1
  · simp only [if_neg h, if_neg h2, if_pos h3] at h1 h0
    exact pk_le q p (fun z => h0 (by omega)) h1
  · simp only [if_neg h, if_neg h2, if_neg h3] at h1 h0
    exact pk_lt p q (fun z => h0 (by omega)) h1
/-- the live values w over s, of the first i variables -/
def tk_ (i L : Nat) (w s : Nat → Int32) : Nat → Int32 := fun j => if j < i ∧ L.testBit j = true then w j else s j
theorem tk_0 (L : Nat) (w s : Nat → Int32) : tk_ 0 L w s = s := by
  funext j; exact if_neg (fun z => absurd z.1 (by omega))
theorem tk_t {i L : Nat} {w s : Nat → Int32} (h : L.testBit i = true) : upd (tk_ i L w s) i (w i) = tk_ (i + 1) L w s := by
  funext j
  unfold upd tk_
  by_cases e : j = i
  · subst e; rw [if_pos rfl, if_pos ⟨by omega, h⟩]
  · rw [if_neg e]
    by_cases z : j < i ∧ L.testBit j = true
    · rw [if_pos z, if_pos ⟨by omega, z.2⟩]
    · rw [if_neg z, if_neg (fun y => z ⟨by omega, y.2⟩)]
theorem tk_f {i L : Nat} {w s : Nat → Int32} (h : L.testBit i = false) : tk_ i L w s = tk_ (i + 1) L w s := by
  funext j
  unfold tk_
  by_cases z : j < i ∧ L.testBit j = true
  · rw [if_pos z, if_pos ⟨by omega, z.2⟩]
  · rw [if_neg z, if_neg]
    intro y
    by_cases e : j = i
    · subst e; rw [h] at y; exact absurd y.2 (by decide)
    · exact z ⟨by omega, y.2⟩
theorem tk_ag {V L : Nat} {w w' s : Nat → Int32} (h : ag_ V w w') : tk_ V L w s = tk_ V L w' s := by
  funext j
  unfold tk_
  by_cases z : j < V ∧ L.testBit j = true
  · rw [if_pos z, if_pos z]; exact h j z.1
  · rw [if_neg z, if_neg z]
section
variable {f_self f_lost f_vars f_room f_bits f_mask f_count f_exitRel f_exitVar f_exitBound f_liveBits f_shapeNow f_formed : Int32} {a_ops a_dsts a_lefts a_rights a_store a_work a_marks a_degrees a_ends a_coef a_stackStep a_stackSize a_stackLow : Nat → Int32}
theorem xw_lw2 {post : SX → Prop} {V C : Nat} (hV : V ≤ 8) (hp : ∀ w, ag_ V w a_store → post (f_self, f_lost, nI V, f_room, f_bits, f_mask, nI C, f_exitRel, f_exitVar, f_exitBound, f_liveBits, f_shapeNow, f_formed, a_ops, a_dsts, a_lefts, a_rights, a_store, w, a_marks, a_degrees, a_ends, a_coef, a_stackStep, a_stackSize, a_stackLow)) :
    ∀ n i w, i ≤ V → V - i < n → ag_ i w a_store → wX_loadWork_2 post f_self f_lost (nI V) f_room f_bits f_mask (nI C) f_exitRel f_exitVar f_exitBound f_liveBits f_shapeNow f_formed n (nI i) a_ops a_dsts a_lefts a_rights a_store w a_marks a_degrees a_ends a_coef a_stackStep a_stackSize a_stackLow := by
  intro n
  induction n with
  | zero => intro i w _ h; omega
  | succ n ih =>
    intro i w hi hn hw
    rcases Nat.lt_or_ge i V with h | h
    · have hx : (nI i).toNatClampNeg = i := nI_clamp (by omega)
      have hv : vp_in (nI i) 8 := vp_in_nI (by omega) (by omega)
      simp only [wX_loadWork_2, hx]
      refine br_f (nI_ge h (by omega)) ⟨hv, hv, ?_⟩
      intro w' ew x' ex
      subst ew ex
      rw [nI_1]
      exact ih (i + 1) _ (by omega) (by omega) (ex_upd (fun j y => y = a_store j) hw rfl)
    · obtain rfl : i = V := by omega
      exact br_t (nI_le (by omega) (by omega)) (hp w hw)
theorem xw_lw {post : SX → Prop} {V C : Nat} (hV : V ≤ 8) (hp : ∀ w, ag_ V w a_store → post (f_self, f_lost, nI V, f_room, f_bits, f_mask, nI C, f_exitRel, f_exitVar, f_exitBound, f_liveBits, f_shapeNow, f_formed, a_ops, a_dsts, a_lefts, a_rights, a_store, w, a_marks, a_degrees, a_ends, a_coef, a_stackStep, a_stackSize, a_stackLow)) : wpX_loadWork post (f_self, f_lost, nI V, f_room, f_bits, f_mask, nI C, f_exitRel, f_exitVar, f_exitBound, f_liveBits, f_shapeNow, f_formed, a_ops, a_dsts, a_lefts, a_rights, a_store, a_work, a_marks, a_degrees, a_ends, a_coef, a_stackStep, a_stackSize, a_stackLow) :=
  ⟨V + 1, xw_lw2 hV hp (V + 1) 0 a_work (by omega) (by omega) (fun j h => absurd h (by omega))⟩
theorem xw_ap {post : Int32 → Prop} {V C q : Nat} (hq : q ≤ 4) {x y : Int32} (hp : post (ps_ap q x y)) : wpX_apply post (f_self, f_lost, nI V, f_room, f_bits, f_mask, nI C, f_exitRel, f_exitVar, f_exitBound, f_liveBits, f_shapeNow, f_formed, a_ops, a_dsts, a_lefts, a_rights, a_store, a_work, a_marks, a_degrees, a_ends, a_coef, a_stackStep, a_stackSize, a_stackLow) (nI q) x y := by
  unfold ps_ap at hp
  refine pk_eq q 2 (fun h => ?_) (fun h => pk_eq q 3 (fun h3 => ?_) (fun h3 => pk_eq q 4 (fun h4 => ?_) (fun h4 => ?_)))
  · rw [if_pos h] at hp; exact hp
  · rw [if_neg h, if_pos h3] at hp; exact hp
  · rw [if_neg h, if_neg h3, if_pos h4] at hp; exact hp
  · rw [if_neg h, if_neg h3, if_neg h4] at hp; exact hp
theorem xw_ps2 {post : SX → Prop} {V C : Nat} (hV : V ≤ 8) (hC : C ≤ 12) (B : bd_ok V C a_ops a_dsts a_lefts a_rights)
    (hp : post (f_self, f_lost, nI V, f_room, f_bits, f_mask, nI C, f_exitRel, f_exitVar, f_exitBound, f_liveBits, f_shapeNow, f_formed, a_ops, a_dsts, a_lefts, a_rights, a_store, ps_f a_ops a_dsts a_lefts a_rights C a_work, a_marks, a_degrees, a_ends, a_coef, a_stackStep, a_stackSize, a_stackLow)) :
    ∀ n i w, i ≤ C → C - i < n → w = ps_f a_ops a_dsts a_lefts a_rights i a_work → wX_pass_2 post f_self f_lost (nI V) f_room f_bits f_mask (nI C) f_exitRel f_exitVar f_exitBound f_liveBits f_shapeNow f_formed n (nI i) a_ops a_dsts a_lefts a_rights a_store w a_marks a_degrees a_ends a_coef a_stackStep a_stackSize a_stackLow := by
  intro n
  induction n with
  | zero => intro i w _ h; omega
  | succ n ih =>
    intro i w hi hn hw
    rcases Nat.lt_or_ge i C with h | h
    · have hx : (nI i).toNatClampNeg = i := nI_clamp (by omega)
      have hv : vp_in (nI i) 12 := vp_in_nI (by omega) (by omega)
      obtain ⟨⟨q, q1, q4, qe⟩, b2, b3, b4⟩ := B i h
      simp only [wX_pass_2, hx, qe]
      refine br_f (nI_ge h (by omega)) ⟨hv, bd_in b3 hV, ?_⟩
      intro y1 e1
      refine ⟨hv, bd_in b4 hV, ?_⟩
      intro y2 e2
      refine ⟨hv, hv, xw_ap (V := V) (C := C) q4 ⟨bd_in b2 hV, ?_⟩⟩
      intro w' ew x' ex
      subst ex
      rw [nI_1]
      refine ih (i + 1) w' (by omega) (by omega) ?_
      rw [ew, e1, e2, hw]
      show _ = upd _ _ (ps_ap (a_ops i).toNatClampNeg _ _)
      rw [qe, nI_clamp (by omega)]
    · obtain rfl : i = C := by omega
      subst hw
      exact br_t (nI_le (by omega) (by omega)) hp
theorem xw_ps {post : SX → Prop} {V C : Nat} (hV : V ≤ 8) (hC : C ≤ 12) (B : bd_ok V C a_ops a_dsts a_lefts a_rights) {W : Nat → Int32} (hW : ag_ V a_work W)
    (hp : ∀ w, ag_ V w (ps_f a_ops a_dsts a_lefts a_rights C W) → post (f_self, f_lost, nI V, f_room, f_bits, f_mask, nI C, f_exitRel, f_exitVar, f_exitBound, f_liveBits, f_shapeNow, f_formed, a_ops, a_dsts, a_lefts, a_rights, a_store, w, a_marks, a_degrees, a_ends, a_coef, a_stackStep, a_stackSize, a_stackLow)) : wpX_pass post (f_self, f_lost, nI V, f_room, f_bits, f_mask, nI C, f_exitRel, f_exitVar, f_exitBound, f_liveBits, f_shapeNow, f_formed, a_ops, a_dsts, a_lefts, a_rights, a_store, a_work, a_marks, a_degrees, a_ends, a_coef, a_stackStep, a_stackSize, a_stackLow) :=
  ⟨C + 1, xw_ps2 hV hC B (hp _ (ps_ag B hW C (Nat.le_refl C))) (C + 1) 0 a_work (by omega) (by omega) rfl⟩
theorem xw_ho {post : Int32 → Prop} {V C B rel ev eb : Nat} (hV : V ≤ 8) (hB : B ≤ 10) (hr : rel < 5) (hv : ev < V) (hb : eb < V) {W : Nat → Int32} (hW : ag_ V a_work W)
    (h1 : ht_ rel (ar_m B (W ev)) (ar_m B (W eb)) → post 1) (h0 : ¬ ht_ rel (ar_m B (W ev)) (ar_m B (W eb)) → post 0) :
    wpX_holds post (f_self, f_lost, nI V, f_room, f_bits, nI (2 ^ B - 1), nI C, nI rel, nI ev, nI eb, f_liveBits, f_shapeNow, f_formed, a_ops, a_dsts, a_lefts, a_rights, a_store, a_work, a_marks, a_degrees, a_ends, a_coef, a_stackStep, a_stackSize, a_stackLow) := by
  have x1 : (nI ev).toNatClampNeg = ev := nI_clamp (by omega)
  have x2 : (nI eb).toNatClampNeg = eb := nI_clamp (by omega)
  have hp2 := ar_pw (K := B) (by omega)
  have hp0 := Nat.two_pow_pos B
  have l1 := ar_lt B (W ev)
  have l2 := ar_lt B (W eb)
  unfold wpX_holds
  dsimp only
  simp only [x1, x2, hW ev hv, hW eb hb, ar_mand (show B ≤ 31 by omega)]
  refine ⟨vp_in_nI (by omega) (by omega), nm_e ⟨vp_in_nI (by omega) (by omega), nm_e ?_⟩⟩
  exact ht_br hr (by omega) (by omega) h1 h0
theorem xw_se6 {post : Int32 → SX → Prop} {V C B rel ev eb : Nat} (hV : V ≤ 8) (hC : C ≤ 12) (hB : B ≤ 10) (hr : rel < 5) (hv : ev < V) (hb : eb < V) (K : bd_ok V C a_ops a_dsts a_lefts a_rights)
    (h1 : ∀ n w, n < 2 ^ B → ht_H B rel ev eb (hd_ a_ops a_dsts a_lefts a_rights C a_store) n → (∀ j, j < n → ¬ ht_H B rel ev eb (hd_ a_ops a_dsts a_lefts a_rights C a_store) j) → ag_ V w (hd_ a_ops a_dsts a_lefts a_rights C a_store n) → post (nI n) (f_self, f_lost, nI V, f_room, f_bits, nI (2 ^ B - 1), nI C, nI rel, nI ev, nI eb, f_liveBits, f_shapeNow, f_formed, a_ops, a_dsts, a_lefts, a_rights, a_store, w, a_marks, a_degrees, a_ends, a_coef, a_stackStep, a_stackSize, a_stackLow))
    (h2 : (∀ j, j < 2 ^ B → ¬ ht_H B rel ev eb (hd_ a_ops a_dsts a_lefts a_rights C a_store) j) → ∀ w, post (-7) (f_self, f_lost, nI V, f_room, f_bits, nI (2 ^ B - 1), nI C, nI rel, nI ev, nI eb, f_liveBits, f_shapeNow, f_formed, a_ops, a_dsts, a_lefts, a_rights, a_store, w, a_marks, a_degrees, a_ends, a_coef, a_stackStep, a_stackSize, a_stackLow)) :
    ∀ n i w, i ≤ 2 ^ B → 2 ^ B - i < n → ag_ V w (hd_ a_ops a_dsts a_lefts a_rights C a_store i) → (∀ j, j < i → ¬ ht_H B rel ev eb (hd_ a_ops a_dsts a_lefts a_rights C a_store) j) →
      wX_searchExit_6 post n (nI i) f_self f_lost (nI V) f_room f_bits (nI (2 ^ B - 1)) (nI C) (nI rel) (nI ev) (nI eb) f_liveBits f_shapeNow f_formed a_ops a_dsts a_lefts a_rights a_store w a_marks a_degrees a_ends a_coef a_stackStep a_stackSize a_stackLow := by
  have hp2 := ar_pw (K := B) (by omega)
  have hp0 := Nat.two_pow_pos B
  have hp3 : 2 ^ B ≤ 2 ^ 10 := Nat.pow_le_pow_right (by decide) hB
  intro n
  induction n with
  | zero => intro i w _ h; omega
  | succ n ih =>
    intro i w hi hn hw hj
    rcases Nat.lt_or_ge i (2 ^ B) with h | h
    · refine br_f (nI_nlt (by omega) (by omega)) (xw_ho hV hB hr hv hb hw (fun hh => ?_) (fun hh => ?_))
      · exact br_f (by decide) (h1 i w h hh hj hw)
      · refine br_t rfl (xw_ps hV hC K hw (fun w' hw' => ?_))
        refine nm_r (nI_1 i) (ih (i + 1) w' (by omega) (by omega) hw' (fun j hj2 => ?_))
        rcases Nat.lt_or_ge j i with z | z
        · exact hj j z
        · obtain rfl : j = i := by omega
          exact hh
    · obtain rfl : i = 2 ^ B := by omega
      exact br_t (nI_lt (by omega) (by omega)) (h2 hj w)
theorem xw_se {post : Int32 → SX → Prop} {V C B rel ev eb : Nat} (hV : V ≤ 8) (hC : C ≤ 12) (hB : B ≤ 10) (hr : rel < 5) (hv : ev < V) (hb : eb < V) (K : bd_ok V C a_ops a_dsts a_lefts a_rights)
    (h1 : ∀ n w, n < 2 ^ B → ht_H B rel ev eb (hd_ a_ops a_dsts a_lefts a_rights C a_store) n → (∀ j, j < n → ¬ ht_H B rel ev eb (hd_ a_ops a_dsts a_lefts a_rights C a_store) j) → ag_ V w (hd_ a_ops a_dsts a_lefts a_rights C a_store n) → post (nI n) (f_self, f_lost, nI V, f_room, f_bits, nI (2 ^ B - 1), nI C, nI rel, nI ev, nI eb, f_liveBits, f_shapeNow, f_formed, a_ops, a_dsts, a_lefts, a_rights, a_store, w, a_marks, a_degrees, a_ends, a_coef, a_stackStep, a_stackSize, a_stackLow))
    (h2 : (∀ j, j < 2 ^ B → ¬ ht_H B rel ev eb (hd_ a_ops a_dsts a_lefts a_rights C a_store) j) → ∀ w, post (-7) (f_self, f_lost, nI V, f_room, f_bits, nI (2 ^ B - 1), nI C, nI rel, nI ev, nI eb, f_liveBits, f_shapeNow, f_formed, a_ops, a_dsts, a_lefts, a_rights, a_store, w, a_marks, a_degrees, a_ends, a_coef, a_stackStep, a_stackSize, a_stackLow)) :
    wpX_searchExit post (f_self, f_lost, nI V, f_room, f_bits, nI (2 ^ B - 1), nI C, nI rel, nI ev, nI eb, f_liveBits, f_shapeNow, f_formed, a_ops, a_dsts, a_lefts, a_rights, a_store, a_work, a_marks, a_degrees, a_ends, a_coef, a_stackStep, a_stackSize, a_stackLow) := by
  have hp0 := Nat.two_pow_pos B
  unfold wpX_searchExit
  dsimp only
  refine xw_lw hV (fun w hw => ?_)
  dsimp only
  exact ⟨2 ^ B + 1, xw_se6 hV hC hB hr hv hb K h1 h2 (2 ^ B + 1) 0 w (by omega) (by omega) hw (fun j h => absurd h (by omega))⟩
theorem xw_ts2 {post : SX → Prop} {V C L : Nat} (hV : V ≤ 8) (hL : L < 256) (hp : post (f_self, f_lost, nI V, f_room, f_bits, f_mask, nI C, f_exitRel, f_exitVar, f_exitBound, nI L, f_shapeNow, f_formed, a_ops, a_dsts, a_lefts, a_rights, tk_ V L a_work a_store, a_work, a_marks, a_degrees, a_ends, a_coef, a_stackStep, a_stackSize, a_stackLow)) :
    ∀ n i, i ≤ V → V - i < n → wX_takeStepped_2 post f_self f_lost (nI V) f_room f_bits f_mask (nI C) f_exitRel f_exitVar f_exitBound (nI L) f_shapeNow f_formed n (nI i) a_ops a_dsts a_lefts a_rights (tk_ i L a_work a_store) a_work a_marks a_degrees a_ends a_coef a_stackStep a_stackSize a_stackLow := by
  intro n
  induction n with
  | zero => intro i _ h; omega
  | succ n ih =>
    intro i hi hn
    rcases Nat.lt_or_ge i V with h | h
    · have hx : (nI i).toNatClampNeg = i := nI_clamp (by omega)
      have hv : vp_in (nI i) 8 := vp_in_nI (by omega) (by omega)
      simp only [wX_takeStepped_2, hx]
      refine br_f (nI_ge h (by omega)) (xw_il hL (by omega) (fun t => ?_) (fun t => ?_))
      · refine br_f (by decide) ⟨hv, hv, ?_⟩
        intro s' es x' ex
        rw [tk_t t] at es
        subst es ex
        rw [nI_1]
        exact ih (i + 1) (by omega) (by omega)
      · refine br_t rfl ?_
        intro x' ex
        rw [tk_f t]
        subst ex
        rw [nI_1]
        exact ih (i + 1) (by omega) (by omega)
    · obtain rfl : i = V := by omega
      exact br_t (nI_le (by omega) (by omega)) hp
theorem xw_ts {post : SX → Prop} {V C L : Nat} (hV : V ≤ 8) (hL : L < 256) (hp : post (f_self, f_lost, nI V, f_room, f_bits, f_mask, nI C, f_exitRel, f_exitVar, f_exitBound, nI L, f_shapeNow, f_formed, a_ops, a_dsts, a_lefts, a_rights, tk_ V L a_work a_store, a_work, a_marks, a_degrees, a_ends, a_coef, a_stackStep, a_stackSize, a_stackLow)) : wpX_takeStepped post (f_self, f_lost, nI V, f_room, f_bits, f_mask, nI C, f_exitRel, f_exitVar, f_exitBound, nI L, f_shapeNow, f_formed, a_ops, a_dsts, a_lefts, a_rights, a_store, a_work, a_marks, a_degrees, a_ends, a_coef, a_stackStep, a_stackSize, a_stackLow) := by
  refine ⟨V + 1, ?_⟩
  have := xw_ts2 hV hL hp (V + 1) 0 (by omega) (by omega)
  rw [tk_0] at this
  exact this
end
end
section
/-! Y: stepping -/
section
variable {f_vars f_room f_bits f_count f_exitRel f_exitVar f_exitBound f_shapeNow : Int32} {a_ops a_dsts a_lefts a_rights a_store a_isLive a_head a_deg a_markKind a_markDeg : Nat → Int32}
variable {J : Int32 → (Nat → Int32) → (Nat → Int32) → (Nat → Int32) → (Nat → Int32) → (Nat → Int32) → (Nat → Int32) → (Nat → Int32) → (Nat → Int32) → (Nat → Int32) → (Nat → Int32) → Prop}
theorem yw_sh2 {post : SY → Prop} {V C : Nat} (hV : V ≤ 8) (hp : ∀ w, ag_ V w a_store → post (nI V, f_room, f_bits, nI C, f_exitRel, f_exitVar, f_exitBound, f_shapeNow, a_ops, a_dsts, a_lefts, a_rights, a_store, a_isLive, w, a_deg, a_markKind, a_markDeg)) :
    ∀ n i w, i ≤ V → V - i < n → ag_ i w a_store → wY_startHead_2 post (nI V) f_room f_bits (nI C) f_exitRel f_exitVar f_exitBound f_shapeNow n (nI i) a_ops a_dsts a_lefts a_rights a_store a_isLive w a_deg a_markKind a_markDeg := by
  intro n
  induction n with
  | zero => intro i w _ h; omega
  | succ n ih =>
    intro i w hi hn hw
    rcases Nat.lt_or_ge i V with h | h
    · have hx : (nI i).toNatClampNeg = i := nI_clamp (by omega)
      have hv : vp_in (nI i) 8 := vp_in_nI (by omega) (by omega)
      simp only [wY_startHead_2, hx]
      refine br_f (nI_ge h (by omega)) ⟨hv, hv, ?_⟩
      intro w' ew x' ex
      subst ew ex
      rw [nI_1]
      exact ih (i + 1) _ (by omega) (by omega) (ex_upd (fun j y => y = a_store j) hw rfl)
    · obtain rfl : i = V := by omega
      exact br_t (nI_le (by omega) (by omega)) (hp w hw)
theorem yw_sh {post : SY → Prop} {V C : Nat} (hV : V ≤ 8) (hp : ∀ w, ag_ V w a_store → post (nI V, f_room, f_bits, nI C, f_exitRel, f_exitVar, f_exitBound, f_shapeNow, a_ops, a_dsts, a_lefts, a_rights, a_store, a_isLive, w, a_deg, a_markKind, a_markDeg)) : wpY_startHead post (nI V, f_room, f_bits, nI C, f_exitRel, f_exitVar, f_exitBound, f_shapeNow, a_ops, a_dsts, a_lefts, a_rights, a_store, a_isLive, a_head, a_deg, a_markKind, a_markDeg) :=
  ⟨V + 1, yw_sh2 hV hp (V + 1) 0 a_head (by omega) (by omega) (fun j h => absurd h (by omega))⟩
theorem yw_82h {post : SY → Prop} {V C i : Nat} (hV : V ≤ 8) (hi : i < 12) (hd : vp_in (a_dsts i) V) {y : Int32}
    (hp : J (nI (i + 1)) a_ops a_dsts a_lefts a_rights a_store a_isLive (upd a_head (a_dsts i).toNatClampNeg y) a_deg a_markKind a_markDeg) : wY_nextHead_82 post J (nI i) y (nI V) f_room f_bits (nI C) f_exitRel f_exitVar f_exitBound f_shapeNow a_ops a_dsts a_lefts a_rights a_store a_isLive a_head a_deg a_markKind a_markDeg := by
  have hx : (nI i).toNatClampNeg = i := nI_clamp (by omega)
  have hv : vp_in (nI i) 12 := vp_in_nI (by omega) (by omega)
  simp only [wY_nextHead_82, hx]
  refine ⟨hv, bd_in hd hV, ?_⟩
  intro w' ew x' ex
  subst ew ex
  rw [nI_1]
  exact hp
theorem yw_67h {post : SY → Prop} {V C i : Nat} (hV : V ≤ 8) (hi : i < 12) (hd : vp_in (a_dsts i) V) {q : Nat} (hq : q ≤ 4) (qe : a_ops i = nI q) {x y z : Int32}
    (hp : J (nI (i + 1)) a_ops a_dsts a_lefts a_rights a_store a_isLive (upd a_head (a_dsts i).toNatClampNeg (if q = 4 then x * y else z)) a_deg a_markKind a_markDeg) : wY_nextHead_67 post J (nI i) x y z (nI V) f_room f_bits (nI C) f_exitRel f_exitVar f_exitBound f_shapeNow a_ops a_dsts a_lefts a_rights a_store a_isLive a_head a_deg a_markKind a_markDeg := by
  have hx : (nI i).toNatClampNeg = i := nI_clamp (by omega)
  have hv : vp_in (nI i) 12 := vp_in_nI (by omega) (by omega)
  simp only [wY_nextHead_67, hx, qe]
  refine ⟨hv, pk_eq q 4 (fun h => ?_) (fun h => ?_)⟩
  · rw [if_pos h] at hp; exact nm_e (yw_82h hV hi hd hp)
  · rw [if_neg h] at hp; exact yw_82h hV hi hd hp
theorem yw_52h {post : SY → Prop} {V C i : Nat} (hV : V ≤ 8) (hi : i < 12) (hd : vp_in (a_dsts i) V) {q : Nat} (hq : q ≤ 4) (qe : a_ops i = nI q) {x y z : Int32}
    (hp : J (nI (i + 1)) a_ops a_dsts a_lefts a_rights a_store a_isLive (upd a_head (a_dsts i).toNatClampNeg (if q = 4 then x * y else if q = 3 then x - y else z)) a_deg a_markKind a_markDeg) : wY_nextHead_52 post J (nI i) x y z (nI V) f_room f_bits (nI C) f_exitRel f_exitVar f_exitBound f_shapeNow a_ops a_dsts a_lefts a_rights a_store a_isLive a_head a_deg a_markKind a_markDeg := by
  have hx : (nI i).toNatClampNeg = i := nI_clamp (by omega)
  have hv : vp_in (nI i) 12 := vp_in_nI (by omega) (by omega)
  simp only [wY_nextHead_52, hx, qe]
  refine ⟨hv, pk_eq q 3 (fun h => ?_) (fun h => ?_)⟩
  · rw [if_pos h] at hp; exact nm_e (yw_67h hV hi hd hq qe hp)
  · rw [if_neg h] at hp; exact yw_67h hV hi hd hq qe hp
theorem yw_nh2 {post : SY → Prop} {V C : Nat} (hV : V ≤ 8) (hC : C ≤ 12) (B : bd_ok V C a_ops a_dsts a_lefts a_rights)
    (hp : post (nI V, f_room, f_bits, nI C, f_exitRel, f_exitVar, f_exitBound, f_shapeNow, a_ops, a_dsts, a_lefts, a_rights, a_store, a_isLive, ps_f a_ops a_dsts a_lefts a_rights C a_head, a_deg, a_markKind, a_markDeg)) :
    ∀ n i w, i ≤ C → C - i < n → w = ps_f a_ops a_dsts a_lefts a_rights i a_head → wY_nextHead_2 post (nI V) f_room f_bits (nI C) f_exitRel f_exitVar f_exitBound f_shapeNow n (nI i) a_ops a_dsts a_lefts a_rights a_store a_isLive w a_deg a_markKind a_markDeg := by
  intro n
  induction n with
  | zero => intro i w _ h; omega
  | succ n ih =>
    intro i w hi hn hw
    rcases Nat.lt_or_ge i C with h | h
    · have hx : (nI i).toNatClampNeg = i := nI_clamp (by omega)
      have hv : vp_in (nI i) 12 := vp_in_nI (by omega) (by omega)
      obtain ⟨⟨q, q1, q4, qe⟩, b2, b3, b4⟩ := B i h
      have key : ∀ y, y = ps_ap q (w (a_lefts i).toNatClampNeg) (w (a_rights i).toNatClampNeg) → wY_nextHead_2 post (nI V) f_room f_bits (nI C) f_exitRel f_exitVar f_exitBound f_shapeNow n (nI (i + 1)) a_ops a_dsts a_lefts a_rights a_store a_isLive (upd w (a_dsts i).toNatClampNeg y) a_deg a_markKind a_markDeg := by
        intro y ey
        refine ih (i + 1) _ (by omega) (by omega) ?_
        rw [ey, hw]
        show _ = upd _ _ (ps_ap (a_ops i).toNatClampNeg _ _)
        rw [qe, nI_clamp (by omega)]
      simp only [wY_nextHead_2, hx, qe]
      refine br_f (nI_ge h (by omega)) ⟨hv, bd_in b3 hV, ?_⟩
      intro y1 e1
      refine ⟨hv, bd_in b4 hV, ?_⟩
      intro y2 e2
      subst e1 e2
      refine ⟨hv, pk_eq q 2 (fun h2 => nm_e (yw_52h hV (by omega) b2 q4 qe (key _ ?_))) (fun h2 => yw_52h hV (by omega) b2 q4 qe (key _ ?_))⟩
      · subst h2; rfl
      · unfold ps_ap
        rw [if_neg h2]
        by_cases h3 : q = 3
        · rw [if_pos h3, if_pos h3, if_neg (by omega)]
        · rw [if_neg h3, if_neg h3]
    · obtain rfl : i = C := by omega
      subst hw
      exact br_t (nI_le (by omega) (by omega)) hp
theorem yw_nh {post : SY → Prop} {V C : Nat} (hV : V ≤ 8) (hC : C ≤ 12) (B : bd_ok V C a_ops a_dsts a_lefts a_rights) {W : Nat → Int32} (hW : ag_ V a_head W)
    (hp : ∀ w, ag_ V w (ps_f a_ops a_dsts a_lefts a_rights C W) → post (nI V, f_room, f_bits, nI C, f_exitRel, f_exitVar, f_exitBound, f_shapeNow, a_ops, a_dsts, a_lefts, a_rights, a_store, a_isLive, w, a_deg, a_markKind, a_markDeg)) : wpY_nextHead post (nI V, f_room, f_bits, nI C, f_exitRel, f_exitVar, f_exitBound, f_shapeNow, a_ops, a_dsts, a_lefts, a_rights, a_store, a_isLive, a_head, a_deg, a_markKind, a_markDeg) :=
  ⟨C + 1, yw_nh2 hV hC B (hp _ (ps_ag B hW C (Nat.le_refl C))) (C + 1) 0 a_head (by omega) (by omega) rfl⟩
theorem yw_ho {post : Int32 → Prop} {V C B rel ev eb : Nat} (hV : V ≤ 8) (hB : B ≤ 10) (hr : rel < 5) (hv : ev < V) (hb : eb < V) {W : Nat → Int32} (hW : ag_ V a_head W)
    (h1 : ht_ rel (ar_m B (W ev)) (ar_m B (W eb)) → post 1) (h0 : ¬ ht_ rel (ar_m B (W ev)) (ar_m B (W eb)) → post 0) :
    wpY_exitHolds post (nI V, f_room, nI B, nI C, nI rel, nI ev, nI eb, f_shapeNow, a_ops, a_dsts, a_lefts, a_rights, a_store, a_isLive, a_head, a_deg, a_markKind, a_markDeg) := by
  have x1 : (nI ev).toNatClampNeg = ev := nI_clamp (by omega)
  have x2 : (nI eb).toNatClampNeg = eb := nI_clamp (by omega)
  have hp2 := ar_pw (K := B) (by omega)
  have l1 := ar_lt B (W ev)
  have l2 := ar_lt B (W eb)
  unfold wpY_exitHolds
  dsimp only
  simp only [x1, x2, hW ev hv, hW eb hb]
  refine nm_r (ar_msk (show B ≤ 30 by omega)) ⟨vp_in_nI (by omega) (by omega), nm_r (ar_mand (show B ≤ 31 by omega) _) ⟨vp_in_nI (by omega) (by omega), nm_r (ar_mand (show B ≤ 31 by omega) _) ?_⟩⟩
  exact ht_br hr (by omega) (by omega) h1 h0
theorem yw_fx13 {post : Int32 → SY → Prop} {V C B rel ev eb : Nat} (hV : V ≤ 8) (hC : C ≤ 12) (hB : B ≤ 10) (hr : rel < 5) (hv : ev < V) (hb : eb < V) (K : bd_ok V C a_ops a_dsts a_lefts a_rights)
    (h1 : ∀ n w, n < 2 ^ B → ht_H B rel ev eb (hd_ a_ops a_dsts a_lefts a_rights C a_store) n → (∀ j, j < n → ¬ ht_H B rel ev eb (hd_ a_ops a_dsts a_lefts a_rights C a_store) j) → ag_ V w (hd_ a_ops a_dsts a_lefts a_rights C a_store n) → post (nI n) (nI V, f_room, nI B, nI C, nI rel, nI ev, nI eb, f_shapeNow, a_ops, a_dsts, a_lefts, a_rights, a_store, a_isLive, w, a_deg, a_markKind, a_markDeg))
    (h2 : (∀ j, j < 2 ^ B → ¬ ht_H B rel ev eb (hd_ a_ops a_dsts a_lefts a_rights C a_store) j) → ∀ w, post (-1) (nI V, f_room, nI B, nI C, nI rel, nI ev, nI eb, f_shapeNow, a_ops, a_dsts, a_lefts, a_rights, a_store, a_isLive, w, a_deg, a_markKind, a_markDeg)) :
    ∀ n i w, i ≤ 2 ^ B → 2 ^ B - i < n → ag_ V w (hd_ a_ops a_dsts a_lefts a_rights C a_store i) → (∀ j, j < i → ¬ ht_H B rel ev eb (hd_ a_ops a_dsts a_lefts a_rights C a_store) j) →
      wY_firstExit_13 post (nI (2 ^ B)) n (nI i) (nI V) f_room (nI B) (nI C) (nI rel) (nI ev) (nI eb) f_shapeNow a_ops a_dsts a_lefts a_rights a_store a_isLive w a_deg a_markKind a_markDeg := by
  have hp2 := ar_pw (K := B) (by omega)
  have hp0 := Nat.two_pow_pos B
  have hp3 : 2 ^ B ≤ 2 ^ 10 := Nat.pow_le_pow_right (by decide) hB
  intro n
  induction n with
  | zero => intro i w _ h; omega
  | succ n ih =>
    intro i w hi hn hw hj
    rcases Nat.lt_or_ge i (2 ^ B) with h | h
    · refine br_f (nI_ge (by omega) (by omega)) (yw_ho hV hB hr hv hb hw (fun hh => ?_) (fun hh => ?_))
      · exact br_f (by decide) (h1 i w h hh hj hw)
      · refine br_t rfl (yw_nh hV hC K hw (fun w' hw' => ?_))
        refine nm_r (nI_1 i) (ih (i + 1) w' (by omega) (by omega) hw' (fun j hj2 => ?_))
        rcases Nat.lt_or_ge j i with z | z
        · exact hj j z
        · obtain rfl : j = i := by omega
          exact hh
    · obtain rfl : i = 2 ^ B := by omega
      exact br_t (nI_le (by omega) (by omega)) (h2 hj w)
theorem yw_fx {post : Int32 → SY → Prop} {V C B rel ev eb : Nat} (hV : V ≤ 8) (hC : C ≤ 12) (hB : B ≤ 10) (hr : rel < 5) (hv : ev < V) (hb : eb < V) (K : bd_ok V C a_ops a_dsts a_lefts a_rights)
    (h1 : ∀ n w, n < 2 ^ B → ht_H B rel ev eb (hd_ a_ops a_dsts a_lefts a_rights C a_store) n → (∀ j, j < n → ¬ ht_H B rel ev eb (hd_ a_ops a_dsts a_lefts a_rights C a_store) j) → ag_ V w (hd_ a_ops a_dsts a_lefts a_rights C a_store n) → post (nI n) (nI V, f_room, nI B, nI C, nI rel, nI ev, nI eb, f_shapeNow, a_ops, a_dsts, a_lefts, a_rights, a_store, a_isLive, w, a_deg, a_markKind, a_markDeg))
    (h2 : (∀ j, j < 2 ^ B → ¬ ht_H B rel ev eb (hd_ a_ops a_dsts a_lefts a_rights C a_store) j) → ∀ w, post (-1) (nI V, f_room, nI B, nI C, nI rel, nI ev, nI eb, f_shapeNow, a_ops, a_dsts, a_lefts, a_rights, a_store, a_isLive, w, a_deg, a_markKind, a_markDeg)) :
    wpY_firstExit post (nI V, f_room, nI B, nI C, nI rel, nI ev, nI eb, f_shapeNow, a_ops, a_dsts, a_lefts, a_rights, a_store, a_isLive, a_head, a_deg, a_markKind, a_markDeg) := by
  have hp0 := Nat.two_pow_pos B
  unfold wpY_firstExit
  dsimp only
  refine nm_r (ar_shl1 (show B ≤ 30 by omega)) (yw_sh hV (fun w hw => ?_))
  dsimp only
  exact ⟨2 ^ B + 1, yw_fx13 hV hC hB hr hv hb K h1 h2 (2 ^ B + 1) 0 w (by omega) (by omega) hw (fun j h => absurd h (by omega))⟩
theorem yw_ru39 {post : Int32 → SY → Prop} {x1 : Int32} {V C L : Nat} (hV : V ≤ 8) (hL : lv_ok V L a_isLive) (hp : post x1 (nI V, f_room, f_bits, nI C, f_exitRel, f_exitVar, f_exitBound, f_shapeNow, a_ops, a_dsts, a_lefts, a_rights, tk_ V L a_head a_store, a_isLive, a_head, a_deg, a_markKind, a_markDeg)) :
    ∀ n i, i ≤ V → V - i < n → wY_run_39 post x1 (nI V) f_room f_bits (nI C) f_exitRel f_exitVar f_exitBound f_shapeNow n (nI i) a_ops a_dsts a_lefts a_rights (tk_ i L a_head a_store) a_isLive a_head a_deg a_markKind a_markDeg := by
  intro n
  induction n with
  | zero => intro i _ h; omega
  | succ n ih =>
    intro i hi hn
    rcases Nat.lt_or_ge i V with h | h
    · have hx : (nI i).toNatClampNeg = i := nI_clamp (by omega)
      have hv : vp_in (nI i) 8 := vp_in_nI (by omega) (by omega)
      simp only [wY_run_39, hx]
      refine br_f (nI_ge h (by omega)) ⟨hv, yw_lv hL h (fun t => ?_) (fun t => ?_)⟩
      · refine ⟨hv, hv, ?_⟩
        intro s' es x' ex
        rw [tk_t t] at es
        subst es ex
        rw [nI_1]
        exact ih (i + 1) (by omega) (by omega)
      · intro x' ex
        rw [tk_f t]
        subst ex
        rw [nI_1]
        exact ih (i + 1) (by omega) (by omega)
    · obtain rfl : i = V := by omega
      exact br_t (nI_le (by omega) (by omega)) hp
theorem yw_ru {post : Int32 → SY → Prop} {x1 : Int32} {V C L : Nat} (hV : V ≤ 8) (hL : lv_ok V L a_isLive) (hp : post x1 (nI V, f_room, f_bits, nI C, f_exitRel, f_exitVar, f_exitBound, f_shapeNow, a_ops, a_dsts, a_lefts, a_rights, tk_ V L a_head a_store, a_isLive, a_head, a_deg, a_markKind, a_markDeg)) : ∃ n, wY_run_39 post x1 (nI V) f_room f_bits (nI C) f_exitRel f_exitVar f_exitBound f_shapeNow n 0 a_ops a_dsts a_lefts a_rights a_store a_isLive a_head a_deg a_markKind a_markDeg := by
  refine ⟨V + 1, ?_⟩
  have := yw_ru39 hV hL hp (V + 1) 0 (by omega) (by omega)
  rw [tk_0] at this
  exact this
theorem yw_va59 {post : Int64 → SY → Prop} {V C v N : Nat} (hV : V ≤ 8) (hC : C ≤ 12) (hv : v < V) (hN : N < 2 ^ 31) (K : bd_ok V C a_ops a_dsts a_lefts a_rights)
    (hp : ∀ w, post (hd_ a_ops a_dsts a_lefts a_rights C a_store N v).toInt64 (nI V, f_room, f_bits, nI C, f_exitRel, f_exitVar, f_exitBound, f_shapeNow, a_ops, a_dsts, a_lefts, a_rights, a_store, a_isLive, w, a_deg, a_markKind, a_markDeg)) :
    ∀ n i w, i ≤ N → N - i < n → ag_ V w (hd_ a_ops a_dsts a_lefts a_rights C a_store i) → wY_valueAt_59 post (nI v) (nI N) n (nI i) (nI V) f_room f_bits (nI C) f_exitRel f_exitVar f_exitBound f_shapeNow a_ops a_dsts a_lefts a_rights a_store a_isLive w a_deg a_markKind a_markDeg := by
  intro n
  induction n with
  | zero => intro i w _ h; omega
  | succ n ih =>
    intro i w hi hn hw
    rcases Nat.lt_or_ge i N with h | h
    · refine br_f (nI_ge (by omega) (by omega)) (yw_nh hV hC K hw (fun w' hw' => ?_))
      exact nm_r (nI_1 i) (ih (i + 1) w' (by omega) (by omega) hw')
    · obtain rfl : i = N := by omega
      have hx : (nI v).toNatClampNeg = v := nI_clamp (by omega)
      simp only [wY_valueAt_59, hx, hw v hv]
      exact br_t (nI_le (by omega) (by omega)) ⟨vp_in_nI (by omega) (by omega), hp w⟩
theorem yw_lm4 {post : Int32 → Prop} {V C L : Nat} (hV : V ≤ 8) (hL : L < 2 ^ V) (hF : lv_ok V L a_isLive) (hp : post (nI L)) :
    ∀ n i, i ≤ V → V - i < n → wY_liveMask_4 post (nI V) f_room f_bits (nI C) f_exitRel f_exitVar f_exitBound f_shapeNow a_ops a_dsts a_lefts a_rights a_store a_isLive a_head a_deg a_markKind a_markDeg n (nI (L % 2 ^ i)) (nI i) := by
  intro n
  induction n with
  | zero => intro i _ h; omega
  | succ n ih =>
    intro i hi hn
    rcases Nat.lt_or_ge i V with h | h
    · have hx : (nI i).toNatClampNeg = i := nI_clamp (by omega)
      have hv : vp_in (nI i) 8 := vp_in_nI (by omega) (by omega)
      have hs := lb_sum L i
      simp only [wY_liveMask_4, hx]
      refine br_f (nI_ge h (by omega)) ⟨hv, yw_lv hF h (fun t => ?_) (fun t => ?_)⟩
      · rw [if_pos t] at hs
        rw [ar_shl1 (by omega), nI_add, ← hs]
        exact nm_e (nm_r (nI_1 i) (ih (i + 1) (by omega) (by omega)))
      · rw [if_neg (by rw [t]; decide)] at hs
        have hs2 : L % 2 ^ (i + 1) = L % 2 ^ i := hs
        rw [← hs2]
        exact nm_r (nI_1 i) (ih (i + 1) (by omega) (by omega))
    · obtain rfl : i = V := by omega
      rw [Nat.mod_eq_of_lt hL]
      exact br_t (nI_le (by omega) (by omega)) hp
theorem yw_cl28 {post : Int32 → SY → Prop} {V C : Nat} (hV : V ≤ 8) (hp : ∀ F, lv_ok V 0 F → post 0 (nI V, f_room, f_bits, nI C, f_exitRel, f_exitVar, f_exitBound, f_shapeNow, a_ops, a_dsts, a_lefts, a_rights, a_store, F, a_head, a_deg, a_markKind, a_markDeg)) :
    ∀ n i F, i ≤ V → V - i < n → lv_ok i 0 F → wY_clear_28 post (nI V) f_room f_bits (nI C) f_exitRel f_exitVar f_exitBound f_shapeNow n (nI i) a_ops a_dsts a_lefts a_rights a_store F a_head a_deg a_markKind a_markDeg := by
  intro n
  induction n with
  | zero => intro i F _ h; omega
  | succ n ih =>
    intro i F hi hn hF
    rcases Nat.lt_or_ge i V with h | h
    · have hx : (nI i).toNatClampNeg = i := nI_clamp (by omega)
      have hv : vp_in (nI i) 8 := vp_in_nI (by omega) (by omega)
      simp only [wY_clear_28, hx]
      refine br_f (nI_ge h (by omega)) ⟨hv, ?_⟩
      intro F' eF x' ex
      subst eF ex
      rw [nI_1]
      refine ih (i + 1) _ (by omega) (by omega) (ex_upd (fun j y => y = if (0 : Nat).testBit j = true then 1 else 0) hF ?_)
      rw [Nat.zero_testBit, if_neg (by decide)]
      rfl
    · obtain rfl : i = V := by omega
      exact br_t (nI_le (by omega) (by omega)) (hp F hF)
end
end
section
/-! X: the closed forms of the variables -/
theorem pd_its : ∀ (k : Nat) (f : Nat → Int32) (n : Nat), pd_it f (k + 1) n = pd_it f k (n + 1) - pd_it f k n := by
  intro k
  induction k with
  | zero => intro f n; rfl
  | succ k ih => intro f n; exact ih (pd_D f) n
/-- entry m of a column behind k rounds of differences -/
def cf_s (f : Nat → Int32) (k m : Nat) : Int32 := if m < k then pd_it f m 0 else pd_it f k (m - k)
theorem cf_step {f : Nat → Int32} {k m : Nat} (h : k ≤ m) : cf_s f k (m + 1) - cf_s f k m = cf_s f (k + 1) (m + 1) := by
  unfold cf_s
  rw [if_neg (by omega), if_neg (by omega), if_neg (by omega), pd_its, show m + 1 - (k + 1) = m - k from by omega, show m - k + 1 = m + 1 - k from by omega]
theorem cf_low {f : Nat → Int32} {k m : Nat} (h : m ≤ k) : cf_s f k m = cf_s f (k + 1) m := by
  unfold cf_s
  rw [if_pos (show m < k + 1 by omega)]
  by_cases e : m < k
  · rw [if_pos e]
  · obtain rfl : m = k := by omega
    rw [if_neg e, Nat.sub_self]
theorem cf_end {f : Nat → Int32} {m : Nat} (h : m < 5) : cf_s f 4 m = pd_it f m 0 := by
  rw [cf_low (by omega)]
  exact if_pos h
def cf_T (V : Nat) (c : Nat → Int32) (T : Nat → Nat → Int32) : Prop := ∀ m v, m < 5 → v < V → c (m * 8 + v) = T m v
theorem cf_u {V m v : Nat} (hV : V ≤ 8) {c : Nat → Int32} {T T' : Nat → Nat → Int32} {x : Int32} (h : cf_T V c T) (hv : v < V) (hx : x = T' m v) (ho : ∀ a b, ¬ (a = m ∧ b = v) → T a b = T' a b) : cf_T V (upd c (m * 8 + v) x) T' := by
  intro a b ha hb
  unfold upd
  by_cases e : a = m ∧ b = v
  · rw [e.1, e.2, if_pos rfl]; exact hx
  · rw [if_neg (by omega), h a b ha hb]; exact ho a b e
theorem cf_ix (m v : Nat) : nI m * 8 + nI v = nI (m * 8 + v) := by
  rw [show (8 : Int32) = nI 8 from rfl, pk_mul, nI_add]
theorem cf_ix2 (m v : Nat) : nI (m + 1) * 8 - 8 + nI v = nI (m * 8 + v) := by
  rw [show (8 : Int32) = nI 8 from rfl, pk_mul, pk_sub (by omega), nI_add]
  exact congrArg nI (by omega)
section
variable {f_self f_lost f_vars f_room f_bits f_mask f_count f_exitRel f_exitVar f_exitBound f_liveBits f_shapeNow f_formed : Int32} {a_ops a_dsts a_lefts a_rights a_store a_work a_marks a_degrees a_ends a_coef a_stackStep a_stackSize a_stackLow : Nat → Int32}
theorem xw_di9 {post : SX → Prop} {J : Int32 → (Nat → Int32) → (Nat → Int32) → (Nat → Int32) → (Nat → Int32) → (Nat → Int32) → (Nat → Int32) → (Nat → Int32) → (Nat → Int32) → (Nat → Int32) → (Nat → Int32) → (Nat → Int32) → (Nat → Int32) → (Nat → Int32) → Prop} {V C v k : Nat} (hV : V ≤ 8) (hv : v < V) (hk : k < 4) {f : Nat → Int32} {T : Nat → Nat → Int32}
    (hp : ∀ c, cf_T V c (fun a b => if b = v then cf_s f (k + 1) a else T a b) → J (nI (k + 2)) a_ops a_dsts a_lefts a_rights a_store a_work a_marks a_degrees a_ends c a_stackStep a_stackSize a_stackLow) :
    ∀ n m c, k ≤ m → m < 5 → m < n + k → cf_T V c (fun a b => if b = v then (if m < a then cf_s f (k + 1) a else cf_s f k a) else T a b) → wX_difference_9 post J (nI v) (nI (k + 1)) f_self f_lost (nI V) f_room f_bits f_mask (nI C) f_exitRel f_exitVar f_exitBound f_liveBits f_shapeNow f_formed n (nI m) a_ops a_dsts a_lefts a_rights a_store a_work a_marks a_degrees a_ends c a_stackStep a_stackSize a_stackLow := by
  intro n
  induction n with
  | zero => intro m c h1 h2 h3; omega
  | succ n ih =>
    intro m c h1 h2 h3 hc
    rcases Nat.lt_or_ge m (k + 1) with h | h
    · obtain rfl : m = k := by omega
      refine br_t (nI_lt (by omega) (by omega)) (nm_r (nI_1 _) (hp c ?_))
      intro a b ha hb
      rw [hc a b ha hb]
      dsimp only
      by_cases e : b = v
      · rw [if_pos e, if_pos e]
        by_cases z : m < a
        · rw [if_pos z]
        · rw [if_neg z]; exact cf_low (by omega)
      · rw [if_neg e, if_neg e]
    · obtain ⟨m, rfl⟩ : ∃ q, m = q + 1 := ⟨m - 1, by omega⟩
      have x1 : (nI ((m + 1) * 8 + v)).toNatClampNeg = (m + 1) * 8 + v := nI_clamp (by omega)
      have x2 : (nI (m * 8 + v)).toNatClampNeg = m * 8 + v := nI_clamp (by omega)
      simp only [wX_difference_9, cf_ix, cf_ix2, x1, x2]
      refine br_f (nI_nlt (by omega) (by omega)) ⟨vp_in_nI (by omega) (by omega), vp_in_nI (by omega) (by omega), vp_in_nI (by omega) (by omega), ?_⟩
      intro c' ec x' ex
      rw [pk_m1] at ex
      subst ec ex
      refine ih m _ (by omega) (by omega) (by omega) ?_
      refine cf_u hV hc hv ?_ (fun a b hab => ?_)
      · rw [hc (m + 1) v (by omega) hv, hc m v (by omega) hv]
        dsimp only
        rw [if_pos rfl, if_pos rfl, if_pos rfl, if_neg (by omega), if_neg (by omega), if_pos (by omega)]
        exact cf_step (by omega)
      · by_cases e : b = v
        · rw [if_pos e, if_pos e]
          by_cases z : m < a
          · rw [if_pos z, if_pos (by omega)]
          · rw [if_neg z, if_neg (by omega)]
        · rw [if_neg e, if_neg e]
theorem xw_di2 {post : SX → Prop} {V C v : Nat} (hV : V ≤ 8) (hv : v < V) {f : Nat → Int32} {T : Nat → Nat → Int32}
    (hp : ∀ c, cf_T V c (fun a b => if b = v then pd_it f a 0 else T a b) → post (f_self, f_lost, nI V, f_room, f_bits, f_mask, nI C, f_exitRel, f_exitVar, f_exitBound, f_liveBits, f_shapeNow, f_formed, a_ops, a_dsts, a_lefts, a_rights, a_store, a_work, a_marks, a_degrees, a_ends, c, a_stackStep, a_stackSize, a_stackLow)) :
    ∀ n k c, k ≤ 4 → 4 - k < n → cf_T V c (fun a b => if b = v then cf_s f k a else T a b) → wX_difference_2 post (nI v) f_self f_lost (nI V) f_room f_bits f_mask (nI C) f_exitRel f_exitVar f_exitBound f_liveBits f_shapeNow f_formed n (nI (k + 1)) a_ops a_dsts a_lefts a_rights a_store a_work a_marks a_degrees a_ends c a_stackStep a_stackSize a_stackLow := by
  intro n
  induction n with
  | zero => intro k c _ h; omega
  | succ n ih =>
    intro k c hk hn hc
    rcases Nat.lt_or_ge k 4 with h | h
    · refine br_f (nI_ge (b := 5) (by omega) (by omega)) ⟨5, ?_⟩
      refine xw_di9 hV hv h (fun c' hc' => ih (k + 1) c' (by omega) (by omega) hc') 5 4 c (by omega) (by omega) (by omega) ?_
      intro a b ha hb
      rw [hc a b ha hb]
      dsimp only
      by_cases e : b = v
      · rw [if_pos e, if_pos e, if_neg (by omega)]
      · rw [if_neg e, if_neg e]
    · obtain rfl : k = 4 := by omega
      refine br_t (nI_le (a := 5) (by omega) (by omega)) (hp c ?_)
      intro a b ha hb
      rw [hc a b ha hb]
      dsimp only
      by_cases e : b = v
      · rw [if_pos e, if_pos e]; exact cf_end ha
      · rw [if_neg e, if_neg e]
theorem xw_di {post : SX → Prop} {V C v : Nat} (hV : V ≤ 8) (hv : v < V) {T : Nat → Nat → Int32} (hc : cf_T V a_coef T)
    (hp : ∀ c, cf_T V c (fun a b => if b = v then pd_it (fun m => T m v) a 0 else T a b) → post (f_self, f_lost, nI V, f_room, f_bits, f_mask, nI C, f_exitRel, f_exitVar, f_exitBound, f_liveBits, f_shapeNow, f_formed, a_ops, a_dsts, a_lefts, a_rights, a_store, a_work, a_marks, a_degrees, a_ends, c, a_stackStep, a_stackSize, a_stackLow)) : wpX_difference post (f_self, f_lost, nI V, f_room, f_bits, f_mask, nI C, f_exitRel, f_exitVar, f_exitBound, f_liveBits, f_shapeNow, f_formed, a_ops, a_dsts, a_lefts, a_rights, a_store, a_work, a_marks, a_degrees, a_ends, a_coef, a_stackStep, a_stackSize, a_stackLow) (nI v) := by
  refine ⟨5, xw_di2 hV hv hp 5 0 a_coef (by omega) (by omega) ?_⟩
  intro a b ha hb
  rw [hc a b ha hb]
  dsimp only
  by_cases e : b = v
  · rw [if_pos e, e]; rfl
  · rw [if_neg e]
/-- the coefficients are the differences of the heads behind head 0 -/
def cf_ok (V C : Nat) (o d l r s c : Nat → Int32) : Prop := cf_T V c (fun m v => pd_it (fun n => hd_ o d l r C s (n + 1) v) m 0)
theorem xw_fa64 {post : SX → Prop} {V C : Nat} (hV : V ≤ 8) {T : Nat → Nat → Int32}
    (hp : ∀ c, cf_T V c (fun a b => pd_it (fun m => T m b) a 0) → post (f_self, f_lost, nI V, f_room, f_bits, f_mask, nI C, f_exitRel, f_exitVar, f_exitBound, f_liveBits, f_shapeNow, 1, a_ops, a_dsts, a_lefts, a_rights, a_store, a_work, a_marks, a_degrees, a_ends, c, a_stackStep, a_stackSize, a_stackLow)) :
    ∀ n i c, i ≤ V → V - i < n → cf_T V c (fun a b => if b < i then pd_it (fun m => T m b) a 0 else T a b) → wX_formAll_64 post n (nI i) f_self f_lost (nI V) f_room f_bits f_mask (nI C) f_exitRel f_exitVar f_exitBound f_liveBits f_shapeNow f_formed a_ops a_dsts a_lefts a_rights a_store a_work a_marks a_degrees a_ends c a_stackStep a_stackSize a_stackLow := by
  intro n
  induction n with
  | zero => intro i c _ h; omega
  | succ n ih =>
    intro i c hi hn hc
    rcases Nat.lt_or_ge i V with h | h
    · refine br_f (nI_ge h (by omega)) (xw_di hV h hc (fun c' hc' => ?_))
      refine nm_r (nI_1 i) (ih (i + 1) c' (by omega) (by omega) ?_)
      intro a b ha hb
      rw [hc' a b ha hb]
      dsimp only
      by_cases e : b = i
      · subst e
        rw [if_pos rfl, if_pos (by omega)]
        congr 1
        funext m
        rw [if_neg (by omega)]
      · rw [if_neg e]
        by_cases z : b < i
        · rw [if_pos z, if_pos (by omega)]
        · rw [if_neg z, if_neg (by omega)]
    · obtain rfl : i = V := by omega
      refine br_t (nI_le (by omega) (by omega)) (hp c ?_)
      intro a b ha hb
      rw [hc a b ha hb]
      exact if_pos hb
theorem xw_fa25 {post : SX → Prop} {J : Int32 → Int32 → Int32 → Int32 → Int32 → Int32 → Int32 → Int32 → Int32 → Int32 → Int32 → Int32 → Int32 → Int32 → (Nat → Int32) → (Nat → Int32) → (Nat → Int32) → (Nat → Int32) → (Nat → Int32) → (Nat → Int32) → (Nat → Int32) → (Nat → Int32) → (Nat → Int32) → (Nat → Int32) → (Nat → Int32) → (Nat → Int32) → (Nat → Int32) → Prop} {V C m : Nat} (hV : V ≤ 8) (hm : m < 5) {T : Nat → Nat → Int32} (hw : ag_ V a_work (T m))
    (hp : ∀ c, (∀ a b, a < m + 1 → b < V → c (a * 8 + b) = T a b) → J (nI (m + 1)) f_self f_lost (nI V) f_room f_bits f_mask (nI C) f_exitRel f_exitVar f_exitBound f_liveBits f_shapeNow f_formed a_ops a_dsts a_lefts a_rights a_store a_work a_marks a_degrees a_ends c a_stackStep a_stackSize a_stackLow) :
    ∀ n i c, i ≤ V → V - i < n → (∀ a b, (a < m ∨ (a = m ∧ b < i)) → b < V → c (a * 8 + b) = T a b) → wX_formAll_25 post J (nI m) f_self f_lost (nI V) f_room f_bits f_mask (nI C) f_exitRel f_exitVar f_exitBound f_liveBits f_shapeNow f_formed n (nI i) a_ops a_dsts a_lefts a_rights a_store a_work a_marks a_degrees a_ends c a_stackStep a_stackSize a_stackLow := by
  intro n
  induction n with
  | zero => intro i c _ h; omega
  | succ n ih =>
    intro i c hi hn hc
    rcases Nat.lt_or_ge i V with h | h
    · have hx : (nI i).toNatClampNeg = i := nI_clamp (by omega)
      have hv : vp_in (nI i) 8 := vp_in_nI (by omega) (by omega)
      have x1 : (nI (m * 8 + i)).toNatClampNeg = m * 8 + i := nI_clamp (by omega)
      simp only [wX_formAll_25, cf_ix, hx, x1]
      refine br_f (nI_ge h (by omega)) ⟨hv, vp_in_nI (by omega) (by omega), ?_⟩
      intro c' ec x' ex
      subst ec ex
      rw [nI_1]
      refine ih (i + 1) _ (by omega) (by omega) ?_
      intro a b hab hb
      unfold upd
      by_cases e : a = m ∧ b = i
      · rw [e.1, e.2, if_pos rfl]; exact hw i h
      · rw [if_neg (by omega)]; exact hc a b (by omega) hb
    · obtain rfl : i = V := by omega
      refine br_t (nI_le (by omega) (by omega)) (nm_r (nI_1 m) (hp c ?_))
      intro a b ha hb
      exact hc a b (by omega) hb
theorem xw_fa14 {post : SX → Prop} {V C : Nat} (hV : V ≤ 8) (hC : C ≤ 12) (K : bd_ok V C a_ops a_dsts a_lefts a_rights)
    (hp : ∀ w c, cf_ok V C a_ops a_dsts a_lefts a_rights a_store c → post (f_self, f_lost, nI V, f_room, f_bits, f_mask, nI C, f_exitRel, f_exitVar, f_exitBound, f_liveBits, f_shapeNow, 1, a_ops, a_dsts, a_lefts, a_rights, a_store, w, a_marks, a_degrees, a_ends, c, a_stackStep, a_stackSize, a_stackLow)) :
    ∀ n m w c, m ≤ 5 → 5 - m < n → ag_ V w (hd_ a_ops a_dsts a_lefts a_rights C a_store m) → (∀ a b, a < m → b < V → c (a * 8 + b) = hd_ a_ops a_dsts a_lefts a_rights C a_store (a + 1) b) → wX_formAll_14 post n (nI m) f_self f_lost (nI V) f_room f_bits f_mask (nI C) f_exitRel f_exitVar f_exitBound f_liveBits f_shapeNow f_formed a_ops a_dsts a_lefts a_rights a_store w a_marks a_degrees a_ends c a_stackStep a_stackSize a_stackLow := by
  intro n
  induction n with
  | zero => intro m w c _ h; omega
  | succ n ih =>
    intro m w c hm hn hw hc
    rcases Nat.lt_or_ge m 5 with h | h
    · refine br_f (nI_ge (b := 5) (by omega) (by omega)) (xw_ps hV hC K hw (fun w' hw' => ?_))
      dsimp only
      refine ⟨V + 1, xw_fa25 (T := fun a => hd_ a_ops a_dsts a_lefts a_rights C a_store (a + 1)) hV h hw' (fun c' hc' => ih (m + 1) w' c' (by omega) (by omega) hw' hc') (V + 1) 0 c (by omega) (by omega) ?_⟩
      intro a b hab hb
      exact hc a b (by omega) hb
    · obtain rfl : m = 5 := by omega
      refine br_t (nI_le (a := 5) (by omega) (by omega)) ⟨V + 1, xw_fa64 (T := fun a => hd_ a_ops a_dsts a_lefts a_rights C a_store (a + 1)) hV (fun c' hc' => hp w c' hc') (V + 1) 0 c (by omega) (by omega) ?_⟩
      intro a b ha hb
      dsimp only
      rw [if_neg (by omega)]
      exact hc a b ha hb
theorem xw_fa {post : SX → Prop} {V C : Nat} (hV : V ≤ 8) (hC : C ≤ 12) (K : bd_ok V C a_ops a_dsts a_lefts a_rights) (hf : ¬ f_formed = 0 → cf_ok V C a_ops a_dsts a_lefts a_rights a_store a_coef)
    (hp : ∀ q w c, cf_ok V C a_ops a_dsts a_lefts a_rights a_store c → post (f_self, f_lost, nI V, f_room, f_bits, f_mask, nI C, f_exitRel, f_exitVar, f_exitBound, f_liveBits, f_shapeNow, q, a_ops, a_dsts, a_lefts, a_rights, a_store, w, a_marks, a_degrees, a_ends, c, a_stackStep, a_stackSize, a_stackLow)) : wpX_formAll post (f_self, f_lost, nI V, f_room, f_bits, f_mask, nI C, f_exitRel, f_exitVar, f_exitBound, f_liveBits, f_shapeNow, f_formed, a_ops, a_dsts, a_lefts, a_rights, a_store, a_work, a_marks, a_degrees, a_ends, a_coef, a_stackStep, a_stackSize, a_stackLow) := by
  refine br_c (fun h => ?_) (fun h => hp f_formed a_work a_coef (hf h))
  refine xw_lw hV (fun w hw => ?_)
  dsimp only
  exact ⟨6, xw_fa14 hV hC K (fun w c hc => hp 1 w c hc) 6 0 w a_coef (by omega) (by omega) hw (fun a b h => absurd h (by omega))⟩
theorem hv_b {N k : Nat} (hN : N ≤ 1022) (hk : k ≤ 3) : ch_ N k * (N - k) < 2 ^ 63 := by
  have h1 := ch_bnd N k
  have h2 : (N + 1) ^ k ≤ 1023 ^ k := Nat.pow_le_pow_left (by omega) k
  have h3 : 1023 ^ k ≤ 1023 ^ 3 := Nat.pow_le_pow_right (by decide) hk
  have h4 : ch_ N k * (N - k) ≤ 1023 ^ 3 * 1023 := Nat.mul_le_mul (by omega) (by omega)
  exact Nat.lt_of_le_of_lt h4 (by decide)
theorem hv_st {N k : Nat} (hN : N ≤ 1022) (hk : k ≤ 3) : lN (ch_ N k) * (nI (N + 1) - nI (k + 1)).toInt64 / (nI (k + 1)).toInt64 = lN (ch_ N (k + 1)) := by
  rw [nI_l (n := k + 1) (by omega)]
  rcases Nat.lt_or_ge N k with h | h
  · rw [ch_big h, ch_big (show N < k + 1 by omega)]
    have e : lN 0 * (nI (N + 1) - nI (k + 1)).toInt64 = lN 0 := by
      rw [show lN 0 = 0 from rfl]; grind
    rw [e, pk_lDiv (by omega) (by omega) (by omega), Nat.zero_div]
  · rw [pk_sub (by omega), show N + 1 - (k + 1) = N - k from by omega, nI_l (by omega), lN_mul, pk_lDiv (hv_b hN hk) (by omega) (by omega), ch_step N k h]
theorem xw_hv24 {post : Int32 → Prop} {V C v N : Nat} (hV : V ≤ 8) (hv : v < V) (hN : N ≤ 1022) {f : Nat → Int32} (hc : ∀ m, m < 5 → a_coef (m * 8 + v) = pd_it f m 0) (hp : post (pd_S f N 5)) :
    ∀ n k, k ≤ 4 → 4 - k < n → wX_headValue_24 post (nI v) (nI (N + 1)) f_self f_lost (nI V) f_room f_bits f_mask (nI C) f_exitRel f_exitVar f_exitBound f_liveBits f_shapeNow f_formed a_ops a_dsts a_lefts a_rights a_store a_work a_marks a_degrees a_ends a_coef a_stackStep a_stackSize a_stackLow n (lN (ch_ N k)) (pd_S f N (k + 1)) (nI (k + 1)) := by
  intro n
  induction n with
  | zero => intro k _ h; omega
  | succ n ih =>
    intro k hk hn
    rcases Nat.lt_or_ge k 4 with h | h
    · have x1 : (nI ((k + 1) * 8 + v)).toNatClampNeg = (k + 1) * 8 + v := nI_clamp (by omega)
      simp only [wX_headValue_24, cf_ix, x1, hv_st hN (show k ≤ 3 by omega)]
      refine br_f (nI_ge (b := 5) (by omega) (by omega)) ⟨?_, ?_⟩
      · rw [nI_l (by omega), show (0 : Int64) = lN 0 from rfl, lN_eq (by omega) (by omega)]; omega
      · intro y ey
        subst ey
        refine ⟨vp_in_nI (by omega) (by omega), ?_⟩
        rw [lN_i, hc (k + 1) (by omega)]
        refine nm_r (e' := pd_S f N (k + 2)) ?_ (nm_r (nI_1 _) (ih (k + 1) (by omega) (by omega)))
        show _ = pd_S f N (k + 1) + nI (ch_ N (k + 1)) * pd_it f (k + 1) 0
        grind
    · obtain rfl : k = 4 := by omega
      exact br_t (nI_le (a := 5) (by omega) (by omega)) hp
theorem xw_hv {post : Int32 → Prop} {V C v n : Nat} (hV : V ≤ 8) (hC : C ≤ 12) (hv : v < V) (hn : n ≤ 1023) (K : bd_ok V C a_ops a_dsts a_lefts a_rights) {s : Nat → Int32} (hs : a_store v = s v) (hc : cf_ok V C a_ops a_dsts a_lefts a_rights s a_coef) (he : mk_E a_ops a_dsts a_lefts a_rights C V v ≠ 5)
    (hp : post (hd_ a_ops a_dsts a_lefts a_rights C s n v)) : wpX_headValue post (f_self, f_lost, nI V, f_room, f_bits, f_mask, nI C, f_exitRel, f_exitVar, f_exitBound, f_liveBits, f_shapeNow, f_formed, a_ops, a_dsts, a_lefts, a_rights, a_store, a_work, a_marks, a_degrees, a_ends, a_coef, a_stackStep, a_stackSize, a_stackLow) (nI v) (nI n) := by
  have hx : (nI v).toNatClampNeg = v := nI_clamp (by omega)
  unfold wpX_headValue
  dsimp only
  simp only [hx]
  refine pk_eq n 0 (fun h => ?_) (fun h => ?_)
  · subst h
    rw [hs]
    exact ⟨vp_in_nI (by omega) (by omega), hp⟩
  · obtain ⟨N, rfl⟩ : ∃ N, n = N + 1 := ⟨n - 1, by omega⟩
    have hc2 : ∀ m, m < 5 → a_coef (m * 8 + v) = pd_it (fun n => hd_ a_ops a_dsts a_lefts a_rights C s (n + 1) v) m 0 := fun m hm => hc m v hm hv
    have P := pd_newton 5 _ (mk_RE s K hC hv he) N
    rw [P] at hp
    have c0 := hc2 0 (by omega)
    rw [Nat.zero_mul, Nat.zero_add] at c0
    refine ⟨vp_in_nI (by omega) (by omega), ?_⟩
    refine nm_r (e' := pd_S (fun n => hd_ a_ops a_dsts a_lefts a_rights C s (n + 1) v) N 1) ?_ ⟨5, ?_⟩
    · rw [c0]
      show _ = 0 + nI (ch_ N 0) * _
      rw [ch_n0, show nI 1 = 1 from rfl]
      grind
    · have q := xw_hv24 (f_self := f_self) (f_lost := f_lost) (f_room := f_room) (f_bits := f_bits) (f_mask := f_mask) (f_exitRel := f_exitRel) (f_exitVar := f_exitVar) (f_exitBound := f_exitBound) (f_liveBits := f_liveBits) (f_shapeNow := f_shapeNow) (f_formed := f_formed) (a_ops := a_ops) (a_dsts := a_dsts) (a_lefts := a_lefts) (a_rights := a_rights) (a_store := a_store) (a_work := a_work) (a_marks := a_marks) (a_degrees := a_degrees) (a_ends := a_ends) (a_stackStep := a_stackStep) (a_stackSize := a_stackSize) (a_stackLow := a_stackLow) (C := C) hV hv (show N ≤ 1022 by omega) hc2 hp 5 0 (by omega) (by omega)
      rw [ch_n0] at q
      exact q
end
end
section
/-! X: the closed forms of the trip count -/
theorem md_2 {x M : Nat} (h : x < 2 * M) : x % M = if x < M then x else x - M := by
  split
  · rename_i z; exact Nat.mod_eq_of_lt z
  · rename_i z
    rw [Nat.mod_eq_sub_mod (by omega), Nat.mod_eq_of_lt (by omega)]
theorem md_eq {p q t M : Nat} (hp : p < M) (hq : q < M) : (p + t) % M = q ↔ t % M = (q + (M - p)) % M := by
  rw [← Nat.add_mod_mod]
  have ht : t % M < M := Nat.mod_lt _ (by omega)
  generalize t % M = u at *
  rw [md_2 (show p + u < 2 * M by omega), md_2 (show q + (M - p) < 2 * M by omega)]
  split <;> split <;> omega
theorem md_in {p lo hi t M : Nat} (hp : p < M) (hl : lo ≤ hi) (hh : hi < M) (ho : p < lo ∨ hi < p) :
    (lo ≤ (p + t) % M ∧ (p + t) % M ≤ hi ↔ (lo + (M - p)) % M ≤ t % M ∧ t % M ≤ (hi + (M - p)) % M) ∧ 1 ≤ (lo + (M - p)) % M ∧ (lo + (M - p)) % M ≤ (hi + (M - p)) % M ∧ (hi + (M - p)) % M < M := by
  rw [← Nat.add_mod_mod]
  have ht : t % M < M := Nat.mod_lt _ (by omega)
  generalize t % M = u at *
  rw [md_2 (show p + u < 2 * M by omega), md_2 (show lo + (M - p) < 2 * M by omega), md_2 (show hi + (M - p) < 2 * M by omega)]
  split <;> split <;> split <;> omega
def fq_ (p : Nat × Nat × Nat × Nat) : Nat → Nat × Nat × Nat × Nat
  | 0 => p
  | i + 1 => ((fq_ p i).2.1 % (fq_ p i).1, (fq_ p i).1, (fq_ p i).1 - (fq_ p i).2.2.2 % (fq_ p i).1, (fq_ p i).1 - (fq_ p i).2.2.1 % (fq_ p i).1)
def fq_ok (p : Nat × Nat × Nat × Nat) : Prop := fh_ok p.1 p.2.1 p.2.2.1 p.2.2.2
def fq_H (p : Nat × Nat × Nat × Nat) (n : Nat) : Prop := fh_H p.1 p.2.1 p.2.2.1 p.2.2.2 n
def fq_L (p : Nat × Nat × Nat × Nat) (n : Nat) : Prop := fh_L p.1 p.2.1 p.2.2.1 p.2.2.2 n
def fq_no (p : Nat × Nat × Nat × Nat) : Prop := 0 < p.1 ∧ p.2.2.2 < (p.2.2.1 + p.1 - 1) / p.1 * p.1
theorem fq_all {p : Nat × Nat × Nat × Nat} (h : fq_ok p) (h10 : p.2.1 ≤ 1024) : ∀ i, (∀ j, j < i → fq_no (fq_ p j)) →
    fq_ok (fq_ p i) ∧ (fq_ p i).2.1 * 2 ^ (i / 2) ≤ 1024 ∧ (fq_ p i).1 * 2 ^ ((i + 1) / 2) ≤ 1024 := by
  intro i
  induction i with
  | zero =>
    intro _
    obtain ⟨k1, k2, k3, k4⟩ := h
    exact ⟨⟨k1, k2, k3, k4⟩, by show p.2.1 * 1 ≤ 1024; omega, by show p.1 * 1 ≤ 1024; omega⟩
  | succ i ih =>
    intro hj
    obtain ⟨a1, a2, a3⟩ := ih (fun j h => hj j (by omega))
    obtain ⟨b1, b2⟩ := hj i (by omega)
    refine ⟨fh_next a1 b1 b2, a3, ?_⟩
    show (fq_ p i).2.1 % (fq_ p i).1 * 2 ^ ((i + 1 + 1) / 2) ≤ 1024
    have h2 := fh_half b1 a1.2.2.2
    rw [show (i + 1 + 1) / 2 = i / 2 + 1 from by omega, Nat.pow_succ, Nat.mul_comm (2 ^ (i / 2)) 2, ← Nat.mul_assoc]
    refine Nat.le_trans (Nat.mul_le_mul_right _ ?_) a2
    omega
theorem fq_sz {p : Nat × Nat × Nat × Nat} (h : fq_ok p) (h10 : p.2.1 ≤ 1024) {i : Nat} (hj : ∀ j, j < i → fq_no (fq_ p j)) : (fq_ p i).2.1 ≤ 1024 := by
  have h1 := (fq_all h h10 i hj).2.1
  have h2 := Nat.two_pow_pos (i / 2)
  exact Nat.le_trans (Nat.le_mul_of_pos_right _ h2) h1
theorem fq_32 {p : Nat × Nat × Nat × Nat} (h : fq_ok p) (h10 : p.2.1 ≤ 1024) (hj : ∀ j, j < 32 → fq_no (fq_ p j)) : False := by
  obtain ⟨a1, a2, -⟩ := fq_all h h10 32 hj
  have a3 : (fq_ p 32).2.1 * 65536 ≤ 1024 := a2
  obtain ⟨k1, k2, k3, k4⟩ := a1
  omega
theorem fq_nn {p : Nat × Nat × Nat × Nat} (h : fq_ok p) (h10 : p.2.1 ≤ 1024) : ∀ i, (∀ j, j < i → fq_no (fq_ p j)) → (∀ n, ¬ fq_H (fq_ p i) n) → ∀ n, ¬ fq_H p n := by
  intro i
  induction i with
  | zero => intro _ h; exact h
  | succ i ih =>
    intro hj hn
    refine ih (fun j h => hj j (by omega)) ?_
    have a1 := (fq_all h h10 i (fun j h => hj j (by omega))).1
    obtain ⟨b1, b2⟩ := hj i (by omega)
    exact fh_none b1 a1.2.1 b2 hn
def fq_st (p : Nat × Nat × Nat × Nat) (A S W : Nat → Int32) (i : Nat) : Prop := ∀ j, j < i → fq_no (fq_ p j) ∧ A j = nI (fq_ p j).1 ∧ S j = nI (fq_ p j).2.1 ∧ W j = nI (fq_ p j).2.2.1
theorem fq_push {p : Nat × Nat × Nat × Nat} {A S W : Nat → Int32} {i : Nat} (h : fq_st p A S W i) (hn : fq_no (fq_ p i)) : fq_st p (upd A i (nI (fq_ p i).1)) (upd S i (nI (fq_ p i).2.1)) (upd W i (nI (fq_ p i).2.2.1)) (i + 1) := by
  intro j hj
  unfold upd
  by_cases e : j = i
  · subst e
    rw [if_pos rfl, if_pos rfl, if_pos rfl]
    exact ⟨hn, rfl, rfl, rfl⟩
  · rw [if_neg e, if_neg e, if_neg e]
    exact h j (by omega)
theorem nI_m1' (i : Nat) : nI i + (-1) = nI i - 1 := by grind
/-- the answer: the least n below M with P n, or ENDLESS -/
def tp_R (P : Nat → Prop) (M : Nat) (r : Int32) : Prop := (∃ n, n < M ∧ P n ∧ (∀ j, j < n → ¬ P j) ∧ r = nI n) ∨ ((∀ j, j < M → ¬ P j) ∧ r = -6)
theorem tp_iff {P Q : Nat → Prop} {M : Nat} {r : Int32} (h : ∀ n, P n ↔ Q n) (t : tp_R P M r) : tp_R Q M r := by
  rcases t with ⟨n, a, b, c, d⟩ | ⟨a, b⟩
  · exact Or.inl ⟨n, a, (h n).mp b, fun j hj hq => c j hj ((h j).mpr hq), d⟩
  · exact Or.inr ⟨fun j hj hq => a j hj ((h j).mpr hq), b⟩
section
variable {f_self f_lost f_vars f_room f_bits f_mask f_count f_exitRel f_exitVar f_exitBound f_liveBits f_shapeNow f_formed : Int32} {a_ops a_dsts a_lefts a_rights a_store a_work a_marks a_degrees a_ends a_coef a_stackStep a_stackSize a_stackLow : Nat → Int32}
theorem xw_cd {post : Int32 → Prop} {V C x a : Nat} (ha : 0 < a) (ha2 : a < 2 ^ 20) (hx : x < 2 ^ 30) (hp : post (nI ((x + a - 1) / a))) : wpX_ceilDiv post (f_self, f_lost, nI V, f_room, f_bits, f_mask, nI C, f_exitRel, f_exitVar, f_exitBound, f_liveBits, f_shapeNow, f_formed, a_ops, a_dsts, a_lefts, a_rights, a_store, a_work, a_marks, a_degrees, a_ends, a_coef, a_stackStep, a_stackSize, a_stackLow) (nI x) (nI a) := by
  have e : nI x + nI a - 1 = nI (x + a - 1) := by
    rw [nI_add, show (1 : Int32) = nI 1 from rfl, pk_sub (by omega)]
  refine br_t (nI_lt (a := 0) ha (by omega)) ⟨nI_ne0 ha (by omega), ?_⟩
  rw [e, pk_div (by omega) ha (by omega)]
  exact hp
theorem xw_cl7 {V C : Nat} {p : Nat × Nat × Nat × Nat} (h : fq_ok p) (h10 : p.2.1 ≤ 1024) : ∀ i n, i ≤ 32 → fq_st p a_stackStep a_stackSize a_stackLow i → fq_L (fq_ p i) n →
    ∃ r, fq_L p r ∧ ∀ post : Int32 → Prop, post (nI r) → ∀ z, i < z → wX_climb_7 post f_self f_lost (nI V) f_room f_bits f_mask (nI C) f_exitRel f_exitVar f_exitBound f_liveBits f_shapeNow f_formed a_ops a_dsts a_lefts a_rights a_store a_work a_marks a_degrees a_ends a_coef a_stackStep a_stackSize a_stackLow z (nI n) (nI i - 1) := by
  intro i
  induction i with
  | zero =>
    intro n _ _ hn
    refine ⟨n, hn, fun post hp z hz => ?_⟩
    obtain ⟨z, rfl⟩ : ∃ q, z = q + 1 := ⟨z - 1, by omega⟩
    exact br_t (by decide) hp
  | succ i ih =>
    intro n hi hs hn
    have hj : ∀ j, j < i → fq_no (fq_ p j) := fun j h => (hs j (by omega)).1
    have hj1 : ∀ j, j < i + 1 → fq_no (fq_ p j) := fun j h => (hs j (by omega)).1
    have a1 := (fq_all h h10 i hj).1
    have sz := fq_sz h h10 hj
    obtain ⟨⟨b1, b2⟩, c1, c2, c3⟩ := hs i (by omega)
    have k1 : n < (fq_ p i).1 := fh_lt hn b1
    obtain ⟨r, hr, H⟩ := ih _ (by omega) (fun j h => hs j (by omega)) (fh_down a1 b1 b2 hn)
    refine ⟨r, hr, fun post hp z hz => ?_⟩
    obtain ⟨z, rfl⟩ : ∃ q, z = q + 1 := ⟨z - 1, by omega⟩
    rw [nI_pred]
    have hx : (nI i).toNatClampNeg = i := nI_clamp (by omega)
    have hv : vp_in (nI i) 32 := vp_in_nI (by omega) (by omega)
    simp only [wX_climb_7, hx, c1, c2, c3]
    refine br_f (nI_pos (by omega)) ⟨hv, hv, ?_⟩
    rw [pk_mul, nI_add]
    refine nm_e ⟨hv, xw_cd (V := V) (C := C) b1 ?_ ?_ ?_⟩
    · have := a1.2.2.2; omega
    · have k2 : (fq_ p i).2.1 * n ≤ 1024 * 1024 := Nat.mul_le_mul sz (by have := a1.2.2.2; omega)
      have := a1.2.1
      have := a1.2.2.1
      omega
    · refine nm_r (nI_m1' i) (H post hp z (by omega))
theorem xw_fh20 {post : Int32 → SX → Prop} {V C : Nat} {p : Nat × Nat × Nat × Nat} (h : fq_ok p) (h10 : p.2.1 ≤ 1024)
    (h1 : ∀ n, fq_L p n → ∀ A S W, post (nI n) (f_self, f_lost, nI V, f_room, f_bits, f_mask, nI C, f_exitRel, f_exitVar, f_exitBound, f_liveBits, f_shapeNow, f_formed, a_ops, a_dsts, a_lefts, a_rights, a_store, a_work, a_marks, a_degrees, a_ends, a_coef, A, S, W)) (h2 : (∀ n, ¬ fq_H p n) → ∀ A S W, post (-6) (f_self, f_lost, nI V, f_room, f_bits, f_mask, nI C, f_exitRel, f_exitVar, f_exitBound, f_liveBits, f_shapeNow, f_formed, a_ops, a_dsts, a_lefts, a_rights, a_store, a_work, a_marks, a_degrees, a_ends, a_coef, A, S, W)) :
    ∀ n i A S W, i ≤ 32 → 32 - i < n → fq_st p A S W i → wX_firstHit_20 post f_self f_lost (nI V) f_room f_bits f_mask (nI C) f_exitRel f_exitVar f_exitBound f_liveBits f_shapeNow f_formed n (nI (fq_ p i).1) (nI (fq_ p i).2.1) (nI (fq_ p i).2.2.1) (nI (fq_ p i).2.2.2) (nI i) a_ops a_dsts a_lefts a_rights a_store a_work a_marks a_degrees a_ends a_coef A S W := by
  intro n
  induction n with
  | zero => intro i A S W _ h; omega
  | succ n ih =>
    intro i A S W hi hn hs
    have hj : ∀ j, j < i → fq_no (fq_ p j) := fun j h => (hs j h).1
    rcases Nat.lt_or_ge i 32 with hl | hl
    · have a1 := (fq_all h h10 i hj).1
      have sz := fq_sz h h10 hj
      have a2 := a1
      obtain ⟨k1, k2, k3, k4⟩ := a2
      have hx : (nI i).toNatClampNeg = i := nI_clamp (by omega)
      have hv : vp_in (nI i) 32 := vp_in_nI (by omega) (by omega)
      rcases Nat.eq_zero_or_pos (fq_ p i).1 with z | z
      · refine br_f (nI_ge (b := 32) (by omega) (by omega)) (br_t ?_ (h2 (fq_nn h h10 i hj ?_) A S W))
        · rw [z]; decide
        · intro m hm
          unfold fq_H at hm
          rw [z] at hm
          exact fh_zero k1 hm
      · have cl : (fq_ p i).2.2.1 + (fq_ p i).1 - 1 < 4096 := by omega
        have cb : ((fq_ p i).2.2.1 + (fq_ p i).1 - 1) / (fq_ p i).1 * (fq_ p i).1 ≤ (fq_ p i).2.2.1 + (fq_ p i).1 - 1 := Nat.div_mul_le_self _ _
        refine br_f (nI_ge (b := 32) (by omega) (by omega)) (br_f (nI_nle z (by omega)) (xw_cd (V := V) (C := C) z (by omega) (by omega) ?_))
        rw [pk_mul]
        refine pk_lt (fq_ p i).2.2.2 _ (fun hlt => ?_) (fun hge => ?_) rfl rfl (by omega) (by omega)
        · simp only [hx]
          refine ⟨hv, nm_e ⟨hv, nm_e ⟨hv, nm_e ?_⟩⟩⟩
          have m1 := Nat.mod_lt (fq_ p i).2.2.2 z
          have m2 := Nat.mod_lt (fq_ p i).2.2.1 z
          rw [pk_rem (by omega) z (by omega), pk_rem (by omega) z (by omega), pk_rem (by omega) z (by omega), pk_sub (by omega), pk_sub (by omega)]
          refine ⟨nI_ne0 z (by omega), nm_e ⟨nI_ne0 z (by omega), nm_e ⟨nI_ne0 z (by omega), nm_e (nm_r (nI_1 i) ?_)⟩⟩⟩
          exact ih (i + 1) _ _ _ (by omega) (by omega) (fq_push hs ⟨z, hlt⟩)
        · obtain ⟨r, hr, H⟩ := xw_cl7 (f_self := f_self) (f_lost := f_lost) (f_room := f_room) (f_bits := f_bits) (f_mask := f_mask) (f_exitRel := f_exitRel) (f_exitVar := f_exitVar) (f_exitBound := f_exitBound) (f_liveBits := f_liveBits) (f_shapeNow := f_shapeNow) (f_formed := f_formed) (a_ops := a_ops) (a_dsts := a_dsts) (a_lefts := a_lefts) (a_rights := a_rights) (a_store := a_store) (a_work := a_work) (a_marks := a_marks) (a_degrees := a_degrees) (a_ends := a_ends) (a_coef := a_coef) (V := V) (C := C) h h10 i _ (by omega) hs (fh_base a1 z hge)
          refine nm_e ⟨i + 1, H _ (h1 r hr A S W) (i + 1) (by omega)⟩
    · obtain rfl : i = 32 := by omega
      exact (fq_32 h h10 hj).elim
theorem xw_fh {post : Int32 → SX → Prop} {V C B a lo hi : Nat} (hB : B ≤ 10) (h : fh_ok a (2 ^ B) lo hi)
    (h1 : ∀ n, fh_L a (2 ^ B) lo hi n → ∀ A S W, post (nI n) (f_self, f_lost, nI V, f_room, f_bits, nI (2 ^ B - 1), nI C, f_exitRel, f_exitVar, f_exitBound, f_liveBits, f_shapeNow, f_formed, a_ops, a_dsts, a_lefts, a_rights, a_store, a_work, a_marks, a_degrees, a_ends, a_coef, A, S, W)) (h2 : (∀ n, ¬ fh_H a (2 ^ B) lo hi n) → ∀ A S W, post (-6) (f_self, f_lost, nI V, f_room, f_bits, nI (2 ^ B - 1), nI C, f_exitRel, f_exitVar, f_exitBound, f_liveBits, f_shapeNow, f_formed, a_ops, a_dsts, a_lefts, a_rights, a_store, a_work, a_marks, a_degrees, a_ends, a_coef, A, S, W)) :
    wpX_firstHit post (f_self, f_lost, nI V, f_room, f_bits, nI (2 ^ B - 1), nI C, f_exitRel, f_exitVar, f_exitBound, f_liveBits, f_shapeNow, f_formed, a_ops, a_dsts, a_lefts, a_rights, a_store, a_work, a_marks, a_degrees, a_ends, a_coef, a_stackStep, a_stackSize, a_stackLow) (nI a) (nI lo) (nI hi) := by
  have p0 := Nat.two_pow_pos B
  have p1 : 2 ^ B ≤ 2 ^ 10 := Nat.pow_le_pow_right (by decide) hB
  have e : nI (2 ^ B - 1) + 1 = nI (2 ^ B) := by
    rw [nI_1, Nat.sub_add_cancel p0]
  refine nm_r e ⟨33, ?_⟩
  exact xw_fh20 (p := (a, 2 ^ B, lo, hi)) h p1 h1 h2 33 0 a_stackStep a_stackSize a_stackLow (by omega) (by omega) (fun j h => absurd h (by omega))
theorem xw_ti {post : Int32 → SX → Prop} {V C B p s lo hi : Nat} (hB : B ≤ 10) (hp : p < 2 ^ B) (hs : s < 2 ^ B) (hl : lo ≤ hi) (hh : hi < 2 ^ B)
    (hr : ∀ r A S W, tp_R (fun n => lo ≤ (p + n * s) % 2 ^ B ∧ (p + n * s) % 2 ^ B ≤ hi) (2 ^ B) r → post r (f_self, f_lost, nI V, f_room, f_bits, nI (2 ^ B - 1), nI C, f_exitRel, f_exitVar, f_exitBound, f_liveBits, f_shapeNow, f_formed, a_ops, a_dsts, a_lefts, a_rights, a_store, a_work, a_marks, a_degrees, a_ends, a_coef, A, S, W)) :
    wpX_tripsInto post (f_self, f_lost, nI V, f_room, f_bits, nI (2 ^ B - 1), nI C, f_exitRel, f_exitVar, f_exitBound, f_liveBits, f_shapeNow, f_formed, a_ops, a_dsts, a_lefts, a_rights, a_store, a_work, a_marks, a_degrees, a_ends, a_coef, a_stackStep, a_stackSize, a_stackLow) (nI p) (nI s) (nI lo) (nI hi) := by
  have p0 := Nat.two_pow_pos B
  have p1 : 2 ^ B ≤ 2 ^ 10 := Nat.pow_le_pow_right (by decide) hB
  have key : p < lo ∨ hi < p → wX_tripsInto_22 post (nI p) (nI s) (nI lo) (nI hi) f_self f_lost (nI V) f_room f_bits (nI (2 ^ B - 1)) (nI C) f_exitRel f_exitVar f_exitBound f_liveBits f_shapeNow f_formed a_ops a_dsts a_lefts a_rights a_store a_work a_marks a_degrees a_ends a_coef a_stackStep a_stackSize a_stackLow := by
    intro ho
    unfold wX_tripsInto_22
    have md := fun t => md_in (t := t) hp hl hh ho
    obtain ⟨-, o1, o2, o3⟩ := md 0
    rw [ar_sub (by omega) (by omega), ar_sub (by omega) (by omega)]
    have eqv : ∀ n, fh_H s (2 ^ B) ((lo + (2 ^ B - p)) % 2 ^ B) ((hi + (2 ^ B - p)) % 2 ^ B) n ↔ lo ≤ (p + n * s) % 2 ^ B ∧ (p + n * s) % 2 ^ B ≤ hi := by
      intro n
      rw [(md (n * s)).1, Nat.mul_comm n s]
      exact Iff.rfl
    refine xw_fh hB ⟨o1, o2, o3, hs⟩ (fun n hn A S W => ?_) (fun hn A S W => ?_)
    · exact hr _ A S W (Or.inl ⟨n, fh_lt hn p0, (eqv n).mp hn.1, fun j hj hq => hn.2 j hj ((eqv j).mpr hq), rfl⟩)
    · exact hr _ A S W (Or.inr ⟨fun j _ hq => hn j ((eqv j).mpr hq), rfl⟩)
  refine br_t (nI_le hl (by omega)) (pk_lt p lo (fun z => key (Or.inl z)) (fun z => pk_lt hi p (fun y => key (Or.inr y)) (fun y => ?_)))
  refine hr _ _ _ _ (Or.inl ⟨0, p0, ?_, fun j h => absurd h (by omega), rfl⟩)
  dsimp only
  rw [Nat.zero_mul, Nat.add_zero, Nat.mod_eq_of_lt hp]
  exact ⟨z, y⟩
theorem xw_iv {post : Int32 → Prop} {V C : Nat} {o : Int32} (hp : post (iv_f o)) : wpX_inverse post (f_self, f_lost, nI V, f_room, f_bits, f_mask, nI C, f_exitRel, f_exitVar, f_exitBound, f_liveBits, f_shapeNow, f_formed, a_ops, a_dsts, a_lefts, a_rights, a_store, a_work, a_marks, a_degrees, a_ends, a_coef, a_stackStep, a_stackSize, a_stackLow) o := by
  refine ⟨4, br_f (by decide) (nm_e (nm_r (e' := 1) rfl (br_f (by decide) (nm_e (nm_r (e' := 2) rfl (br_f (by decide) (nm_e (nm_r (e' := 3) rfl (br_t (by decide) ?_)))))))))⟩
  exact hp
theorem te_msk {B z : Nat} (h : z ≤ B) : (2 ^ B - 1) / 2 ^ z = 2 ^ (B - z) - 1 := by
  have hp : 0 < 2 ^ z := Nat.two_pow_pos z
  have hK : 0 < 2 ^ (B - z) := Nat.two_pow_pos _
  have e : 2 ^ B = 2 ^ (B - z) * 2 ^ z := by rw [← Nat.pow_add]; congr 1; omega
  rw [e]
  obtain ⟨K, hK2⟩ : ∃ K, 2 ^ (B - z) = K + 1 := ⟨2 ^ (B - z) - 1, by omega⟩
  rw [hK2, Nat.add_sub_cancel]
  have e2 : (K + 1) * 2 ^ z = K * 2 ^ z + 2 ^ z := by rw [Nat.add_mul, Nat.one_mul]
  refine Nat.div_eq_of_lt_le ?_ ?_
  · omega
  · omega
theorem xw_te43 {post : Int32 → Prop} {V C B g s o z : Nat} (hB : B ≤ 10) (hg : g < 2 ^ B) (hs : s < 2 ^ B) (e : s = o * 2 ^ z) (ho : o % 2 = 1) (hz : z < B)
    (hr : ∀ r, tp_R (fun n => (n * s) % 2 ^ B = g) (2 ^ B) r → post r) : wX_tripsEqual_43 post (nI g) (nI o) (nI z) f_self f_lost (nI V) f_room f_bits (nI (2 ^ B - 1)) (nI C) f_exitRel f_exitVar f_exitBound f_liveBits f_shapeNow f_formed a_ops a_dsts a_lefts a_rights a_store a_work a_marks a_degrees a_ends a_coef a_stackStep a_stackSize a_stackLow := by
  have p0 := Nat.two_pow_pos B
  have p1 : 2 ^ B ≤ 2 ^ 10 := Nat.pow_le_pow_right (by decide) hB
  have p2 : 2 ^ (B - z) ≤ 2 ^ B := Nat.pow_le_pow_right (by decide) (by omega)
  have p3 := Nat.two_pow_pos (B - z)
  have hm : g % 2 ^ z ≤ g := Nat.mod_le _ _
  unfold wX_tripsEqual_43
  rw [ar_msk (by omega), ar_and _ (by omega)]
  refine pk_eq (g % 2 ^ z) 0 (fun h => xw_iv (V := V) (C := C) (nm_e ?_)) (fun h => ?_)
  · obtain ⟨v, hv, ev⟩ := wb_of32 (iv_f (nI o))
    have io := iv_ok (K := B - z) ho (by omega)
    rw [ev] at io ⊢
    rw [pk_tn hv] at io
    rw [ar_shr (by omega) (by omega), ar_shr (by omega) (by omega), te_msk (by omega), pk_mul, ar_and _ (by omega)]
    obtain ⟨y1, y2⟩ := te_yes e (by omega) h hg io
    have lt : (g / 2 ^ z * v) % 2 ^ (B - z) < 2 ^ (B - z) := Nat.mod_lt _ p3
    exact hr _ (Or.inl ⟨_, by omega, y1, y2, rfl⟩)
  · exact hr _ (Or.inr ⟨fun j _ => te_no e (by omega) h j, rfl⟩)
theorem xw_te18 {post : Int32 → Prop} {V C B g s : Nat} (hB : B ≤ 10) (hg : g < 2 ^ B) (hs : s < 2 ^ B)
    (hr : ∀ r, tp_R (fun n => (n * s) % 2 ^ B = g) (2 ^ B) r → post r) :
    ∀ n o z, s = o * 2 ^ z → 0 < o → B < n + z → wX_tripsEqual_18 post (nI g) f_self f_lost (nI V) f_room (nI B) (nI (2 ^ B - 1)) (nI C) f_exitRel f_exitVar f_exitBound f_liveBits f_shapeNow f_formed a_ops a_dsts a_lefts a_rights a_store a_work a_marks a_degrees a_ends a_coef a_stackStep a_stackSize a_stackLow n (nI o) (nI z) := by
  have p1 : 2 ^ B ≤ 2 ^ 10 := Nat.pow_le_pow_right (by decide) hB
  have zB : ∀ o z, s = o * 2 ^ z → 0 < o → z < B ∧ o ≤ s := by
    intro o z e h0
    constructor
    · rcases Nat.lt_or_ge z B with h | h
      · exact h
      · exfalso
        have h1 : 2 ^ B ≤ 2 ^ z := Nat.pow_le_pow_right (by decide) h
        have h2 : 1 * 2 ^ z ≤ o * 2 ^ z := Nat.mul_le_mul_right _ h0
        omega
    · rw [e]; exact Nat.le_mul_of_pos_right _ (Nat.two_pow_pos z)
  intro n
  induction n with
  | zero =>
    intro o z e h0 h
    have := (zB o z e h0).1
    omega
  | succ n ih =>
    intro o z e h0 h
    obtain ⟨z1, z2⟩ := zB o z e h0
    have ea : nI o &&& 1 = nI (o % 2) := ar_and o (K := 1) (by decide)
    have es : nI o >>> ((1 : Int32) &&& 31) = nI (o / 2) := pk_shrN (by omega) _ 1 (by decide)
    simp only [wX_tripsEqual_18, ea, es]
    refine br_f (nI_ge z1 (by omega)) (pk_eq (o % 2) 0 (fun h2 => ?_) (fun h2 => ?_))
    · refine nm_e (nm_r (nI_1 z) (ih (o / 2) (z + 1) ?_ (by omega) (by omega)))
      rw [e, Nat.pow_succ, Nat.mul_comm (2 ^ z) 2, ← Nat.mul_assoc]
      congr 1
      omega
    · exact xw_te43 hB hg hs e (by omega) z1 hr
theorem xw_te {post : Int32 → Prop} {V C B g s : Nat} (hB : B ≤ 10) (hg : g < 2 ^ B) (hs : s < 2 ^ B)
    (hr : ∀ r, tp_R (fun n => (n * s) % 2 ^ B = g) (2 ^ B) r → post r) : wpX_tripsEqual post (f_self, f_lost, nI V, f_room, nI B, nI (2 ^ B - 1), nI C, f_exitRel, f_exitVar, f_exitBound, f_liveBits, f_shapeNow, f_formed, a_ops, a_dsts, a_lefts, a_rights, a_store, a_work, a_marks, a_degrees, a_ends, a_coef, a_stackStep, a_stackSize, a_stackLow) (nI g) (nI s) := by
  have p0 := Nat.two_pow_pos B
  have p1 : 2 ^ B ≤ 2 ^ 10 := Nat.pow_le_pow_right (by decide) hB
  refine pk_eq g 0 (fun h => ?_) (fun h => pk_eq s 0 (fun h2 => ?_) (fun h2 => ⟨B + 1, ?_⟩))
  · exact hr _ (Or.inl ⟨0, p0, by dsimp only; rw [Nat.zero_mul, Nat.zero_mod, h], fun j hj => absurd hj (by omega), rfl⟩)
  · refine hr _ (Or.inr ⟨fun j _ => ?_, rfl⟩)
    dsimp only
    rw [h2, Nat.mul_zero, Nat.zero_mod]
    omega
  · exact xw_te18 hB hg hs hr (B + 1) s 0 (by rw [Nat.pow_zero, Nat.mul_one]) (by omega) (by omega)
end
end
section
/-! X: solveTrips, takeSolved -/
section
variable {f_self f_lost f_vars f_room f_bits f_mask f_count f_exitRel f_exitVar f_exitBound f_liveBits f_shapeNow f_formed : Int32} {a_ops a_dsts a_lefts a_rights a_store a_work a_marks a_degrees a_ends a_coef a_stackStep a_stackSize a_stackLow : Nat → Int32}
/-- the exit condition of a linear variable against a constant one -/
theorem st_lin {V C B rel ev eb : Nat} {o d l r : Nat → Int32} (s : Nat → Int32) (hB : B ≤ 10) (hC : C ≤ 12) (hv : ev < V) (hb : eb < V) (K : bd_ok V C o d l r) (dv : mk_D o d l r C V ev ≤ 1) (db : mk_D o d l r C V eb = 0) {c : Nat → Int32} (hc : cf_ok V C o d l r s c) (n : Nat) :
    ht_H B rel ev eb (hd_ o d l r C s) n ↔ ht_ rel ((ar_m B (s ev) + n * ar_m B (c (8 + ev))) % 2 ^ B) (ar_m B (s eb)) := by
  have R := mk_RD s K hC
  have P1 : pd_P 2 (fun n => hd_ o d l r C s n ev) := pd_mono ((R ev hv).2 (by omega)) (by omega)
  have P2 : pd_P 1 (fun n => hd_ o d l r C s n eb) := pd_mono ((R eb hb).2 (by omega)) (by omega)
  have e1 := fun n => pd_lin P1 n
  have e2 := pd_const P2 n
  have ec : c (8 + ev) = hd_ o d l r C s 2 ev - hd_ o d l r C s 1 ev := hc 1 ev (by omega) hv
  have ed : hd_ o d l r C s 1 ev - hd_ o d l r C s 0 ev = c (8 + ev) := by
    have q := e1 2
    rw [show nI 2 = 2 from rfl] at q
    rw [ec, q]; grind
  unfold ht_H
  rw [e2, e1 n, ed, ar_lin (by omega)]
  exact Iff.rfl
theorem xw_st {post : Int32 → SX → Prop} {V C B rel ev eb : Nat} (hV : V ≤ 8) (hC : C ≤ 12) (hB : B ≤ 10) (h1 : 1 ≤ rel) (hr : rel < 5) (hv : ev < V) (hb : eb < V) (K : bd_ok V C a_ops a_dsts a_lefts a_rights) (dv : mk_D a_ops a_dsts a_lefts a_rights C V ev ≤ 1) (db : mk_D a_ops a_dsts a_lefts a_rights C V eb = 0)
    (hf : ¬ f_formed = 0 → cf_ok V C a_ops a_dsts a_lefts a_rights a_store a_coef)
    (hp : ∀ x q w c A S W, tp_R (ht_H B rel ev eb (hd_ a_ops a_dsts a_lefts a_rights C a_store)) (2 ^ B) x → cf_ok V C a_ops a_dsts a_lefts a_rights a_store c → post x (f_self, f_lost, nI V, f_room, nI B, nI (2 ^ B - 1), nI C, nI rel, nI ev, nI eb, f_liveBits, f_shapeNow, q, a_ops, a_dsts, a_lefts, a_rights, a_store, w, a_marks, a_degrees, a_ends, c, A, S, W)) :
    wpX_solveTrips post (f_self, f_lost, nI V, f_room, nI B, nI (2 ^ B - 1), nI C, nI rel, nI ev, nI eb, f_liveBits, f_shapeNow, f_formed, a_ops, a_dsts, a_lefts, a_rights, a_store, a_work, a_marks, a_degrees, a_ends, a_coef, a_stackStep, a_stackSize, a_stackLow) := by
  have p0 := Nat.two_pow_pos B
  have p1 : 2 ^ B ≤ 2 ^ 10 := Nat.pow_le_pow_right (by decide) hB
  unfold wpX_solveTrips
  dsimp only
  refine xw_fa hV hC K hf (fun q w c hc => ?_)
  dsimp only
  have x1 : (nI ev).toNatClampNeg = ev := nI_clamp (by omega)
  have x2 : (nI eb).toNatClampNeg = eb := nI_clamp (by omega)
  have x3 : (8 : Int32) + nI ev = nI (8 + ev) := nI_add 8 ev
  have x4 : (nI (8 + ev)).toNatClampNeg = 8 + ev := nI_clamp (by omega)
  simp only [x1, x2, x3, x4, ar_mand (show B ≤ 31 by omega)]
  have eqv := st_lin (B := B) (rel := rel) a_store hB hC hv hb K dv db hc
  have hp2 : ∀ x A S W, tp_R (fun n => ht_ rel ((ar_m B (a_store ev) + n * ar_m B (c (8 + ev))) % 2 ^ B) (ar_m B (a_store eb))) (2 ^ B) x → post x (f_self, f_lost, nI V, f_room, nI B, nI (2 ^ B - 1), nI C, nI rel, nI ev, nI eb, f_liveBits, f_shapeNow, q, a_ops, a_dsts, a_lefts, a_rights, a_store, w, a_marks, a_degrees, a_ends, c, A, S, W) :=
    fun x A S W ht => hp x q w c A S W (tp_iff (fun n => (eqv n).symm) ht) hc
  have l1 := ar_lt B (a_store ev)
  have l2 := ar_lt B (a_store eb)
  have l3 := ar_lt B (c (8 + ev))
  refine ⟨vp_in_nI (by omega) (by omega), nm_e ⟨vp_in_nI (by omega) (by omega), nm_e ⟨vp_in_nI (by omega) (by omega), nm_e ?_⟩⟩⟩
  generalize ar_m B (a_store ev) = p at *
  generalize ar_m B (a_store eb) = u at *
  generalize ar_m B (c (8 + ev)) = s at *
  refine pk_eq rel 1 (fun e => ?_) (fun e1 => pk_eq rel 2 (fun e => ?_) (fun e2 => pk_eq rel 3 (fun e => ?_) (fun e3 => ?_)))
  · have es : nI (ar_m B (nI u - nI p)) = nI ((u + (2 ^ B - p)) % 2 ^ B) := by
      rw [← ar_mand (by omega), ar_sub (by omega) (by omega)]
    rw [es]
    refine xw_te hB (Nat.mod_lt _ p0) l3 (fun x hx => hp2 x _ _ _ (tp_iff (fun n => ?_) hx))
    unfold ht_
    rw [if_pos e]
    exact (md_eq l1 l2).symm
  · refine pk_eq p u (fun h => pk_eq s 0 (fun h2 => ?_) (fun h2 => ?_)) (fun h => ?_)
    · refine hp2 _ _ _ _ (Or.inr ⟨fun j _ => ?_, rfl⟩)
      unfold ht_
      dsimp only
      rw [if_neg (by omega), if_pos e, h2, Nat.mul_zero, Nat.add_zero, Nat.mod_eq_of_lt l1]
      exact fun z => z h
    · refine hp2 _ _ _ _ (Or.inl ⟨1, ?_, ?_, fun j hj => ?_, rfl⟩)
      · omega
      · unfold ht_
        dsimp only
        rw [if_neg (by omega), if_pos e, Nat.one_mul, md_2 (by omega)]
        split <;> omega
      · obtain rfl : j = 0 := by omega
        unfold ht_
        dsimp only
        rw [if_neg (by omega), if_pos e, Nat.zero_mul, Nat.add_zero, Nat.mod_eq_of_lt l1]
        exact fun z => z h
    · refine hp2 _ _ _ _ (Or.inl ⟨0, p0, ?_, fun j hj => absurd hj (by omega), rfl⟩)
      unfold ht_
      dsimp only
      rw [if_neg (by omega), if_pos e, Nat.zero_mul, Nat.add_zero, Nat.mod_eq_of_lt l1]
      exact h
  · rcases Nat.eq_zero_or_pos u with z | z
    · subst z
      refine br_f (by decide) (hp2 _ _ _ _ (Or.inr ⟨fun j _ => ?_, rfl⟩))
      unfold ht_
      dsimp only
      rw [if_neg e1, if_neg e2, if_pos e]
      omega
    · rw [show nI u - 1 = nI (u - 1) from by rw [show (1 : Int32) = nI 1 from rfl, pk_sub (by omega)]]
      refine xw_ti (lo := 0) hB l1 l3 (by omega) (by omega) (fun x A S W hx => hp2 x A S W (tp_iff (fun n => ?_) hx))
      unfold ht_
      rw [if_neg e1, if_neg e2, if_pos e]
      generalize (p + n * s) % 2 ^ B = y
      omega
  · refine xw_ti hB l1 l3 (by omega) (by omega) (fun x A S W hx => hp2 x A S W (tp_iff (fun n => ?_) hx))
    unfold ht_
    rw [if_neg e1, if_neg e2, if_neg e3]
    have := Nat.mod_lt (p + n * s) p0
    generalize (p + n * s) % 2 ^ B = y at *
    omega
theorem xw_tv31 {post : SX → Prop} {V C L N : Nat} (hV : V ≤ 8) (hC : C ≤ 12) (hL : L < 256) (hN : N ≤ 1023) (K : bd_ok V C a_ops a_dsts a_lefts a_rights)
    (hE : ∀ j, j < V → a_ends j = nI (mk_E a_ops a_dsts a_lefts a_rights C V j)) (hc : cf_ok V C a_ops a_dsts a_lefts a_rights a_store a_coef)
    (hw : ∀ j, j < V → L.testBit j = true → mk_E a_ops a_dsts a_lefts a_rights C V j = 5 → a_work j = hd_ a_ops a_dsts a_lefts a_rights C a_store N j)
    (hp : post (f_self, f_lost, nI V, f_room, f_bits, f_mask, nI C, f_exitRel, f_exitVar, f_exitBound, nI L, f_shapeNow, f_formed, a_ops, a_dsts, a_lefts, a_rights, tk_ V L (hd_ a_ops a_dsts a_lefts a_rights C a_store N) a_store, a_work, a_marks, a_degrees, a_ends, a_coef, a_stackStep, a_stackSize, a_stackLow)) :
    ∀ n i, i ≤ V → V - i < n → wX_takeSolved_31 post (nI N) f_self f_lost (nI V) f_room f_bits f_mask (nI C) f_exitRel f_exitVar f_exitBound (nI L) f_shapeNow f_formed n (nI i) a_ops a_dsts a_lefts a_rights (tk_ i L (hd_ a_ops a_dsts a_lefts a_rights C a_store N) a_store) a_work a_marks a_degrees a_ends a_coef a_stackStep a_stackSize a_stackLow := by
  intro n
  induction n with
  | zero => intro i _ h; omega
  | succ n ih =>
    intro i hi hn
    rcases Nat.lt_or_ge i V with h | h
    · have hx : (nI i).toNatClampNeg = i := nI_clamp (by omega)
      have hv : vp_in (nI i) 8 := vp_in_nI (by omega) (by omega)
      have e5 := mk_E5 K hC h
      simp only [wX_takeSolved_31, hx, hE i h]
      refine br_f (nI_ge h (by omega)) (xw_il hL (by omega) (fun t => ?_) (fun t => ?_))
      · refine br_f (by decide) ⟨hv, pk_eq (mk_E a_ops a_dsts a_lefts a_rights C V i) 5 (fun h5 => ⟨hv, hv, ?_⟩) (fun h5 => ?_)⟩
        · intro s' es x' ex
          rw [hw i h t h5, tk_t t] at es
          subst es ex
          rw [nI_1]
          exact ih (i + 1) (by omega) (by omega)
        · refine xw_hv hV hC h hN K (s := a_store) (if_neg (fun z => absurd z.1 (by omega))) hc h5 ⟨hv, ?_⟩
          intro s' es x' ex
          rw [tk_t t] at es
          subst es ex
          rw [nI_1]
          exact ih (i + 1) (by omega) (by omega)
      · refine br_t rfl ?_
        intro x' ex
        rw [tk_f t]
        subst ex
        rw [nI_1]
        exact ih (i + 1) (by omega) (by omega)
    · obtain rfl : i = V := by omega
      exact br_t (nI_le (by omega) (by omega)) hp
theorem xw_tv0 {post : SX → Prop} {V C L N : Nat} (hV : V ≤ 8) (hC : C ≤ 12) (hL : L < 256) (hN : N ≤ 1023) (K : bd_ok V C a_ops a_dsts a_lefts a_rights)
    (hE : ∀ j, j < V → a_ends j = nI (mk_E a_ops a_dsts a_lefts a_rights C V j)) (hc : cf_ok V C a_ops a_dsts a_lefts a_rights a_store a_coef)
    (hw : ∀ j, j < V → L.testBit j = true → mk_E a_ops a_dsts a_lefts a_rights C V j = 5 → a_work j = hd_ a_ops a_dsts a_lefts a_rights C a_store N j)
    (hp : post (f_self, f_lost, nI V, f_room, f_bits, f_mask, nI C, f_exitRel, f_exitVar, f_exitBound, nI L, f_shapeNow, f_formed, a_ops, a_dsts, a_lefts, a_rights, tk_ V L (hd_ a_ops a_dsts a_lefts a_rights C a_store N) a_store, a_work, a_marks, a_degrees, a_ends, a_coef, a_stackStep, a_stackSize, a_stackLow)) : ∃ n, wX_takeSolved_31 post (nI N) f_self f_lost (nI V) f_room f_bits f_mask (nI C) f_exitRel f_exitVar f_exitBound (nI L) f_shapeNow f_formed n 0 a_ops a_dsts a_lefts a_rights a_store a_work a_marks a_degrees a_ends a_coef a_stackStep a_stackSize a_stackLow := by
  refine ⟨V + 1, ?_⟩
  have := xw_tv31 hV hC hL hN K hE hc hw hp (V + 1) 0 (by omega) (by omega)
  rw [tk_0] at this
  exact this
theorem xw_tv14 {post : SX → Prop} {V C L N : Nat} (hV : V ≤ 8) (hC : C ≤ 12) (hL : L < 256) (hN : N ≤ 1023) (K : bd_ok V C a_ops a_dsts a_lefts a_rights)
    (hE : ∀ j, j < V → a_ends j = nI (mk_E a_ops a_dsts a_lefts a_rights C V j)) (hc : cf_ok V C a_ops a_dsts a_lefts a_rights a_store a_coef)
    (hp : ∀ w, post (f_self, f_lost, nI V, f_room, f_bits, f_mask, nI C, f_exitRel, f_exitVar, f_exitBound, nI L, f_shapeNow, f_formed, a_ops, a_dsts, a_lefts, a_rights, tk_ V L (hd_ a_ops a_dsts a_lefts a_rights C a_store N) a_store, w, a_marks, a_degrees, a_ends, a_coef, a_stackStep, a_stackSize, a_stackLow)) :
    ∀ n i w, i ≤ N → N - i < n → ag_ V w (hd_ a_ops a_dsts a_lefts a_rights C a_store i) → wX_takeSolved_14 post (nI N) n (nI i) f_self f_lost (nI V) f_room f_bits f_mask (nI C) f_exitRel f_exitVar f_exitBound (nI L) f_shapeNow f_formed a_ops a_dsts a_lefts a_rights a_store w a_marks a_degrees a_ends a_coef a_stackStep a_stackSize a_stackLow := by
  intro n
  induction n with
  | zero => intro i w _ h; omega
  | succ n ih =>
    intro i w hi hn hw
    rcases Nat.lt_or_ge i N with h | h
    · refine br_f (nI_ge (by omega) (by omega)) (xw_ps hV hC K hw (fun w' hw' => ?_))
      exact nm_r (nI_1 i) (ih (i + 1) w' (by omega) (by omega) hw')
    · obtain rfl : i = N := by omega
      exact br_t (nI_le (by omega) (by omega)) (xw_tv0 hV hC hL hN K hE hc (fun j hj _ _ => hw j hj) (hp w))
theorem xw_tv {post : SX → Prop} {V C L N : Nat} (hV : V ≤ 8) (hC : C ≤ 12) (hL : L < 256) (hN : N ≤ 1023) (K : bd_ok V C a_ops a_dsts a_lefts a_rights)
    (hE : ∀ j, j < V → a_ends j = nI (mk_E a_ops a_dsts a_lefts a_rights C V j)) (hc : cf_ok V C a_ops a_dsts a_lefts a_rights a_store a_coef)
    (hs : ¬ f_shapeNow = 2 → sh_P V L (mk_E a_ops a_dsts a_lefts a_rights C V))
    (hp : ∀ w, post (f_self, f_lost, nI V, f_room, f_bits, f_mask, nI C, f_exitRel, f_exitVar, f_exitBound, nI L, f_shapeNow, f_formed, a_ops, a_dsts, a_lefts, a_rights, tk_ V L (hd_ a_ops a_dsts a_lefts a_rights C a_store N) a_store, w, a_marks, a_degrees, a_ends, a_coef, a_stackStep, a_stackSize, a_stackLow)) : wpX_takeSolved post (f_self, f_lost, nI V, f_room, f_bits, f_mask, nI C, f_exitRel, f_exitVar, f_exitBound, nI L, f_shapeNow, f_formed, a_ops, a_dsts, a_lefts, a_rights, a_store, a_work, a_marks, a_degrees, a_ends, a_coef, a_stackStep, a_stackSize, a_stackLow) (nI N) := by
  refine br_c (fun h => ?_) (fun h => ?_)
  · refine xw_lw hV (fun w hw => ?_)
    dsimp only
    exact ⟨N + 1, xw_tv14 hV hC hL hN K hE hc hp (N + 1) 0 w (by omega) (by omega) hw⟩
  · exact xw_tv0 hV hC hL hN K hE hc (fun j hj t e => absurd e (hs h j hj t)) (hp a_work)
end
end
section
/-! the relation -/
/-- what holds of a folded loop -/
def rl_f (V C rel ev eb L : Nat) (sh fm : Int32) (o d l r s dg en cf : Nat → Int32) : Prop :=
  1 ≤ rel ∧ (∀ j, j < V → dg j = nI (mk_D o d l r C V j)) ∧ (∀ j, j < V → en j = nI (mk_E o d l r C V j)) ∧ (¬ fm = 0 → cf_ok V C o d l r s cf) ∧
  (sh = 3 ∨ ((mk_D o d l r C V ev ≤ 1 ∧ mk_D o d l r C V eb = 0) ∧ ((sh = 1 ∧ sh_P V L (mk_E o d l r C V)) ∨ sh = 2)))
def rl_ (V R B C rel ev eb L : Nat) (sh fm : Int32) (o d l r s dg en cf F : Nat → Int32) : Prop :=
  (2 ≤ V ∧ V ≤ 8 ∧ R ≤ 12 ∧ B ≤ 10 ∧ C ≤ R ∧ rel < 5 ∧ ev < V ∧ eb < V ∧ L < 2 ^ V) ∧ bd_ok V C o d l r ∧ lv_ok V L F ∧
  ((sh = -4 ∧ fm = 0) ∨ (¬ sh = -4 ∧ rl_f V C rel ev eb L sh fm o d l r s dg en cf))
/-- the relation at the head of a turn: equal fields, body and store; the folded parts as rl_f says -/
def i_Rel (k : Nat) (u : SX) (v : SY) : Prop :=
  ∃ (V R B C rel ev eb L : Nat) (xs xl sh fm : Int32) (o d l r s w m dg en cf sa sb sc F h yd yk yg : Nat → Int32), u = (xs, xl, nI V, nI R, nI B, nI (2 ^ B - 1), nI C, nI rel, nI ev, nI eb, nI L, sh, fm, o, d, l, r, s, w, m, dg, en, cf, sa, sb, sc) ∧ v = (nI V, nI R, nI B, nI C, nI rel, nI ev, nI eb, sh, o, d, l, r, s, F, h, yd, yk, yg) ∧ rl_ V R B C rel ev eb L sh fm o d l r s dg en cf F
theorem i_up {k : Nat} {u : SX} {v : SY} (h : i_Rel k u v) : i_Rel (k + 5) u v := h
theorem rl_el {P : SX → SY → Prop} {k : Nat} {u : SX} {v : SY} (I : i_Rel k u v)
    (H : ∀ (V R B C rel ev eb L : Nat) (xs xl sh fm : Int32) (o d l r s w m dg en cf sa sb sc F h yd yk yg : Nat → Int32), rl_ V R B C rel ev eb L sh fm o d l r s dg en cf F → P (xs, xl, nI V, nI R, nI B, nI (2 ^ B - 1), nI C, nI rel, nI ev, nI eb, nI L, sh, fm, o, d, l, r, s, w, m, dg, en, cf, sa, sb, sc) (nI V, nI R, nI B, nI C, nI rel, nI ev, nI eb, sh, o, d, l, r, s, F, h, yd, yk, yg)) : P u v := by
  obtain ⟨V, R, B, C, rel, ev, eb, L, xs, xl, sh, fm, o, d, l, r, s, w, m, dg, en, cf, sa, sb, sc, F, h, yd, yk, yg, rfl, rfl, q⟩ := I
  exact H V R B C rel ev eb L xs xl sh fm o d l r s w m dg en cf sa sb sc F h yd yk yg q
theorem rl_in {k : Nat} {V R B C rel ev eb L : Nat} {xs xl sh fm : Int32} {o d l r s w m dg en cf sa sb sc F h yd yk yg : Nat → Int32} (q : rl_ V R B C rel ev eb L sh fm o d l r s dg en cf F) : i_Rel k (xs, xl, nI V, nI R, nI B, nI (2 ^ B - 1), nI C, nI rel, nI ev, nI eb, nI L, sh, fm, o, d, l, r, s, w, m, dg, en, cf, sa, sb, sc) (nI V, nI R, nI B, nI C, nI rel, nI ev, nI eb, sh, o, d, l, r, s, F, h, yd, yk, yg) :=
  ⟨V, R, B, C, rel, ev, eb, L, xs, xl, sh, fm, o, d, l, r, s, w, m, dg, en, cf, sa, sb, sc, F, h, yd, yk, yg, rfl, rfl, q⟩
theorem rl_L {V L : Nat} (h : L < 2 ^ V) (hV : V ≤ 8) : L < 256 := Nat.lt_of_lt_of_le h (Nat.pow_le_pow_right (by decide) hV : 2 ^ V ≤ 2 ^ 8)
/-! the constructors -/
def cl_ (p a b : Int32) : Int32 := if a ≤ p then (if p ≤ b then p else b) else a
theorem cl_of {a b : Nat} (h : a ≤ b) (hb : b < 2 ^ 31) (p : Int32) : ∃ j, a ≤ j ∧ j ≤ b ∧ cl_ p (nI a) (nI b) = nI j := by
  unfold cl_
  by_cases h1 : nI a ≤ p
  · rw [if_pos h1]
    by_cases h2 : p ≤ nI b
    · rw [if_pos h2]
      have h3 : ¬ p < 0 := Int32.not_lt.mpr (Int32.le_trans (nI_pos' (by omega)) h1)
      obtain ⟨j, hj, rfl⟩ := nI_of h3
      rw [nI_leI (by omega) hj] at h1
      rw [nI_leI hj hb] at h2
      exact ⟨j, h1, h2, rfl⟩
    · rw [if_neg h2]; exact ⟨b, h, Nat.le_refl b, rfl⟩
  · rw [if_neg h1]; exact ⟨a, Nat.le_refl a, h, rfl⟩
section
variable {f_self f_lost f_vars f_room f_bits f_mask f_count f_exitRel f_exitVar f_exitBound f_liveBits f_shapeNow f_formed : Int32} {a_ops a_dsts a_lefts a_rights a_store a_work a_marks a_degrees a_ends a_coef a_stackStep a_stackSize a_stackLow : Nat → Int32}
theorem xw_clm {post : Int32 → Prop} {p a b : Int32} (hp : post (cl_ p a b)) : wpX_clamp post (f_self, f_lost, f_vars, f_room, f_bits, f_mask, f_count, f_exitRel, f_exitVar, f_exitBound, f_liveBits, f_shapeNow, f_formed, a_ops, a_dsts, a_lefts, a_rights, a_store, a_work, a_marks, a_degrees, a_ends, a_coef, a_stackStep, a_stackSize, a_stackLow) p a b := by
  unfold cl_ at hp
  refine br_c (fun h => ?_) (fun h => ?_)
  · rw [if_pos h] at hp
    refine br_c (fun h2 => ?_) (fun h2 => ?_)
    · rw [if_pos h2] at hp; exact hp
    · rw [if_neg h2] at hp; exact hp
  · rw [if_neg h] at hp; exact hp
end
section
variable {f_vars f_room f_bits f_count f_exitRel f_exitVar f_exitBound f_shapeNow : Int32} {a_ops a_dsts a_lefts a_rights a_store a_isLive a_head a_deg a_markKind a_markDeg : Nat → Int32}
theorem yw_i157 {post : SY → Prop} {x3 z : Int32} (hp : post (f_vars, z, cl_ x3 3 10, f_count, f_exitRel, f_exitVar, f_exitBound, f_shapeNow, a_ops, a_dsts, a_lefts, a_rights, a_store, a_isLive, a_head, a_deg, a_markKind, a_markDeg)) : wY_init_157 post x3 z f_vars f_room f_bits f_count f_exitRel f_exitVar f_exitBound f_shapeNow a_ops a_dsts a_lefts a_rights a_store a_isLive a_head a_deg a_markKind a_markDeg := by
  unfold cl_ at hp
  refine br_c (fun h => ?_) (fun h => ?_)
  · rw [if_pos h] at hp
    refine br_c (fun h2 => ?_) (fun h2 => ?_)
    · rw [if_pos h2] at hp; exact hp
    · rw [if_neg h2] at hp; exact hp
  · rw [if_neg h] at hp; exact hp
end
theorem yw_init {post : SY → Prop} {p0 p1 p2 : Int32} (hp : post (cl_ p0 2 8, cl_ p1 2 12, cl_ p2 3 10, 0, 0, 0, 0, (-4), (fun _ => 0), (fun _ => 0), (fun _ => 0), (fun _ => 0), (fun _ => 0), (fun _ => 0), (fun _ => 0), (fun _ => 0), (fun _ => 0), (fun _ => 0))) : wpY_init post p0 p1 p2 := by
  have K : ∀ z, z = cl_ p0 2 8 → wY_init_132 post p1 p2 z 0 0 0 0 0 0 0 (-4) (fun _ => 0) (fun _ => 0) (fun _ => 0) (fun _ => 0) (fun _ => 0) (fun _ => 0) (fun _ => 0) (fun _ => 0) (fun _ => 0) (fun _ => 0) := by
    intro z ez
    subst ez
    have K2 : ∀ y, y = cl_ p1 2 12 → wY_init_157 post p2 y (cl_ p0 2 8) 0 0 0 0 0 0 (-4) (fun _ => 0) (fun _ => 0) (fun _ => 0) (fun _ => 0) (fun _ => 0) (fun _ => 0) (fun _ => 0) (fun _ => 0) (fun _ => 0) (fun _ => 0) := by
      intro y ey
      subst ey
      exact yw_i157 hp
    refine br_c (fun h => br_c (fun h2 => K2 _ ?_) (fun h2 => K2 _ ?_)) (fun h => K2 _ ?_)
    · unfold cl_; rw [if_pos h, if_pos h2]
    · unfold cl_; rw [if_pos h, if_neg h2]
    · unfold cl_; rw [if_neg h]
  refine br_c (fun h => br_c (fun h2 => K _ ?_) (fun h2 => K _ ?_)) (fun h => K _ ?_)
  · unfold cl_; rw [if_pos h, if_pos h2]
  · unfold cl_; rw [if_pos h, if_neg h2]
  · unfold cl_; rw [if_neg h]
theorem i_vc0 (k0 : Int32) (k1 : Int32) (k2 : Int32) : wpX_init (fun u => wpY_init (fun v => i_Rel 3 u v) k0 k1 k2) k0 k1 k2 := by
  unfold wpX_init
  refine xw_clm (xw_clm (xw_clm ?_))
  intro mk em
  refine yw_init ?_
  obtain ⟨V, v1, v2, ve⟩ := cl_of (a := 2) (b := 8) (by decide) (by decide) k0
  obtain ⟨R, r1, r2, re⟩ := cl_of (a := 2) (b := 12) (by decide) (by decide) k1
  obtain ⟨B, b1, b2, be⟩ := cl_of (a := 3) (b := 10) (by decide) (by decide) k2
  have ve2 : cl_ k0 2 8 = nI V := ve
  have re2 : cl_ k1 2 12 = nI R := re
  have be2 : cl_ k2 3 10 = nI B := be
  rw [be2, ar_msk (by omega)] at em
  rw [ve2, re2, be2, em]
  refine rl_in (C := 0) (rel := 0) (ev := 0) (eb := 0) (L := 0) ⟨⟨v1, v2, r2, b2, by omega, by omega, by omega, by omega, Nat.two_pow_pos V⟩, fun i h => absurd h (by omega), fun j hj => ?_, Or.inl ⟨rfl, rfl⟩⟩
  rw [Nat.zero_testBit, if_neg (by decide)]
end
section
/-! the owed methods: add, leaveWhen, live, set, get, statement, condition, liveMask, clear, shape -/
section
variable {f_self f_lost f_vars f_room f_bits f_mask f_count f_exitRel f_exitVar f_exitBound f_liveBits f_shapeNow f_formed : Int32} {a_ops a_dsts a_lefts a_rights a_store a_work a_marks a_degrees a_ends a_coef a_stackStep a_stackSize a_stackLow : Nat → Int32}
theorem xw_ad {post : Int32 → SX → Prop} {V C R : Nat} {x1 x2 x3 x4 y : Int32} (hR : R ≤ 12) (hC : C ≤ R) (ey : y = if x1 = 1 then 0 else x4)
    (hp : C < R → post 0 (f_self, f_lost, nI V, nI R, f_bits, f_mask, nI (C + 1), f_exitRel, f_exitVar, f_exitBound, f_liveBits, f_shapeNow, f_formed, upd a_ops C x1, upd a_dsts C x2, upd a_lefts C x3, upd a_rights C y, a_store, a_work, a_marks, a_degrees, a_ends, a_coef, a_stackStep, a_stackSize, a_stackLow)) (hn : ¬ C < R → post (-3) (f_self, f_lost, nI V, nI R, f_bits, f_mask, nI C, f_exitRel, f_exitVar, f_exitBound, f_liveBits, f_shapeNow, f_formed, a_ops, a_dsts, a_lefts, a_rights, a_store, a_work, a_marks, a_degrees, a_ends, a_coef, a_stackStep, a_stackSize, a_stackLow)) : wX_add_54 post x1 x2 x3 x4 f_self f_lost (nI V) (nI R) f_bits f_mask (nI C) f_exitRel f_exitVar f_exitBound f_liveBits f_shapeNow f_formed a_ops a_dsts a_lefts a_rights a_store a_work a_marks a_degrees a_ends a_coef a_stackStep a_stackSize a_stackLow := by
  refine pk_lt C R (fun h => ?_) (fun h => hn (by omega))
  have hx : (nI C).toNatClampNeg = C := nI_clamp (by omega)
  have hv : vp_in (nI C) 12 := vp_in_nI (by omega) (by omega)
  rw [hx]
  refine ⟨hv, nm_e ⟨hv, nm_e ⟨hv, nm_e (br_c (fun e => ?_) (fun e => ?_))⟩⟩⟩
  · rw [if_pos e] at ey
    refine ⟨hv, nm_r (e' := upd a_rights C y) (by rw [hx, ey]) (nm_r (nI_1 C) (hp h))⟩
  · rw [if_neg e] at ey
    refine ⟨hv, nm_r (e' := upd a_rights C y) (by rw [hx, ey]) (nm_r (nI_1 C) (hp h))⟩
end
section
variable {f_vars f_room f_bits f_count f_exitRel f_exitVar f_exitBound f_shapeNow : Int32} {a_ops a_dsts a_lefts a_rights a_store a_isLive a_head a_deg a_markKind a_markDeg : Nat → Int32}
theorem yw_ad {post : Int32 → SY → Prop} {V C R : Nat} {x1 x2 x3 x4 y : Int32} (hR : R ≤ 12) (hC : C ≤ R) (ey : y = if x1 = 1 then 0 else x4)
    (hp : C < R → post 0 (nI V, nI R, f_bits, nI (C + 1), f_exitRel, f_exitVar, f_exitBound, f_shapeNow, upd a_ops C x1, upd a_dsts C x2, upd a_lefts C x3, upd a_rights C y, a_store, a_isLive, a_head, a_deg, a_markKind, a_markDeg)) (hn : ¬ C < R → post (-3) (nI V, nI R, f_bits, nI C, f_exitRel, f_exitVar, f_exitBound, f_shapeNow, a_ops, a_dsts, a_lefts, a_rights, a_store, a_isLive, a_head, a_deg, a_markKind, a_markDeg)) : wY_add_60 post x1 x2 x3 x4 (nI V) (nI R) f_bits (nI C) f_exitRel f_exitVar f_exitBound f_shapeNow a_ops a_dsts a_lefts a_rights a_store a_isLive a_head a_deg a_markKind a_markDeg := by
  refine pk_lt C R (fun h => ?_) (fun h => hn (by omega))
  have hx : (nI C).toNatClampNeg = C := nI_clamp (by omega)
  have hv : vp_in (nI C) 12 := vp_in_nI (by omega) (by omega)
  rw [hx]
  refine ⟨hv, nm_e ⟨hv, nm_e ⟨hv, nm_e (br_c (fun e => ?_) (fun e => ?_))⟩⟩⟩
  · rw [if_pos e] at ey
    refine ⟨hv, nm_r (e' := upd a_rights C y) (by rw [hx, ey]) (nm_r (nI_1 C) (hp h))⟩
  · rw [if_neg e] at ey
    refine ⟨hv, nm_r (e' := upd a_rights C y) (by rw [hx, ey]) (nm_r (nI_1 C) (hp h))⟩
end
theorem rl_14 {x : Int32} (h1 : ¬ x < 1) (h4 : ¬ 4 < x) : ∃ k, 1 ≤ k ∧ k ≤ 4 ∧ x = nI k := by
  have h0 : ¬ x < 0 := fun z => h1 (Int32.lt_trans z (by decide))
  obtain ⟨j, hj, rfl⟩ := nI_of h0
  refine ⟨j, ?_, ?_, rfl⟩
  · rcases Nat.lt_or_ge j 1 with z | z
    · exact absurd (nI_lt (b := 1) z (by decide)) h1
    · exact z
  · rcases Nat.lt_or_ge 4 j with z | z
    · exact absurd (nI_lt (a := 4) z hj) h4
    · exact z
theorem bd_add {V C : Nat} {o d l r : Nat → Int32} (B : bd_ok V C o d l r) {x1 x2 x3 y : Int32} (h1 : ∃ k, 1 ≤ k ∧ k ≤ 4 ∧ x1 = nI k) (h2 : vp_in x2 V) (h3 : vp_in x3 V) (h4 : vp_in y V) : bd_ok V (C + 1) (upd o C x1) (upd d C x2) (upd l C x3) (upd r C y) := by
  intro i hi
  unfold upd
  by_cases e : i = C
  · rw [if_pos e, if_pos e, if_pos e, if_pos e]; exact ⟨h1, h2, h3, h4⟩
  · rw [if_neg e, if_neg e, if_neg e, if_neg e]; exact B i (by omega)
theorem i_vc_add {k : Nat} {u : SX} {v : SY} (I : i_Rel k u v) (hk : k + 5 ≤ 2563) (v1 : Int32) (v2 : Int32) (v3 : Int32) (v4 : Int32) : wpX_add (fun r u' => wpY_add (fun r' v' => r' = r ∧ i_Rel (k + 5) u' v') v v1 v2 v3 v4) u v1 v2 v3 v4 := by
  refine rl_el (P := fun u v => wpX_add (fun r u' => wpY_add (fun r' v' => r' = r ∧ i_Rel (k + 5) u' v') v v1 v2 v3 v4) u v1 v2 v3 v4) I ?_
  intro V R B C rel ev eb L xs xl sh fm o d l r s w m dg en cf sa sb sc F h yd yk yg q
  have q0 := q
  obtain ⟨⟨a1, a2, a3, a4, a5, a6, a7, a8, a9⟩, K, lv, fo⟩ := q
  unfold wpX_add
  dsimp only
  by_cases hs : sh = -4
  · refine xw_ft hs (br_t rfl ?_)
    have f0 : fm = 0 := by
      rcases fo with z | z
      · exact z.2
      · exact absurd hs z.1
    by_cases h1 : v1 < 1
    · exact br_t h1 (br_t hs (br_t h1 ⟨rfl, rl_in q0⟩))
    refine br_f h1 ?_
    by_cases h4 : 4 < v1
    · exact br_t h4 (br_t hs (br_f h1 (br_f (Int32.not_le.mpr h4) ⟨rfl, rl_in q0⟩)))
    refine br_f h4 ?_
    have h4' : v1 ≤ 4 := Int32.not_lt.mp h4
    by_cases g2 : vp_in v2 V
    rotate_left
    · exact xw_gf a2 g2 (br_t rfl (br_t hs (br_f h1 (br_t h4' (yw_gf a2 g2 (br_t rfl ⟨rfl, rl_in q0⟩))))))
    refine xw_gt a2 g2 (br_f (by decide) ?_)
    by_cases g3 : vp_in v3 V
    rotate_left
    · exact xw_gf a2 g3 (br_t rfl (br_t hs (br_f h1 (br_t h4' (yw_gt a2 g2 (br_f (by decide) (yw_gf a2 g3 (br_t rfl ⟨rfl, rl_in q0⟩))))))))
    refine xw_gt a2 g3 (br_f (by decide) ?_)
    have new : ∀ y, vp_in y V → C < R → rl_ V R B (C + 1) rel ev eb L sh fm (upd o C v1) (upd d C v2) (upd l C v3) (upd r C y) s dg en cf F := fun y hy hc =>
      ⟨⟨a1, a2, a3, a4, by omega, a6, a7, a8, a9⟩, bd_add K (rl_14 h1 h4) g2 g3 hy, lv, Or.inl ⟨hs, f0⟩⟩
    by_cases e1 : v1 = 1
    · refine br_t e1 (xw_ad (y := 0) a3 a5 (by rw [if_pos e1]) (fun hc => ?_) (fun hc => ?_))
      · exact br_t hs (br_f h1 (br_t h4' (yw_gt a2 g2 (br_f (by decide) (yw_gt a2 g3 (br_f (by decide) (br_t e1 (yw_ad (y := 0) a3 a5 (by rw [if_pos e1]) (fun _ => ⟨rfl, rl_in (new 0 (vp_in_nI (n := 0) (by omega) (by omega)) hc)⟩) (fun z => absurd hc z)))))))))
      · exact br_t hs (br_f h1 (br_t h4' (yw_gt a2 g2 (br_f (by decide) (yw_gt a2 g3 (br_f (by decide) (br_t e1 (yw_ad (y := 0) a3 a5 (by rw [if_pos e1]) (fun z => absurd z hc) (fun _ => ⟨rfl, rl_in q0⟩)))))))))
    · refine br_f e1 ?_
      by_cases g4 : vp_in v4 V
      · refine xw_gt a2 g4 (br_f (by decide) (xw_ad (y := v4) a3 a5 (by rw [if_neg e1]) (fun hc => ?_) (fun hc => ?_)))
        · exact br_t hs (br_f h1 (br_t h4' (yw_gt a2 g2 (br_f (by decide) (yw_gt a2 g3 (br_f (by decide) (br_f e1 (yw_gt a2 g4 (br_f (by decide) (yw_ad (y := v4) a3 a5 (by rw [if_neg e1]) (fun _ => ⟨rfl, rl_in (new v4 g4 hc)⟩) (fun z => absurd hc z)))))))))))
        · exact br_t hs (br_f h1 (br_t h4' (yw_gt a2 g2 (br_f (by decide) (yw_gt a2 g3 (br_f (by decide) (br_f e1 (yw_gt a2 g4 (br_f (by decide) (yw_ad (y := v4) a3 a5 (by rw [if_neg e1]) (fun z => absurd z hc) (fun _ => ⟨rfl, rl_in q0⟩)))))))))))
      · exact xw_gf a2 g4 (br_t rfl (br_t hs (br_f h1 (br_t h4' (yw_gt a2 g2 (br_f (by decide) (yw_gt a2 g3 (br_f (by decide) (br_f e1 (yw_gf a2 g4 (br_t rfl ⟨rfl, rl_in q0⟩)))))))))))
  · exact xw_ff hs (br_f (by decide) (br_f hs ⟨rfl, rl_in q0⟩))
theorem i_vc_leaveWhen {k : Nat} {u : SX} {v : SY} (I : i_Rel k u v) (hk : k + 5 ≤ 2563) (v1 : Int32) (v2 : Int32) (v3 : Int32) : wpX_leaveWhen (fun r u' => wpY_leaveWhen (fun r' v' => r' = r ∧ i_Rel (k + 5) u' v') v v1 v2 v3) u v1 v2 v3 := by
  refine rl_el (P := fun u v => wpX_leaveWhen (fun r u' => wpY_leaveWhen (fun r' v' => r' = r ∧ i_Rel (k + 5) u' v') v v1 v2 v3) u v1 v2 v3) I ?_
  intro V R B C rel ev eb L xs xl sh fm o d l r s w m dg en cf sa sb sc F h yd yk yg q
  have q0 := q
  obtain ⟨⟨a1, a2, a3, a4, a5, a6, a7, a8, a9⟩, K, lv, fo⟩ := q
  unfold wpX_leaveWhen
  dsimp only
  by_cases hs : sh = -4
  · refine xw_ft hs (br_t rfl ?_)
    have f0 : fm = 0 := by
      rcases fo with z | z
      · exact z.2
      · exact absurd hs z.1
    by_cases h1 : v1 < 1
    · exact br_t h1 (br_t hs (br_t h1 ⟨rfl, rl_in q0⟩))
    refine br_f h1 ?_
    by_cases h4 : 4 < v1
    · exact br_t h4 (br_t hs (br_f h1 (br_f (Int32.not_le.mpr h4) ⟨rfl, rl_in q0⟩)))
    refine br_f h4 ?_
    have h4' : v1 ≤ 4 := Int32.not_lt.mp h4
    by_cases g2 : vp_in v2 V
    rotate_left
    · exact xw_gf a2 g2 (br_t rfl (br_t hs (br_f h1 (br_t h4' (yw_gf a2 g2 (br_t rfl ⟨rfl, rl_in q0⟩))))))
    refine xw_gt a2 g2 (br_f (by decide) ?_)
    by_cases g3 : vp_in v3 V
    rotate_left
    · exact xw_gf a2 g3 (br_t rfl (br_t hs (br_f h1 (br_t h4' (yw_gt a2 g2 (br_f (by decide) (yw_gf a2 g3 (br_t rfl ⟨rfl, rl_in q0⟩))))))))
    refine xw_gt a2 g3 (br_f (by decide) ?_)
    refine br_t hs (br_f h1 (br_t h4' (yw_gt a2 g2 (br_f (by decide) (yw_gt a2 g3 (br_f (by decide) ⟨rfl, ?_⟩))))))
    obtain ⟨n, n1, n4, rfl⟩ := rl_14 h1 h4
    obtain ⟨x, hx, rfl⟩ := vp_in_of g2 (by omega)
    obtain ⟨y, hy, rfl⟩ := vp_in_of g3 (by omega)
    exact rl_in ⟨⟨a1, a2, a3, a4, a5, by omega, hx, hy, a9⟩, K, lv, Or.inl ⟨hs, f0⟩⟩
  · exact xw_ff hs (br_f (by decide) (br_f hs ⟨rfl, rl_in q0⟩))
theorem lv_on {V L x : Nat} {F : Nat → Int32} (h : lv_ok V L F) : lv_ok V (L ||| 2 ^ x) (upd F x 1) := by
  intro j hj
  unfold upd
  rw [Nat.testBit_or, Nat.testBit_two_pow]
  by_cases e : j = x
  · rw [if_pos e, e]; simp
  · rw [if_neg e, decide_eq_false (fun z => e z.symm), Bool.or_false]; exact h j hj
theorem lv_off {V L x : Nat} {F : Nat → Int32} (hV : V ≤ 8) (hx : x < 8) (h : lv_ok V L F) : lv_ok V (L &&& (255 - 2 ^ x)) (upd F x 0) := by
  intro j hj
  unfold upd
  rw [Nat.testBit_and, lb_tb x hx j (by omega)]
  by_cases e : j = x
  · rw [if_pos e, decide_eq_false (fun z => z e), Bool.and_false, if_neg (by decide)]
  · rw [if_neg e, decide_eq_true e, Bool.and_true]; exact h j hj
theorem i_vc_live {k : Nat} {u : SX} {v : SY} (I : i_Rel k u v) (hk : k + 5 ≤ 2563) (v1 : Int32) (v2 : Int32) : wpX_live (fun r u' => wpY_live (fun r' v' => r' = r ∧ i_Rel (k + 5) u' v') v v1 (lw_bz v2)) u v1 (lw_bz v2) := by
  refine rl_el (P := fun u v => wpX_live (fun r u' => wpY_live (fun r' v' => r' = r ∧ i_Rel (k + 5) u' v') v v1 (lw_bz v2)) u v1 (lw_bz v2)) I ?_
  intro V R B C rel ev eb L xs xl sh fm o d l r s w m dg en cf sa sb sc F h yd yk yg q
  have q0 := q
  obtain ⟨⟨a1, a2, a3, a4, a5, a6, a7, a8, a9⟩, K, lv, fo⟩ := q
  unfold wpX_live
  dsimp only
  by_cases hs : sh = -4
  · refine xw_ft hs (br_t rfl ?_)
    have f0 : fm = 0 := by
      rcases fo with z | z
      · exact z.2
      · exact absurd hs z.1
    by_cases g2 : vp_in v1 V
    rotate_left
    · exact xw_gf a2 g2 (br_t rfl (br_t hs (yw_gf a2 g2 (br_t rfl ⟨rfl, rl_in q0⟩))))
    refine xw_gt a2 g2 (br_f (by decide) ?_)
    obtain ⟨x, hx, rfl⟩ := vp_in_of g2 (by omega)
    have cx : (nI x).toNatClampNeg = x := nI_clamp (by omega)
    have hv : vp_in (nI x) 8 := vp_in_nI (by omega) (by omega)
    rcases lw_bz_01 v2 with z | z
    · rw [z]
      refine br_t rfl (nm_r (lb_off L (rl_L a9 a2) x (by omega)) (br_t hs (yw_gt a2 g2 (br_f (by decide) ⟨hv, nm_r (e' := upd F x 0) ?_ ⟨rfl, rl_in ?_⟩⟩))))
      · rw [cx]; rfl
      · exact ⟨⟨a1, a2, a3, a4, a5, a6, a7, a8, Nat.lt_of_le_of_lt Nat.and_le_left a9⟩, K, lv_off a2 (by omega) lv, Or.inl ⟨hs, f0⟩⟩
    · rw [z]
      refine br_f (by decide) (nm_r (lb_on L (rl_L a9 a2) x (by omega)) (br_t hs (yw_gt a2 g2 (br_f (by decide) ⟨hv, nm_r (e' := upd F x 1) ?_ ⟨rfl, rl_in ?_⟩⟩))))
      · rw [cx]; rfl
      · exact ⟨⟨a1, a2, a3, a4, a5, a6, a7, a8, Nat.or_lt_two_pow a9 (Nat.pow_lt_pow_right (by decide) hx)⟩, K, lv_on lv, Or.inl ⟨hs, f0⟩⟩
  · exact xw_ff hs (br_f (by decide) (br_f hs ⟨rfl, rl_in q0⟩))
theorem i_vc_set {k : Nat} {u : SX} {v : SY} (I : i_Rel k u v) (hk : k + 5 ≤ 2563) (v1 : Int32) (v2 : Int32) : wpX_set (fun r u' => wpY_set (fun r' v' => r' = r ∧ i_Rel (k + 5) u' v') v v1 v2) u v1 v2 := by
  refine rl_el (P := fun u v => wpX_set (fun r u' => wpY_set (fun r' v' => r' = r ∧ i_Rel (k + 5) u' v') v v1 v2) u v1 v2) I ?_
  intro V R B C rel ev eb L xs xl sh fm o d l r s w m dg en cf sa sb sc F h yd yk yg q
  have q0 := q
  obtain ⟨⟨a1, a2, a3, a4, a5, a6, a7, a8, a9⟩, K, lv, fo⟩ := q
  unfold wpX_set wpY_set
  dsimp only
  by_cases g2 : vp_in v1 V
  · refine xw_gt a2 g2 (br_f (by decide) ⟨bd_in g2 a2, nm_e (yw_gt a2 g2 (br_f (by decide) ⟨bd_in g2 a2, nm_e ⟨rfl, rl_in ?_⟩⟩))⟩)
    refine ⟨⟨a1, a2, a3, a4, a5, a6, a7, a8, a9⟩, K, lv, ?_⟩
    rcases fo with z | ⟨z, f1, f2, f3, f4, f5⟩
    · exact Or.inl ⟨z.1, rfl⟩
    · exact Or.inr ⟨z, f1, f2, f3, fun y => absurd rfl y, f5⟩
  · exact xw_gf a2 g2 (br_t rfl (yw_gf a2 g2 (br_t rfl ⟨rfl, rl_in q0⟩)))
theorem i_vc_get {k : Nat} {u : SX} {v : SY} (I : i_Rel k u v) (hk : k + 5 ≤ 2563) (v1 : Int32) : wpX_get (fun r => wpY_get (fun r' => r' = r ∧ i_Rel (k + 5) u v) v v1) u v1 := by
  refine rl_el (P := fun u v => wpX_get (fun r => wpY_get (fun r' => r' = r ∧ i_Rel (k + 5) u v) v v1) u v1) I ?_
  intro V R B C rel ev eb L xs xl sh fm o d l r s w m dg en cf sa sb sc F h yd yk yg q
  have q0 := q
  obtain ⟨⟨a1, a2, a3, a4, a5, a6, a7, a8, a9⟩, K, lv, fo⟩ := q
  unfold wpX_get wpY_get
  dsimp only
  by_cases g2 : vp_in v1 V
  · exact xw_gt a2 g2 (br_f (by decide) ⟨bd_in g2 a2, yw_gt a2 g2 (br_f (by decide) ⟨bd_in g2 a2, rfl, rl_in q0⟩)⟩)
  · exact xw_gf a2 g2 (br_t rfl (yw_gf a2 g2 (br_t rfl ⟨rfl, rl_in q0⟩)))
theorem i_vc_statement {k : Nat} {u : SX} {v : SY} (I : i_Rel k u v) (hk : k + 5 ≤ 2563) (v1 : Int32) : wpX_statement (fun r => wpY_statement (fun r' => r' = r ∧ i_Rel (k + 5) u v) v v1) u v1 := by
  refine rl_el (P := fun u v => wpX_statement (fun r => wpY_statement (fun r' => r' = r ∧ i_Rel (k + 5) u v) v v1) u v1) I ?_
  intro V R B C rel ev eb L xs xl sh fm o d l r s w m dg en cf sa sb sc F h yd yk yg q
  have q0 := q
  obtain ⟨⟨a1, a2, a3, a4, a5, a6, a7, a8, a9⟩, K, lv, fo⟩ := q
  unfold wpX_statement wpY_statement
  dsimp only
  by_cases h0 : v1 < 0
  · exact br_t h0 (br_t h0 ⟨rfl, rl_in q0⟩)
  · refine br_f h0 ?_
    obtain ⟨j, hj, rfl⟩ := nI_of h0
    by_cases h1 : nI j < nI C
    · have hc := (nI_ltI hj (by omega)).mp h1
      have hv : vp_in (nI j) 12 := vp_in_nI (by omega) (by omega)
      exact br_t h1 ⟨hv, hv, hv, hv, br_f h0 (br_t h1 ⟨hv, hv, hv, hv, rfl, rl_in q0⟩)⟩
    · exact br_f h1 (br_f h0 (br_f h1 ⟨rfl, rl_in q0⟩))
theorem i_vc_condition {k : Nat} {u : SX} {v : SY} (I : i_Rel k u v) (hk : k + 5 ≤ 2563) : wpX_condition (fun r => wpY_condition (fun r' => r' = r ∧ i_Rel (k + 5) u v) v) u := by
  refine rl_el (P := fun u v => wpX_condition (fun r => wpY_condition (fun r' => r' = r ∧ i_Rel (k + 5) u v) v) u) I ?_
  intro V R B C rel ev eb L xs xl sh fm o d l r s w m dg en cf sa sb sc F h yd yk yg q
  have q0 := q
  obtain ⟨⟨a1, a2, a3, a4, a5, a6, a7, a8, a9⟩, K, lv, fo⟩ := q
  unfold wpX_condition wpY_condition
  dsimp only
  exact br_c (fun z => br_t z ⟨rfl, rl_in q0⟩) (fun z => br_f z ⟨rfl, rl_in q0⟩)
theorem i_vc_liveMask {k : Nat} {u : SX} {v : SY} (I : i_Rel k u v) (hk : k + 5 ≤ 2563) : wpX_liveMask (fun r => wpY_liveMask (fun r' => r' = r ∧ i_Rel (k + 5) u v) v) u := by
  refine rl_el (P := fun u v => wpX_liveMask (fun r => wpY_liveMask (fun r' => r' = r ∧ i_Rel (k + 5) u v) v) u) I ?_
  intro V R B C rel ev eb L xs xl sh fm o d l r s w m dg en cf sa sb sc F h yd yk yg q
  have q0 := q
  obtain ⟨⟨a1, a2, a3, a4, a5, a6, a7, a8, a9⟩, K, lv, fo⟩ := q
  unfold wpX_liveMask wpY_liveMask
  dsimp only
  refine ⟨V + 1, ?_⟩
  have H := yw_lm4 (f_room := nI R) (f_bits := nI B) (f_exitRel := nI rel) (f_exitVar := nI ev) (f_exitBound := nI eb) (f_shapeNow := sh) (a_ops := o) (a_dsts := d) (a_lefts := l) (a_rights := r) (a_store := s) (a_head := h) (a_deg := yd) (a_markKind := yk) (a_markDeg := yg) (C := C) (post := fun r' => r' = nI L ∧ i_Rel (k + 5) (xs, xl, nI V, nI R, nI B, nI (2 ^ B - 1), nI C, nI rel, nI ev, nI eb, nI L, sh, fm, o, d, l, r, s, w, m, dg, en, cf, sa, sb, sc) (nI V, nI R, nI B, nI C, nI rel, nI ev, nI eb, sh, o, d, l, r, s, F, h, yd, yk, yg)) a2 a9 lv ⟨rfl, rl_in q0⟩ (V + 1) 0 (by omega) (by omega)
  rw [Nat.pow_zero, Nat.mod_one] at H
  exact H
theorem i_vc_clear {k : Nat} {u : SX} {v : SY} (I : i_Rel k u v) (hk : k + 5 ≤ 2563) : wpX_clear (fun r u' => wpY_clear (fun r' v' => r' = r ∧ i_Rel (k + 5) u' v') v) u := by
  refine rl_el (P := fun u v => wpX_clear (fun r u' => wpY_clear (fun r' v' => r' = r ∧ i_Rel (k + 5) u' v') v) u) I ?_
  intro V R B C rel ev eb L xs xl sh fm o d l r s w m dg en cf sa sb sc F h yd yk yg q
  have q0 := q
  obtain ⟨⟨a1, a2, a3, a4, a5, a6, a7, a8, a9⟩, K, lv, fo⟩ := q
  unfold wpX_clear wpY_clear
  dsimp only
  refine ⟨V + 1, yw_cl28 (C := 0) a2 (fun F' hF => ⟨rfl, ?_⟩) (V + 1) 0 F (by omega) (by omega) (fun j hj => absurd hj (by omega))⟩
  exact rl_in (C := 0) (rel := 0) (ev := 0) (eb := 0) (L := 0) ⟨⟨a1, a2, a3, a4, by omega, by omega, by omega, by omega, Nat.two_pow_pos V⟩, fun i hi => absurd hi (by omega), hF, Or.inl ⟨rfl, rfl⟩⟩
theorem i_vc_shape {k : Nat} {u : SX} {v : SY} (I : i_Rel k u v) (hk : k + 5 ≤ 2563) : wpX_shape (fun r => wpY_shape (fun r' => r' = r ∧ i_Rel (k + 5) u v) v) u := by
  refine rl_el (P := fun u v => wpX_shape (fun r => wpY_shape (fun r' => r' = r ∧ i_Rel (k + 5) u v) v) u) I ?_
  intro V R B C rel ev eb L xs xl sh fm o d l r s w m dg en cf sa sb sc F h yd yk yg q
  have q0 := q
  obtain ⟨⟨a1, a2, a3, a4, a5, a6, a7, a8, a9⟩, K, lv, fo⟩ := q
  exact ⟨rfl, rl_in q0⟩
end
section
/-! the owed methods: fold, degree, endDegree -/
section
variable {f_vars f_room f_bits f_count f_exitRel f_exitVar f_exitBound f_shapeNow : Int32} {a_ops a_dsts a_lefts a_rights a_store a_isLive a_head a_deg a_markKind a_markDeg : Nat → Int32}
theorem yw_fold {post : Int32 → SY → Prop} {V C L rel ev eb : Nat} (hV : V ≤ 8) (hC : C ≤ 12) (hr : rel < 5) (h0 : rel ≠ 0) (hv : ev < V) (hb : eb < V) (K : bd_ok V C a_ops a_dsts a_lefts a_rights) (hL : lv_ok V L a_isLive) (hs : f_shapeNow = -4)
    (h3 : ¬ (mk_D a_ops a_dsts a_lefts a_rights C V ev ≤ 1 ∧ mk_D a_ops a_dsts a_lefts a_rights C V eb = 0) → ∀ K G e, post 3 (nI V, f_room, f_bits, nI C, nI rel, nI ev, nI eb, 3, a_ops, a_dsts, a_lefts, a_rights, a_store, a_isLive, a_head, e, K, G))
    (h1 : mk_D a_ops a_dsts a_lefts a_rights C V ev ≤ 1 ∧ mk_D a_ops a_dsts a_lefts a_rights C V eb = 0 → sh_P V L (mk_E a_ops a_dsts a_lefts a_rights C V) → ∀ K G e, post 1 (nI V, f_room, f_bits, nI C, nI rel, nI ev, nI eb, 1, a_ops, a_dsts, a_lefts, a_rights, a_store, a_isLive, a_head, e, K, G))
    (h2 : mk_D a_ops a_dsts a_lefts a_rights C V ev ≤ 1 ∧ mk_D a_ops a_dsts a_lefts a_rights C V eb = 0 → ¬ sh_P V L (mk_E a_ops a_dsts a_lefts a_rights C V) → ∀ K G e, post 2 (nI V, f_room, f_bits, nI C, nI rel, nI ev, nI eb, 2, a_ops, a_dsts, a_lefts, a_rights, a_store, a_isLive, a_head, e, K, G)) :
    wpY_fold post (nI V, f_room, f_bits, nI C, nI rel, nI ev, nI eb, f_shapeNow, a_ops, a_dsts, a_lefts, a_rights, a_store, a_isLive, a_head, a_deg, a_markKind, a_markDeg) := by
  have x1 : (nI ev).toNatClampNeg = ev := nI_clamp (by omega)
  have x2 : (nI eb).toNatClampNeg = eb := nI_clamp (by omega)
  have d1 : mk_D a_ops a_dsts a_lefts a_rights C V ev ≤ 5 := mk_rd5 V ev hv
  have d2 : mk_D a_ops a_dsts a_lefts a_rights C V eb ≤ 5 := mk_rd5 V eb hb
  unfold wpY_fold
  dsimp only
  refine br_t hs (br_f (nI_ne0 (by omega) (by omega)) (yw_fd hV hC K (fun K1 G1 e1 he1 => ?_)))
  dsimp only
  have bad : ¬ (mk_D a_ops a_dsts a_lefts a_rights C V ev ≤ 1 ∧ mk_D a_ops a_dsts a_lefts a_rights C V eb = 0) → ∃ n73, wY_fold_73 post 0 n73 1 0 (nI V) f_room f_bits (nI C) (nI rel) (nI ev) (nI eb) f_shapeNow a_ops a_dsts a_lefts a_rights a_store a_isLive a_head e1 K1 G1 := fun z =>
    ⟨V + 1, yw_fo73 hV hC K hL (fun _ => h3 z) (fun y => absurd rfl y) (fun y => absurd rfl y) (V + 1) 0 1 K1 G1 e1 (by omega) (by omega) (Or.inl ⟨rfl, fun j hj => absurd hj (by omega)⟩)⟩
  have good : mk_D a_ops a_dsts a_lefts a_rights C V ev ≤ 1 → wY_fold_51 post (nI V) f_room f_bits (nI C) (nI rel) (nI ev) (nI eb) f_shapeNow a_ops a_dsts a_lefts a_rights a_store a_isLive a_head e1 K1 G1 := by
    intro z
    unfold wY_fold_51
    simp only [x2, he1 eb hb]
    refine ⟨vp_in_nI (by omega) (by omega), pk_eq (mk_D a_ops a_dsts a_lefts a_rights C V eb) 0 (fun y => ?_) (fun y => bad (by omega))⟩
    exact ⟨V + 1, yw_fo73 hV hC K hL (fun q => absurd q (by decide)) (fun _ => h1 ⟨z, y⟩) (fun _ => h2 ⟨z, y⟩) (V + 1) 0 1 K1 G1 e1 (by omega) (by omega) (Or.inl ⟨rfl, fun j hj => absurd hj (by omega)⟩)⟩
  simp only [x1, he1 ev hv]
  have hw : vp_in (nI ev) 8 := vp_in_nI (by omega) (by omega)
  exact ⟨hw, pk_eq (mk_D a_ops a_dsts a_lefts a_rights C V ev) 0 (fun y => good (by omega)) (fun y => ⟨hw, pk_eq (mk_D a_ops a_dsts a_lefts a_rights C V ev) 1 (fun y1 => good (by omega)) (fun y1 => bad (by omega))⟩)⟩
end
theorem i_vc_fold {k : Nat} {u : SX} {v : SY} (I : i_Rel k u v) (hk : k + 5 ≤ 2563) : wpX_fold (fun r u' => wpY_fold (fun r' v' => r' = r ∧ i_Rel (k + 5) u' v') v) u := by
  refine rl_el (P := fun u v => wpX_fold (fun r u' => wpY_fold (fun r' v' => r' = r ∧ i_Rel (k + 5) u' v') v) u) I ?_
  intro V R B C rel ev eb L xs xl sh fm o d l r s w m dg en cf sa sb sc F h yd yk yg q
  have q0 := q
  obtain ⟨⟨a1, a2, a3, a4, a5, a6, a7, a8, a9⟩, K, lv, fo⟩ := q
  unfold wpX_fold
  dsimp only
  by_cases hs : sh = -4
  · refine xw_ft hs (br_t rfl (pk_eq rel 0 (fun h0 => ?_) (fun h0 => ?_)))
    · exact br_t hs (br_t (by rw [h0]; rfl) ⟨rfl, rl_in q0⟩)
    · refine xw_fd a2 (by omega) K (fun m1 e1 he1 => ?_)
      dsimp only
      refine xw_fe a2 (by omega) K he1 (fun m2 e2 he2 => ?_)
      dsimp only
      refine xw_cs (D := mk_D o d l r C V) (E := mk_E o d l r C V) a2 (rl_L a9 a2) a7 a8 (fun j hj => ⟨mk_rd5 V j hj, he1 j hj⟩) (fun j hj => ⟨mk_E5 K (by omega) hj, he2 j hj⟩) (fun c3 => ?_) (fun c1 p1 => ?_) (fun c1 p1 => ?_)
      · refine yw_fold a2 (by omega) a6 h0 a7 a8 K lv hs (fun _ K1 G1 y1 => ⟨rfl, rl_in ?_⟩) (fun z => absurd z c3) (fun z => absurd z c3)
        exact ⟨⟨a1, a2, a3, a4, a5, a6, a7, a8, a9⟩, K, lv, Or.inr ⟨by decide, by omega, he1, he2, fun y => absurd rfl y, Or.inl rfl⟩⟩
      · refine yw_fold a2 (by omega) a6 h0 a7 a8 K lv hs (fun z => absurd c1 z) (fun _ _ K1 G1 y1 => ⟨rfl, rl_in ?_⟩) (fun _ z => absurd p1 z)
        exact ⟨⟨a1, a2, a3, a4, a5, a6, a7, a8, a9⟩, K, lv, Or.inr ⟨by decide, by omega, he1, he2, fun y => absurd rfl y, Or.inr ⟨c1, Or.inl ⟨rfl, p1⟩⟩⟩⟩
      · refine yw_fold a2 (by omega) a6 h0 a7 a8 K lv hs (fun z => absurd c1 z) (fun _ z => absurd z p1) (fun _ _ K1 G1 y1 => ⟨rfl, rl_in ?_⟩)
        exact ⟨⟨a1, a2, a3, a4, a5, a6, a7, a8, a9⟩, K, lv, Or.inr ⟨by decide, by omega, he1, he2, fun y => absurd rfl y, Or.inr ⟨c1, Or.inr rfl⟩⟩⟩
  · exact xw_ff hs (br_f (by decide) (br_f hs ⟨rfl, rl_in q0⟩))
theorem rl_fo {V C rel ev eb L : Nat} {sh fm : Int32} {o d l r s dg en cf : Nat → Int32} (fo : (sh = -4 ∧ fm = 0) ∨ (¬ sh = -4 ∧ rl_f V C rel ev eb L sh fm o d l r s dg en cf)) (hs : ¬ sh = -4) : rl_f V C rel ev eb L sh fm o d l r s dg en cf := by
  rcases fo with z | z
  · exact absurd z.1 hs
  · exact z.2
theorem i_vc_degree {k : Nat} {u : SX} {v : SY} (I : i_Rel k u v) (hk : k + 5 ≤ 2563) (v1 : Int32) : wpX_degree (fun r => wpY_degree (fun r' v' => r' = r ∧ i_Rel (k + 5) u v') v v1) u v1 := by
  refine rl_el (P := fun u v => wpX_degree (fun r => wpY_degree (fun r' v' => r' = r ∧ i_Rel (k + 5) u v') v v1) u v1) I ?_
  intro V R B C rel ev eb L xs xl sh fm o d l r s w m dg en cf sa sb sc F h yd yk yg q
  have q0 := q
  obtain ⟨⟨a1, a2, a3, a4, a5, a6, a7, a8, a9⟩, K, lv, fo⟩ := q
  unfold wpX_degree
  dsimp only
  by_cases hs : sh = -4
  · exact xw_ft hs (br_t rfl (br_t hs ⟨rfl, rl_in q0⟩))
  · obtain ⟨f1, f2, f3, f4, f5⟩ := rl_fo fo hs
    refine xw_ff hs (br_f (by decide) ?_)
    by_cases g2 : vp_in v1 V
    · refine xw_gt a2 g2 (br_f (by decide) ⟨bd_in g2 a2, br_f hs (yw_gt a2 g2 (br_f (by decide) (yw_fd a2 (by omega) K (fun K1 G1 e1 he1 => ?_))))⟩)
      dsimp only
      exact ⟨bd_in g2 a2, (he1 _ (bd_lt g2)).trans (f2 _ (bd_lt g2)).symm, rl_in q0⟩
    · exact xw_gf a2 g2 (br_t rfl (br_f hs (yw_gf a2 g2 (br_t rfl ⟨rfl, rl_in q0⟩))))
theorem i_vc_endDegree {k : Nat} {u : SX} {v : SY} (I : i_Rel k u v) (hk : k + 5 ≤ 2563) (v1 : Int32) : wpX_endDegree (fun r => wpY_endDegree (fun r' v' => r' = r ∧ i_Rel (k + 5) u v') v v1) u v1 := by
  refine rl_el (P := fun u v => wpX_endDegree (fun r => wpY_endDegree (fun r' v' => r' = r ∧ i_Rel (k + 5) u v') v v1) u v1) I ?_
  intro V R B C rel ev eb L xs xl sh fm o d l r s w m dg en cf sa sb sc F h yd yk yg q
  have q0 := q
  obtain ⟨⟨a1, a2, a3, a4, a5, a6, a7, a8, a9⟩, K, lv, fo⟩ := q
  unfold wpX_endDegree
  dsimp only
  by_cases hs : sh = -4
  · exact xw_ft hs (br_t rfl (br_t hs ⟨rfl, rl_in q0⟩))
  · obtain ⟨f1, f2, f3, f4, f5⟩ := rl_fo fo hs
    refine xw_ff hs (br_f (by decide) ?_)
    by_cases g2 : vp_in v1 V
    · obtain ⟨x, hx, rfl⟩ := vp_in_of g2 (by omega)
      refine xw_gt a2 g2 (br_f (by decide) ⟨bd_in g2 a2, br_f hs (yw_gt a2 g2 (br_f (by decide) (yw_fe a2 (by omega) hx K (fun K1 G1 e1 => ?_))))⟩)
      dsimp only
      refine ⟨?_, rl_in q0⟩
      rw [nI_clamp (by omega), f3 x hx]
    · exact xw_gf a2 g2 (br_t rfl (br_f hs (yw_gf a2 g2 (br_t rfl ⟨rfl, rl_in q0⟩))))
end
section
/-! the owed methods: valueAt, trips, run -/
theorem i_vc_valueAt {k : Nat} {u : SX} {v : SY} (I : i_Rel k u v) (hk : k + 5 ≤ 2563) (v1 : Int32) (v2 : Int32) : wpX_valueAt (fun r u' => wpY_valueAt (fun r' v' => r' = r ∧ i_Rel (k + 5) u' v') v v1 v2) u v1 v2 := by
  refine rl_el (P := fun u v => wpX_valueAt (fun r u' => wpY_valueAt (fun r' v' => r' = r ∧ i_Rel (k + 5) u' v') v v1 v2) u v1 v2) I ?_
  intro V R B C rel ev eb L xs xl sh fm o d l r s w m dg en cf sa sb sc F h yd yk yg q
  have q0 := q
  obtain ⟨⟨a1, a2, a3, a4, a5, a6, a7, a8, a9⟩, K, lv, fo⟩ := q
  unfold wpX_valueAt
  dsimp only
  by_cases hs : sh = -4
  · exact xw_ft hs (br_t rfl (br_t hs ⟨rfl, rl_in q0⟩))
  · obtain ⟨f1, f2, f3, f4, f5⟩ := rl_fo fo hs
    refine xw_ff hs (br_f (by decide) ?_)
    by_cases g2 : vp_in v1 V
    rotate_left
    · exact xw_gf a2 g2 (br_t rfl (br_f hs (yw_gf a2 g2 (br_t rfl ⟨rfl, rl_in q0⟩))))
    refine xw_gt a2 g2 (br_f (by decide) ?_)
    by_cases h0 : v2 < 0
    · exact br_t h0 (br_f hs (yw_gt a2 g2 (br_f (by decide) (br_t h0 ⟨rfl, rl_in q0⟩))))
    refine br_f h0 ?_
    by_cases h9 : v2 ≤ 1023
    rotate_left
    · exact br_f h9 (br_f hs (yw_gt a2 g2 (br_f (by decide) (br_f h0 (br_f h9 ⟨rfl, rl_in q0⟩)))))
    obtain ⟨n, hn, rfl⟩ := nI_of2 (n := 1023) (by decide) h0 h9
    obtain ⟨x, hx, rfl⟩ := vp_in_of g2 (by omega)
    have cx : (nI x).toNatClampNeg = x := nI_clamp (by omega)
    have e5 := mk_E5 K (by omega) hx
    rw [cx, f3 x hx]
    refine br_t h9 ⟨bd_in g2 a2, pk_eq (mk_E o d l r C V x) 5 (fun e => ?_) (fun e => ?_)⟩
    · refine br_f hs (yw_gt a2 g2 (br_f (by decide) (br_f h0 (br_t h9 (yw_fe a2 (by omega) hx K (fun K1 G1 e1 => ?_))))))
      dsimp only
      exact br_t (by rw [e]; rfl) ⟨rfl, rl_in q0⟩
    · refine xw_fa a2 (by omega) K f4 (fun fq w' c hc => ?_)
      dsimp only
      refine xw_hv a2 (by omega) hx hn K rfl hc e ?_
      refine br_f hs (yw_gt a2 g2 (br_f (by decide) (br_f h0 (br_t h9 (yw_fe a2 (by omega) hx K (fun K1 G1 e1 => ?_))))))
      dsimp only
      refine br_f (fun z => e ((nI_eq (b := 5) (by omega) (by omega)).mp z)) (yw_sh a2 (fun w1 hw1 => ?_))
      dsimp only
      refine ⟨n + 1, yw_va59 a2 (by omega) hx (by omega) K (fun w2 => ⟨rfl, rl_in ?_⟩) (n + 1) 0 w1 (by omega) (by omega) hw1⟩
      exact ⟨⟨a1, a2, a3, a4, a5, a6, a7, a8, a9⟩, K, lv, Or.inr ⟨hs, f1, f2, f3, fun _ => hc, f5⟩⟩
theorem ls_eq {P : Nat → Prop} {a b : Nat} (ha : P a) (hb : P b) (la : ∀ j, j < a → ¬ P j) (lb : ∀ j, j < b → ¬ P j) : a = b := by
  rcases Nat.lt_trichotomy a b with z | z | z
  · exact absurd ha (lb a z)
  · exact z
  · exact absurd hb (la b z)
theorem i_vc_trips {k : Nat} {u : SX} {v : SY} (I : i_Rel k u v) (hk : k + 5 ≤ 2563) : wpX_trips (fun r u' => wpY_trips (fun r' v' => r' = r ∧ i_Rel (k + 5) u' v') v) u := by
  refine rl_el (P := fun u v => wpX_trips (fun r u' => wpY_trips (fun r' v' => r' = r ∧ i_Rel (k + 5) u' v') v) u) I ?_
  intro V R B C rel ev eb L xs xl sh fm o d l r s w m dg en cf sa sb sc F h yd yk yg q
  have q0 := q
  obtain ⟨⟨a1, a2, a3, a4, a5, a6, a7, a8, a9⟩, K, lv, fo⟩ := q
  have p1 : 2 ^ B ≤ 2 ^ 10 := Nat.pow_le_pow_right (by decide) a4
  unfold wpX_trips
  dsimp only
  by_cases hs : sh = -4
  · exact xw_ft hs (br_t rfl (br_t hs ⟨rfl, rl_in q0⟩))
  · obtain ⟨f1, f2, f3, f4, f5⟩ := rl_fo fo hs
    refine xw_ff hs (br_f (by decide) ?_)
    by_cases h3 : sh = 3
    · exact br_t h3 (br_f hs (br_t h3 ⟨rfl, rl_in q0⟩))
    obtain ⟨⟨dv, db⟩, -⟩ := f5.resolve_left h3
    refine br_f h3 (xw_st a2 (by omega) a4 f1 a6 a7 a8 K dv db f4 (fun x fq w' c A S W hx hc => ?_))
    dsimp only
    have rel2 : rl_ V R B C rel ev eb L sh fq o d l r s dg en c F := ⟨⟨a1, a2, a3, a4, a5, a6, a7, a8, a9⟩, K, lv, Or.inr ⟨hs, f1, f2, f3, fun _ => hc, f5⟩⟩
    rcases hx with ⟨n, n1, n2, n3, rfl⟩ | ⟨n1, rfl⟩
    · refine br_f hs (br_f h3 (yw_fx a2 (by omega) a4 a6 a7 a8 K (fun n' w1 t1 t2 t3 t4 => ?_) (fun t => absurd n2 (t n n1))))
      obtain rfl : n' = n := ls_eq t2 n2 t3 n3
      dsimp only
      exact br_t (nI_pos' (by omega)) ⟨rfl, rl_in rel2⟩
    · refine br_f hs (br_f h3 (yw_fx a2 (by omega) a4 a6 a7 a8 K (fun n' w1 t1 t2 t3 t4 => absurd t2 (n1 n' t1)) (fun t w1 => ?_)))
      dsimp only
      exact br_f (by decide) ⟨rfl, rl_in rel2⟩
theorem i_vc_run {k : Nat} {u : SX} {v : SY} (I : i_Rel k u v) (hk : k + 5 ≤ 2563) : wpX_run (fun r u' => wpY_run (fun r' v' => r' = r ∧ i_Rel (k + 5) u' v') v) u := by
  refine rl_el (P := fun u v => wpX_run (fun r u' => wpY_run (fun r' v' => r' = r ∧ i_Rel (k + 5) u' v') v) u) I ?_
  intro V R B C rel ev eb L xs xl sh fm o d l r s w m dg en cf sa sb sc F h yd yk yg q
  have q0 := q
  obtain ⟨⟨a1, a2, a3, a4, a5, a6, a7, a8, a9⟩, K, lv, fo⟩ := q
  have p1 : 2 ^ B ≤ 2 ^ 10 := Nat.pow_le_pow_right (by decide) a4
  unfold wpX_run
  dsimp only
  by_cases hs : sh = -4
  · exact xw_ft hs (br_t rfl (br_t hs ⟨rfl, rl_in q0⟩))
  · obtain ⟨f1, f2, f3, f4, f5⟩ := rl_fo fo hs
    refine xw_ff hs (br_f (by decide) ?_)
    have rel3 : ∀ s' c, rl_ V R B C rel ev eb L sh 0 o d l r s' dg en c F := fun s' c => ⟨⟨a1, a2, a3, a4, a5, a6, a7, a8, a9⟩, K, lv, Or.inr ⟨hs, f1, f2, f3, fun y => absurd rfl y, f5⟩⟩
    by_cases h3 : sh = 3
    · refine br_t h3 (xw_se a2 (by omega) a4 a6 a7 a8 K (fun n w1 n1 n2 n3 n4 => ?_) (fun t w1 => ?_))
      · dsimp only
        refine br_t (nI_pos' (by omega)) (br_t h3 (xw_ts a2 (rl_L a9 a2) ?_))
        rw [tk_ag n4]
        refine br_f hs (yw_fx a2 (by omega) a4 a6 a7 a8 K (fun n' w2 t1 t2 t3 t4 => ?_) (fun t => absurd n2 (t n n1)))
        obtain rfl : n' = n := ls_eq t2 n2 t3 n3
        refine br_t (nI_pos' (by omega)) (yw_ru a2 lv ?_)
        rw [tk_ag t4]
        exact ⟨rfl, rl_in (rel3 _ _)⟩
      · dsimp only
        refine br_f (by decide) ?_
        refine br_f hs (yw_fx a2 (by omega) a4 a6 a7 a8 K (fun n' w2 t1 t2 t3 t4 => absurd t2 (t n' t1)) (fun _ w2 => ?_))
        exact br_f (by decide) (br_t h3 ⟨rfl, rl_in q0⟩)
    · obtain ⟨⟨dv, db⟩, sp⟩ := f5.resolve_left h3
      refine br_f h3 (xw_st a2 (by omega) a4 f1 a6 a7 a8 K dv db f4 (fun x fq w' c A S W hx hc => ?_))
      dsimp only
      rcases hx with ⟨n, n1, n2, n3, rfl⟩ | ⟨n1, rfl⟩
      · refine br_t (nI_pos' (by omega)) (br_f h3 (xw_tv a2 (by omega) (rl_L a9 a2) (show n ≤ 1023 by omega) K f3 hc (fun z => ?_) (fun w3 => ?_)))
        · rcases sp with y | y
          · exact y.2
          · exact absurd y z
        · refine br_f hs (yw_fx a2 (by omega) a4 a6 a7 a8 K (fun n' w2 t1 t2 t3 t4 => ?_) (fun t => absurd n2 (t n n1)))
          obtain rfl : n' = n := ls_eq t2 n2 t3 n3
          refine br_t (nI_pos' (by omega)) (yw_ru a2 lv ?_)
          rw [tk_ag t4]
          exact ⟨rfl, rl_in (rel3 _ _)⟩
      · refine br_f (by decide) ?_
        refine br_f hs (yw_fx a2 (by omega) a4 a6 a7 a8 K (fun n' w1 t1 t2 t3 t4 => absurd t2 (n1 n' t1)) (fun t w1 => ?_))
        exact br_f (by decide) (br_f h3 ⟨rfl, rl_in ⟨⟨a1, a2, a3, a4, a5, a6, a7, a8, a9⟩, K, lv, Or.inr ⟨hs, f1, f2, f3, fun _ => hc, f5⟩⟩⟩)
end
