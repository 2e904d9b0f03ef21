section
/-! rows of the kit to paste (kit/rows): numbers, branches, bits -/
theorem pk_us {f : Nat → Int32} {k : Nat} {x : Int32} : upd f k x k = x := if_pos rfl
theorem pk_un {f : Nat → Int32} {k j : Nat} {x : Int32} (h : j ≠ k) : upd f k x j = f j := if_neg h
theorem pk_sub {a b : Nat} (h : b ≤ a) : nI a - nI b = nI (a - b) := by
  obtain ⟨c, rfl⟩ : ∃ c, a = c + b := ⟨a - b, by omega⟩
  rw [← nI_add, Int32.add_sub_cancel, Nat.add_sub_cancel]
theorem pk_m1 (n : Nat) : nI (n + 1) + (-1) = nI n := by
  rw [← nI_1, Int32.add_assoc, show (1 : Int32) + (-1) = 0 from rfl, Int32.add_zero]
theorem pk_ix (x : Int32) {n : Nat} (hn : n < 2 ^ 31) : x < 0 ∨ nI n ≤ x ∨ ∃ j : Nat, j < n ∧ x = nI j := by
  by_cases h : x < 0
  · exact Or.inl h
  · obtain ⟨j, hj, rfl⟩ := nI_of h
    by_cases h2 : j < n
    · exact Or.inr (Or.inr ⟨j, h2, rfl⟩)
    · exact Or.inr (Or.inl (nI_le (by omega) hj))
theorem pk_le {x y : Int32} {A B : Prop} (a b : Nat) (f : a ≤ b → A) (g : b < a → B) (hx : x = nI a := by rfl) (hy : y = nI b := by rfl) (ha : a < 2 ^ 31 := by omega) (hb : b < 2 ^ 31 := by omega) : (x ≤ y → A) ∧ (¬ x ≤ y → B) := by
  subst hx hy
  rw [nI_leI ha hb]
  exact ⟨f, fun z => g (by omega)⟩
theorem pk_lt {x y : Int32} {A B : Prop} (a b : Nat) (f : a < b → A) (g : b ≤ a → B) (hx : x = nI a := by rfl) (hy : y = nI b := by rfl) (ha : a < 2 ^ 31 := by omega) (hb : b < 2 ^ 31 := by omega) : (x < y → A) ∧ (¬ x < y → B) := by
  subst hx hy
  rw [nI_ltI ha hb]
  exact ⟨f, fun z => g (by omega)⟩
theorem pk_eq {x y : Int32} {A B : Prop} (a b : Nat) (f : a = b → A) (g : a ≠ b → B) (hx : x = nI a := by rfl) (hy : y = nI b := by rfl) (ha : a < 2 ^ 31 := by omega) (hb : b < 2 ^ 31 := by omega) : (x = y → A) ∧ (¬ x = y → B) := by
  subst hx hy
  rw [nI_eq ha hb]
  exact ⟨f, g⟩
theorem pk_in {x : Int32} (n N : Nat) (h : n < N) (hx : x = nI n := by rfl) (hN : N < 2 ^ 31 := by omega) : vp_in x N := by
  subst hx
  exact vp_in_nI h hN
theorem pk_cl {x : Int32} (n : Nat) (hx : x = nI n := by rfl) (h : n < 2 ^ 31 := by omega) : x.toNatClampNeg = n := by
  subst hx
  exact nI_clamp h
theorem pk_tn {n : Nat} (h : n < 2 ^ 32) : (nI n).toBitVec.toNat = n := Nat.mod_eq_of_lt h
theorem pk_and (x : Int32) {m : Int32} (k : Nat) (hm : m.toBitVec.toNat = 2 ^ k - 1) : x &&& m = nI (x.toBitVec.toNat % 2 ^ k) := by
  apply Int32.toBitVec_inj.mp
  apply BitVec.eq_of_toNat_eq
  rw [Int32.toBitVec_and, BitVec.toNat_and, hm, Nat.and_two_pow_sub_one_eq_mod]
  show _ = (BitVec.ofNat 32 _).toNat
  rw [BitVec.toNat_ofNat]
  exact (Nat.mod_eq_of_lt (Nat.lt_of_le_of_lt (Nat.mod_le _ _) x.toBitVec.isLt)).symm
theorem pk_andN {n : Nat} (h : n < 2 ^ 32) {m : Int32} (k : Nat) (hm : m.toBitVec.toNat = 2 ^ k - 1) : nI n &&& m = nI (n % 2 ^ k) := by
  rw [pk_and _ k hm, pk_tn h]
theorem pk_shl (a s : Int32) (k : Nat) (hs : (s.toBitVec.smod 32).toNat = k) : (a <<< s).toBitVec.toNat = a.toBitVec.toNat * 2 ^ k % 2 ^ 32 := by
  show (a.toBitVec <<< (s.toBitVec.smod 32).toNat).toNat = _
  rw [hs, BitVec.toNat_shiftLeft, Nat.shiftLeft_eq]
theorem pk_shlN {n : Nat} (s : Int32) (k : Nat) (hs : (s.toBitVec.smod 32).toNat = k) (h : n * 2 ^ k < 2 ^ 32) : nI n <<< s = nI (n * 2 ^ k) := by
  apply Int32.toBitVec_inj.mp
  apply BitVec.eq_of_toNat_eq
  have hn : n < 2 ^ 32 := Nat.lt_of_le_of_lt (Nat.le_mul_of_pos_right n (Nat.two_pow_pos k)) h
  rw [pk_shl _ _ k hs, pk_tn hn, pk_tn h, Nat.mod_eq_of_lt h]
theorem pk_shr (a s : Int32) (k : Nat) (hs : (s.toBitVec.smod 32).toNat = k) : (a >>> s).toInt = a.toInt >>> k := by
  show (a.toBitVec.sshiftRight (s.toBitVec.smod 32).toNat).toInt = _
  rw [hs, BitVec.toInt_sshiftRight]
  rfl
theorem pk_shrN {n : Nat} (h : n < 2 ^ 31) (s : Int32) (k : Nat) (hs : (s.toBitVec.smod 32).toNat = k) : nI n >>> s = nI (n / 2 ^ k) := by
  apply Int32.toInt_inj.mp
  have h2 : n / 2 ^ k ≤ n := Nat.div_le_self _ _
  rw [pk_shr _ _ k hs, nI_toInt h, nI_toInt (by omega), Int.shiftRight_eq_div_pow]
  rfl
theorem pk_vs (z : Int32) : vp_nar .short z.toInt16.toInt32 = z.toInt16.toInt32 := by rw [vp_nar_short]; simp
theorem pk_least (P : Nat → Prop) (h : ∃ k, P k) : ∃ k, P k ∧ ∀ j, j < k → ¬ P j := by
  obtain ⟨k, hk⟩ := h
  induction k using Nat.strongRecOn with
  | ind k ih =>
    by_cases e : ∃ j, j < k ∧ P j
    · obtain ⟨j, hj, pj⟩ := e
      exact ih j hj pj
    · exact ⟨k, hk, fun j hj pj => e ⟨j, hj, pj⟩⟩
def bt (x : Int32) (i : Nat) : Bool := x.toBitVec.getLsbD i
theorem b_ext {x y : Int32} (h : ∀ i, i < 32 → bt x i = bt y i) : x = y := Int32.toBitVec_inj.mp (BitVec.eq_of_getLsbD_eq (fun i hi => h i hi))
theorem b_or (x y : Int32) (i : Nat) : bt (x ||| y) i = (bt x i || bt y i) := by unfold bt; rw [Int32.toBitVec_or, BitVec.getLsbD_or]
theorem b_and (x y : Int32) (i : Nat) : bt (x &&& y) i = (bt x i && bt y i) := by unfold bt; rw [Int32.toBitVec_and, BitVec.getLsbD_and]
theorem b_xor (x y : Int32) (i : Nat) : bt (x ^^^ y) i = (bt x i ^^ bt y i) := by unfold bt; rw [Int32.toBitVec_xor, BitVec.getLsbD_xor]
theorem b_big {x : Int32} {i : Nat} (h : 32 ≤ i) : bt x i = false := BitVec.getLsbD_of_ge _ _ h
theorem b_m1 : ∀ i, i < 32 → bt (-1) i = true := by decide +kernel
theorem b_0 (i : Nat) : bt 0 i = false := BitVec.getLsbD_zero
theorem s_l : ∀ n, n < 32 → ((nI n &&& 31).toBitVec.smod 32).toNat = n := by decide +kernel
theorem nx_and (a b : Nat) : nI a &&& nI b = nI (a &&& b) := by
  apply Int32.toBitVec_inj.1
  show BitVec.ofNat 32 a &&& BitVec.ofNat 32 b = BitVec.ofNat 32 (a &&& b)
  apply BitVec.eq_of_getLsbD_eq
  intro i hi
  simp [hi]
theorem nx_xor (a b : Nat) : nI a ^^^ nI b = nI (a ^^^ b) := by
  apply Int32.toBitVec_inj.1
  show BitVec.ofNat 32 a ^^^ BitVec.ofNat 32 b = BitVec.ofNat 32 (a ^^^ b)
  apply BitVec.eq_of_getLsbD_eq
  intro i hi
  simp [hi]
theorem wb_of32 (x : Int32) : ∃ n, n < 2 ^ 32 ∧ x = nI n := ⟨x.toBitVec.toNat, x.toBitVec.isLt, Int32.toBitVec_inj.mp (by show _ = BitVec.ofNat 32 _; simp)⟩
end
section
/-! numbers under exclusive or; sums of some of a list; counts -/
theorem fd_x22 (a b c d : Nat) : (a ^^^ b) ^^^ (c ^^^ d) = (a ^^^ c) ^^^ (b ^^^ d) := by
  apply Nat.eq_of_testBit_eq
  intro i
  simp only [Nat.testBit_xor]
  cases a.testBit i <;> cases b.testBit i <;> cases c.testBit i <;> cases d.testBit i <;> rfl
theorem fd_xc (a b : Nat) : (a ^^^ b) ^^^ b = a := by rw [Nat.xor_assoc, Nat.xor_self, Nat.xor_zero]
theorem fd_xrc (a b c : Nat) : (a ^^^ b) ^^^ c = (a ^^^ c) ^^^ b := by rw [Nat.xor_assoc, Nat.xor_comm b c, ← Nat.xor_assoc]
theorem fd_x0 {a b : Nat} : a ^^^ b = 0 ↔ a = b :=
  ⟨fun h => by
    have e := fd_xc a b
    rw [h, Nat.zero_xor] at e
    exact e.symm, fun h => by rw [h, Nat.xor_self]⟩
/-- a term moved to the other side -/
theorem fd_mv {b x v y : Nat} : b = x ^^^ (v ^^^ y) ↔ b ^^^ v = x ^^^ y := by
  constructor
  · intro h
    rw [h]
    apply Nat.eq_of_testBit_eq
    intro i
    simp only [Nat.testBit_xor]
    cases x.testBit i <;> cases v.testBit i <;> cases y.testBit i <;> rfl
  · intro h
    have e := fd_xc b v
    rw [h] at e
    rw [← e]
    apply Nat.eq_of_testBit_eq
    intro i
    simp only [Nat.testBit_xor]
    cases x.testBit i <;> cases v.testBit i <;> cases y.testBit i <;> rfl
theorem fd_ifx (p q : Bool) (y : Nat) : (if (p ^^ q) = true then y else 0) = (if p = true then y else 0) ^^^ (if q = true then y else 0) := by
  cases p <;> cases q <;> simp
theorem fd_ifb (p : Bool) (y i : Nat) : (if p = true then y else 0).testBit i = (p && y.testBit i) := by
  cases p <;> simp
/-- the exclusive or of f k for the bits k of c below n -/
def fd_xs (f : Nat → Nat) (c : Nat) : Nat → Nat
  | 0 => 0
  | n + 1 => fd_xs f c n ^^^ (if c.testBit n = true then f n else 0)
theorem fd_xs_s (f : Nat → Nat) (c n : Nat) : fd_xs f c (n + 1) = fd_xs f c n ^^^ (if c.testBit n = true then f n else 0) := rfl
theorem fd_xs_add (f : Nat → Nat) (a b : Nat) (n : Nat) : fd_xs f (a ^^^ b) n = fd_xs f a n ^^^ fd_xs f b n := by
  induction n with
  | zero => simp [fd_xs]
  | succ n ih => rw [fd_xs_s, fd_xs_s, fd_xs_s, ih, Nat.testBit_xor, fd_ifx, fd_x22]
def fd_par (p : Nat → Bool) : Nat → Bool
  | 0 => false
  | n + 1 => (fd_par p n ^^ p n)
theorem fd_par_s (p : Nat → Bool) (n : Nat) : fd_par p (n + 1) = (fd_par p n ^^ p n) := rfl
theorem fd_par_congr {p q : Nat → Bool} (n : Nat) (h : ∀ k, k < n → p k = q k) : fd_par p n = fd_par q n := by
  induction n with
  | zero => rfl
  | succ n ih => rw [fd_par_s, fd_par_s, ih (fun k hk => h k (by omega)), h n (by omega)]
theorem fd_par_xor (p q : Nat → Bool) (n : Nat) : fd_par (fun k => (p k ^^ q k)) n = (fd_par p n ^^ fd_par q n) := by
  induction n with
  | zero => rfl
  | succ n ih =>
    show (fd_par (fun k => (p k ^^ q k)) n ^^ (p n ^^ q n)) = ((fd_par p n ^^ p n) ^^ (fd_par q n ^^ q n))
    rw [ih]
    cases fd_par p n <;> cases fd_par q n <;> cases p n <;> cases q n <;> rfl
theorem fd_par_one (p : Nat → Bool) (i : Nat) (n : Nat) (h : ∀ k, k < n → k ≠ i → p k = false) : fd_par p n = (decide (i < n) && p i) := by
  induction n with
  | zero => simp [fd_par]
  | succ n ih =>
    rw [fd_par_s, ih (fun k hk hi => h k (by omega) hi)]
    by_cases e : n = i
    · subst e
      simp
    · rw [h n (by omega) e]
      have e2 : decide (i < n + 1) = decide (i < n) := decide_eq_decide.mpr (by omega)
      rw [e2]
      simp
theorem fd_xs_bit (f : Nat → Nat) (c i n : Nat) : (fd_xs f c n).testBit i = fd_par (fun k => c.testBit k && (f k).testBit i) n := by
  induction n with
  | zero => exact Nat.zero_testBit i
  | succ n ih =>
    rw [fd_xs_s, Nat.testBit_xor, ih, fd_ifb]
    rfl
theorem fd_xs_zero (f : Nat → Nat) (c n : Nat) (h : ∀ k, k < n → c.testBit k = true → f k = 0) : fd_xs f c n = 0 := by
  induction n with
  | zero => rfl
  | succ n ih =>
    rw [fd_xs_s, ih (fun k hk => h k (by omega))]
    by_cases b : c.testBit n = true
    · rw [if_pos b, h n (by omega) b]
      rfl
    · rw [if_neg b]
      rfl
theorem fd_xs_one (f : Nat → Nat) (c i n : Nat) (hi : i < n) (hc : c.testBit i = true) (h : ∀ k, k < n → k ≠ i → c.testBit k = true → f k = 0) : fd_xs f c n = f i := by
  induction n with
  | zero => omega
  | succ n ih =>
    rw [fd_xs_s]
    by_cases e : n = i
    · subst e
      rw [fd_xs_zero f c n (fun k hk => h k (by omega) (by omega)), if_pos hc, Nat.zero_xor]
    · rw [ih (by omega) (fun k hk => h k (by omega))]
      by_cases b : c.testBit n = true
      · rw [if_pos b, h n (by omega) e b, Nat.xor_zero]
      · rw [if_neg b, Nat.xor_zero]
theorem fd_xs_pow (f : Nat → Nat) (k n : Nat) (h : k < n) : fd_xs f (2 ^ k) n = f k := by
  apply fd_xs_one f _ k n h
  · rw [Nat.testBit_two_pow]
    simp
  · intro j _ hj hb
    rw [Nat.testBit_two_pow, decide_eq_true_eq] at hb
    omega
theorem fd_xs_lt {f : Nat → Nat} (h : ∀ k, f k < 256) (c n : Nat) : fd_xs f c n < 256 := by
  induction n with
  | zero => exact Nat.zero_lt_succ 255
  | succ n ih =>
    rw [fd_xs_s]
    have h2 : (if c.testBit n = true then f n else 0) < 256 := by
      split
      · exact h n
      · decide
    exact Nat.xor_lt_two_pow (n := 8) ih h2
theorem fd_xs_congr (f : Nat → Nat) (c d n : Nat) (h : ∀ j, j < n → c.testBit j = d.testBit j) : fd_xs f c n = fd_xs f d n := by
  induction n with
  | zero => rfl
  | succ n ih => rw [fd_xs_s, fd_xs_s, ih (fun k hk => h k (by omega)), h n (by omega)]
/-- how many below n -/
def fd_ct (p : Nat → Bool) : Nat → Nat
  | 0 => 0
  | n + 1 => fd_ct p n + (if p n = true then 1 else 0)
theorem fd_ct_s (p : Nat → Bool) (n : Nat) : fd_ct p (n + 1) = fd_ct p n + (if p n = true then 1 else 0) := rfl
theorem fd_ct_congr {p q : Nat → Bool} (n : Nat) (h : ∀ k, k < n → p k = q k) : fd_ct p n = fd_ct q n := by
  induction n with
  | zero => rfl
  | succ n ih => rw [fd_ct_s, fd_ct_s, ih (fun k hk => h k (by omega)), h n (by omega)]
theorem fd_ct_le (p : Nat → Bool) (n : Nat) : fd_ct p n ≤ n := by
  induction n with
  | zero => exact Nat.le_refl 0
  | succ n ih =>
    rw [fd_ct_s]
    split <;> omega
theorem fd_ct_add (p : Nat → Bool) (a b : Nat) : fd_ct p (a + b) = fd_ct p a + fd_ct (fun i => p (a + i)) b := by
  induction b with
  | zero => rfl
  | succ b ih =>
    show fd_ct p (a + b) + (if p (a + b) = true then 1 else 0) = fd_ct p a + (fd_ct (fun i => p (a + i)) b + (if p (a + b) = true then 1 else 0))
    rw [ih, Nat.add_assoc]
theorem fd_ct_or (p q : Nat → Bool) (n : Nat) (h : ∀ k, k < n → p k = true → q k = true → False) : fd_ct (fun k => (p k || q k)) n = fd_ct p n + fd_ct q n := by
  induction n with
  | zero => rfl
  | succ n ih =>
    show fd_ct (fun k => (p k || q k)) n + (if (p n || q n) = true then 1 else 0) = (fd_ct p n + (if p n = true then 1 else 0)) + (fd_ct q n + (if q n = true then 1 else 0))
    rw [ih (fun k hk => h k (by omega))]
    have h2 := h n (by omega)
    revert h2
    cases p n <;> cases q n <;> simp <;> omega
theorem fd_pa {n a : Nat} (h : a < 2 ^ n) : 2 ^ n + a = 2 ^ n ^^^ a := by
  apply Nat.eq_of_testBit_eq
  intro i
  rw [Nat.testBit_xor, Nat.testBit_two_pow]
  rcases Nat.lt_trichotomy i n with z | z | z
  · rw [Nat.testBit_two_pow_add_gt z, decide_eq_false (by omega)]
    simp
  · subst z
    rw [Nat.testBit_two_pow_add_eq]
    simp
  · have e : 2 ^ (n + 1) = 2 ^ n * 2 := Nat.pow_succ 2 n
    have hp : 2 ^ (n + 1) ≤ 2 ^ i := Nat.pow_le_pow_right (by decide) z
    rw [Nat.testBit_lt_two_pow (show a < 2 ^ i by omega), Nat.testBit_lt_two_pow (show 2 ^ n + a < 2 ^ i by omega), decide_eq_false (by omega)]
    rfl
theorem fd_ct_xor (n : Nat) : ∀ (p : Nat → Bool) (s : Nat), s < 2 ^ n → fd_ct (fun a => p (a ^^^ s)) (2 ^ n) = fd_ct p (2 ^ n) := by
  induction n with
  | zero =>
    intro p s hs
    have e : s = 0 := by
      have : (2 : Nat) ^ 0 = 1 := rfl
      omega
    subst e
    exact fd_ct_congr _ (fun k _ => congrArg p (Nat.xor_zero k))
  | succ n ih =>
    intro p s hs
    have e : 2 ^ (n + 1) = 2 ^ n + 2 ^ n := by rw [Nat.pow_succ, Nat.mul_two]
    rw [e, fd_ct_add, fd_ct_add]
    rw [e] at hs
    by_cases h : s < 2 ^ n
    · have e1 := ih p s h
      have e2 : fd_ct (fun i => p ((2 ^ n + i) ^^^ s)) (2 ^ n) = fd_ct (fun i => p (2 ^ n + i)) (2 ^ n) := by
        refine Eq.trans (fd_ct_congr _ ?_) (ih (fun i => p (2 ^ n + i)) s h)
        intro k hk
        show p ((2 ^ n + k) ^^^ s) = p (2 ^ n + (k ^^^ s))
        rw [fd_pa hk, fd_pa (Nat.xor_lt_two_pow hk h), Nat.xor_assoc]
      rw [e1, e2]
    · obtain ⟨t, ht⟩ : ∃ t, s = 2 ^ n + t := ⟨s - 2 ^ n, by omega⟩
      subst ht
      have h2 : t < 2 ^ n := by omega
      have e1 : fd_ct (fun a => p (a ^^^ (2 ^ n + t))) (2 ^ n) = fd_ct (fun i => p (2 ^ n + i)) (2 ^ n) := by
        refine Eq.trans (fd_ct_congr _ ?_) (ih (fun i => p (2 ^ n + i)) t h2)
        intro k hk
        show p (k ^^^ (2 ^ n + t)) = p (2 ^ n + (k ^^^ t))
        rw [fd_pa h2, fd_pa (Nat.xor_lt_two_pow hk h2), ← Nat.xor_assoc, Nat.xor_comm k, Nat.xor_assoc]
      have e2 : fd_ct (fun i => p ((2 ^ n + i) ^^^ (2 ^ n + t))) (2 ^ n) = fd_ct p (2 ^ n) := by
        refine Eq.trans (fd_ct_congr _ ?_) (ih p t h2)
        intro k hk
        show p ((2 ^ n + k) ^^^ (2 ^ n + t)) = p (k ^^^ t)
        rw [fd_pa hk, fd_pa h2, fd_x22, Nat.xor_self, Nat.zero_xor]
      rw [e1, e2, Nat.add_comm]
theorem fd_ct_two (p : Nat → Bool) (s : Nat) (hs : s < 256) (h : ∀ a, p a = true → p (a ^^^ s) = true → False) : fd_ct (fun a => (p a || p (a ^^^ s))) 256 = 2 * fd_ct p 256 := by
  have e := fd_ct_or p (fun a => p (a ^^^ s)) 256 (fun k _ => h k)
  have e2 : fd_ct (fun a => p (a ^^^ s)) 256 = fd_ct p 256 := fd_ct_xor 8 p s hs
  rw [e2] at e
  rw [Nat.two_mul]
  exact e
/-- the number with the bits i < n that p tells -/
def fd_mk (p : Nat → Bool) : Nat → Nat
  | 0 => 0
  | n + 1 => fd_mk p n ||| (if p n = true then 2 ^ n else 0)
theorem fd_mk_s (p : Nat → Bool) (n : Nat) : fd_mk p (n + 1) = fd_mk p n ||| (if p n = true then 2 ^ n else 0) := rfl
theorem fd_mk_congr {p q : Nat → Bool} (n : Nat) (h : ∀ k, k < n → p k = q k) : fd_mk p n = fd_mk q n := by
  induction n with
  | zero => rfl
  | succ n ih => rw [fd_mk_s, fd_mk_s, ih (fun k hk => h k (by omega)), h n (by omega)]
theorem fd_mk_bit (p : Nat → Bool) (n i : Nat) : (fd_mk p n).testBit i = (decide (i < n) && p i) := by
  induction n with
  | zero =>
    show (0 : Nat).testBit i = _
    simp
  | succ n ih =>
    rw [fd_mk_s, Nat.testBit_or, ih, fd_ifb, Nat.testBit_two_pow]
    by_cases e : n = i
    · subst e
      simp
    · have e2 : decide (i < n + 1) = decide (i < n) := decide_eq_decide.mpr (by omega)
      rw [e2, decide_eq_false e]
      simp
theorem fd_mk_lt (p : Nat → Bool) (n : Nat) : fd_mk p n < 2 ^ n := by
  apply Nat.lt_pow_two_of_testBit
  intro i hi
  rw [fd_mk_bit, decide_eq_false (by omega)]
  rfl
end
section
/-! rows with a leading piece each, and what some drops can be put together to -/
def fd_B (f : Nat → Nat) : Prop := ∀ k, f k < 256
/-- each row that isn't 0 has a piece that no other row has (the lesser ones are 0 with their values) -/
def fd_RR (R : Nat → Nat) : Prop := ∀ i j, i < 8 → j < 8 → R i ≠ 0 → (R j).testBit i = decide (i = j)
def fd_OK (R Q : Nat → Nat) : Prop := fd_RR R ∧ ∀ i, i < 8 → R i = 0 → Q i = 0
/-- what is left of a set -/
def fd_ro (R : Nat → Nat) (a : Nat) : Nat := a ^^^ fd_xs R a 8
theorem fd_ro_add (R : Nat → Nat) (a b : Nat) : fd_ro R (a ^^^ b) = fd_ro R a ^^^ fd_ro R b := by
  unfold fd_ro
  rw [fd_xs_add, fd_x22]
theorem fd_ro_piv {R : Nat → Nat} (h : fd_RR R) {i : Nat} (hi : i < 8) (hn : R i ≠ 0) (a : Nat) : (fd_ro R a).testBit i = false := by
  have e : (fd_xs R a 8).testBit i = a.testBit i := by
    rw [fd_xs_bit, fd_par_one _ i 8 (fun k hk hne => by rw [h i k hi hk hn, decide_eq_false (by omega), Bool.and_false]), h i i hi hi hn]
    simp [hi]
  unfold fd_ro
  rw [Nat.testBit_xor, e]
  cases a.testBit i <;> rfl
theorem fd_ro_lt {R : Nat → Nat} (h : fd_B R) {a : Nat} (ha : a < 256) : fd_ro R a < 256 := Nat.xor_lt_two_pow (n := 8) ha (fd_xs_lt h a 8)
/-- a row is made of itself alone -/
theorem fd_row_self {R Q : Nat → Nat} (h : fd_OK R Q) {i : Nat} (hi : i < 8) (hn : R i ≠ 0) : fd_xs R (R i) 8 = R i ∧ fd_xs Q (R i) 8 = Q i := by
  have hb : (R i).testBit i = true := by
    rw [h.1 i i hi hi hn]
    simp
  have hz : ∀ k, k < 8 → k ≠ i → (R i).testBit k = true → R k = 0 := by
    intro k hk hne hkb
    by_cases z : R k = 0
    · exact z
    · rw [h.1 k i hk hi z, decide_eq_true_eq] at hkb
      omega
  exact ⟨fd_xs_one R (R i) i 8 hi hb hz, fd_xs_one Q (R i) i 8 hi hb (fun k hk hne hkb => h.2 k hk (hz k hk hne hkb))⟩
/-- no leading piece in it: nothing is taken out -/
theorem fd_ro_free {R Q : Nat → Nat} (h : fd_OK R Q) {a : Nat} (hf : ∀ k, k < 8 → R k ≠ 0 → a.testBit k = false) : fd_xs R a 8 = 0 ∧ fd_xs Q a 8 = 0 := by
  have hz : ∀ k, k < 8 → a.testBit k = true → R k = 0 := by
    intro k hk hb
    by_cases z : R k = 0
    · exact z
    · rw [hf k hk z] at hb
      cases hb
  exact ⟨fd_xs_zero R a 8 hz, fd_xs_zero Q a 8 (fun k hk hb => h.2 k hk (hz k hk hb))⟩
/-- the rows F when the row l is put at p and taken out of the others -/
def fd_inc (R F : Nat → Nat) (p l : Nat) : Nat → Nat := fun j => if j = p then l else if j < 8 ∧ (R j).testBit p = true then F j ^^^ l else F j
theorem fd_inc_e {R F : Nat → Nat} {p : Nat} (l : Nat) (hR : R p = 0) (hF : F p = 0) {n : Nat} (hn : n < 8) : fd_inc R F p l n = F n ^^^ (if (decide (n = p) ^^ (R n).testBit p) = true then l else 0) := by
  unfold fd_inc
  by_cases e : n = p
  · subst e
    rw [if_pos rfl, hR, hF, Nat.zero_testBit]
    simp
  · rw [if_neg e, decide_eq_false e, Bool.false_xor]
    by_cases b : (R n).testBit p = true
    · rw [if_pos ⟨hn, b⟩, if_pos b]
    · rw [if_neg (fun z => b z.2), if_neg b, Nat.xor_zero]
theorem fd_inc_xs {R F : Nat → Nat} {p : Nat} (l : Nat) (hR : R p = 0) (hF : F p = 0) (a n : Nat) (hn : n ≤ 8) : fd_xs (fd_inc R F p l) a n = fd_xs F a n ^^^ (if fd_par (fun k => a.testBit k && (decide (k = p) ^^ (R k).testBit p)) n = true then l else 0) := by
  induction n with
  | zero => simp [fd_xs, fd_par]
  | succ n ih =>
    rw [fd_xs_s, fd_xs_s, ih (by omega), fd_inc_e l hR hF (n := n) (by omega), fd_par_s]
    cases a.testBit n
    · simp
    · rw [if_pos rfl, if_pos rfl, Bool.true_and, fd_ifx (fd_par (fun k => a.testBit k && (decide (k = p) ^^ (R k).testBit p)) n) (decide (n = p) ^^ (R n).testBit p), fd_x22]
theorem fd_inc_par (R : Nat → Nat) {p : Nat} (hp : p < 8) (a : Nat) : fd_par (fun k => a.testBit k && (decide (k = p) ^^ (R k).testBit p)) 8 = (fd_ro R a).testBit p := by
  have e1 : fd_par (fun k => a.testBit k && (decide (k = p) ^^ (R k).testBit p)) 8 = fd_par (fun k => ((a.testBit k && decide (k = p)) ^^ (a.testBit k && (R k).testBit p))) 8 := fd_par_congr 8 (fun k _ => by cases a.testBit k <;> simp)
  have e2 : fd_par (fun k => ((a.testBit k && decide (k = p)) ^^ (a.testBit k && (R k).testBit p))) 8 = (fd_par (fun k => a.testBit k && decide (k = p)) 8 ^^ fd_par (fun k => a.testBit k && (R k).testBit p) 8) := fd_par_xor (fun k => a.testBit k && decide (k = p)) (fun k => a.testBit k && (R k).testBit p) 8
  have e3 : fd_par (fun k => a.testBit k && decide (k = p)) 8 = a.testBit p := by
    rw [fd_par_one _ p 8 (fun k _ hk => by rw [decide_eq_false hk, Bool.and_false])]
    simp [hp]
  rw [e1, e2, e3]
  unfold fd_ro
  rw [Nat.testBit_xor, fd_xs_bit]
theorem fd_inc_ro {R : Nat → Nat} {p : Nat} (hp : p < 8) (l : Nat) (hR : R p = 0) (a : Nat) : fd_ro (fd_inc R R p l) a = fd_ro R a ^^^ (if (fd_ro R a).testBit p = true then l else 0) := by
  have e : fd_xs (fd_inc R R p l) a 8 = fd_xs R a 8 ^^^ (if (fd_ro R a).testBit p = true then l else 0) := by rw [fd_inc_xs l hR hR a 8 (Nat.le_refl 8), fd_inc_par R hp a]
  show a ^^^ fd_xs (fd_inc R R p l) a 8 = (a ^^^ fd_xs R a 8) ^^^ (if (fd_ro R a).testBit p = true then l else 0)
  rw [e, Nat.xor_assoc]
theorem fd_inc_ph {R Q : Nat → Nat} {p : Nat} (hp : p < 8) (l : Nat) (hR : R p = 0) (hQ : Q p = 0) (a : Nat) : fd_xs (fd_inc R Q p l) a 8 = fd_xs Q a 8 ^^^ (if (fd_ro R a).testBit p = true then l else 0) := by
  rw [fd_inc_xs l hR hQ a 8 (Nat.le_refl 8), fd_inc_par R hp a]
theorem fd_piv0 {R Q : Nat → Nat} (h : fd_OK R Q) {s p : Nat} (hp : p < 8) (hb : (fd_ro R s).testBit p = true) : R p = 0 := by
  by_cases e : R p = 0
  · exact e
  · rw [fd_ro_piv h.1 hp e s] at hb
    cases hb
theorem fd_inc_OK {R Q : Nat → Nat} (h : fd_OK R Q) {s p : Nat} (hp : p < 8) (hb : (fd_ro R s).testBit p = true) (m : Nat) : fd_OK (fd_inc R R p (fd_ro R s)) (fd_inc R Q p m) := by
  constructor
  · intro i j hi hj hne
    by_cases e : i = p
    · subst e
      unfold fd_inc
      by_cases ej : j = i
      · rw [if_pos ej, hb, decide_eq_true ej.symm]
      · rw [if_neg ej, decide_eq_false (fun z => ej z.symm)]
        by_cases b : (R j).testBit i = true
        · rw [if_pos ⟨hj, b⟩, Nat.testBit_xor, b, hb]
          rfl
        · rw [if_neg (fun z => b z.2)]
          exact Bool.eq_false_iff.mpr b
    · have hRi : R i ≠ 0 := by
        intro z
        apply hne
        unfold fd_inc
        rw [if_neg e, z, Nat.zero_testBit, if_neg (fun w => Bool.noConfusion w.2)]
      have hl : (fd_ro R s).testBit i = false := fd_ro_piv h.1 hi hRi s
      unfold fd_inc
      by_cases ej : j = p
      · rw [if_pos ej, hl, decide_eq_false (by omega)]
      · rw [if_neg ej]
        by_cases b : (R j).testBit p = true
        · rw [if_pos ⟨hj, b⟩, Nat.testBit_xor, hl, h.1 i j hi hj hRi]
          simp
        · rw [if_neg (fun z => b z.2)]
          exact h.1 i j hi hj hRi
  · intro i hi hz
    unfold fd_inc at hz ⊢
    by_cases e : i = p
    · subst e
      rw [if_pos rfl] at hz
      rw [hz, Nat.zero_testBit] at hb
      cases hb
    · rw [if_neg e] at hz ⊢
      by_cases b : (R i).testBit p = true
      · exfalso
        rw [if_pos ⟨hi, b⟩] at hz
        have hne : R i ≠ 0 := fun z => by
          rw [z, Nat.zero_testBit] at b
          cases b
        have h1 := fd_ro_piv h.1 hi hne s
        have h2 := h.1 i i hi hi hne
        rw [fd_x0.mp hz, h1] at h2
        simp at h2
      · rw [if_neg (fun z => b z.2)] at hz ⊢
        exact h.2 i hi hz
theorem fd_inc_in {R Q : Nat → Nat} (h : fd_OK R Q) {s p : Nat} (hp : p < 8) (hb : (fd_ro R s).testBit p = true) (a : Nat) : fd_ro (fd_inc R R p (fd_ro R s)) a = 0 ↔ (fd_ro R a = 0 ∨ fd_ro R (a ^^^ s) = 0) := by
  rw [fd_inc_ro hp _ (fd_piv0 h hp hb), fd_ro_add]
  by_cases b : (fd_ro R a).testBit p = true
  · rw [if_pos b]
    constructor
    · exact Or.inr
    · intro z
      rcases z with z | z
      · rw [z, Nat.zero_testBit] at b
        cases b
      · exact z
  · rw [if_neg b, Nat.xor_zero]
    constructor
    · exact Or.inl
    · intro z
      rcases z with z | z
      · exact z
      · exact absurd (by rw [fd_x0.mp z]; exact hb) b
theorem fd_B_inc {R F : Nat → Nat} (h : fd_B F) {p l : Nat} (hl : l < 256) : fd_B (fd_inc R F p l) := by
  intro k
  unfold fd_inc
  split
  · exact hl
  · split
    · exact Nat.xor_lt_two_pow (n := 8) (h k) hl
    · exact h k
/-- the rows stand for A: the sets that they can be put together to, with their values; 2 ^ g sets -/
def fd_RW (A : Nat → Nat → Prop) (g : Nat) (R Q : Nat → Nat) : Prop :=
  fd_OK R Q ∧ (∀ a b, (fd_ro R a = 0 ∧ b = fd_xs Q a 8) ↔ A a b) ∧ fd_ct (fun a => decide (fd_ro R a = 0)) 256 = 2 ^ g
theorem fd_RW_congr {A A' : Nat → Nat → Prop} {g : Nat} {R Q : Nat → Nat} (h : fd_RW A g R Q) (e : ∀ a b, A a b ↔ A' a b) : fd_RW A' g R Q :=
  ⟨h.1, fun a b => (h.2.1 a b).trans (e a b), h.2.2⟩
theorem fd_RW_inc {A : Nat → Nat → Prop} {g : Nat} {R Q : Nat → Nat} (h : fd_RW A g R Q) {s p : Nat} (hs : s < 256) (hp : p < 8) (hb : (fd_ro R s).testBit p = true) (v : Nat) :
    fd_RW (fun a b => A a b ∨ A (a ^^^ s) (b ^^^ v)) (g + 1) (fd_inc R R p (fd_ro R s)) (fd_inc R Q p (v ^^^ fd_xs Q s 8)) := by
  have h0 := fd_piv0 h.1 hp hb
  refine ⟨fd_inc_OK h.1 hp hb _, ?_, ?_⟩
  · intro a b
    show _ ↔ (A a b ∨ A (a ^^^ s) (b ^^^ v))
    rw [← h.2.1 a b, ← h.2.1 (a ^^^ s) (b ^^^ v), fd_inc_ro hp _ h0, fd_inc_ph hp _ h0 (h.1.2 p hp h0), fd_ro_add, fd_xs_add]
    by_cases c : (fd_ro R a).testBit p = true
    · rw [if_pos c, if_pos c, fd_mv]
      constructor
      · exact Or.inr
      · intro z
        rcases z with z | z
        · rw [z.1, Nat.zero_testBit] at c
          cases c
        · exact z
    · rw [if_neg c, if_neg c, Nat.xor_zero, Nat.xor_zero]
      constructor
      · exact Or.inl
      · intro z
        rcases z with z | z
        · exact z
        · exact absurd (by rw [fd_x0.mp z.1]; exact hb) c
  · have e : fd_ct (fun a => decide (fd_ro (fd_inc R R p (fd_ro R s)) a = 0)) 256 = fd_ct (fun a => (decide (fd_ro R a = 0) || decide (fd_ro R (a ^^^ s) = 0))) 256 := by
      apply fd_ct_congr
      intro k _
      show decide _ = (decide _ || decide _)
      rw [← Bool.decide_or]
      exact decide_eq_decide.mpr (fd_inc_in h.1 hp hb k)
    rw [e]
    have e2 := fd_ct_two (fun a => decide (fd_ro R a = 0)) s hs (by
      intro a h1 h2
      have h1 : fd_ro R a = 0 := of_decide_eq_true h1
      have h2 : fd_ro R (a ^^^ s) = 0 := of_decide_eq_true h2
      rw [fd_ro_add, h1, Nat.zero_xor] at h2
      rw [h2, Nat.zero_testBit] at hb
      cases hb)
    refine Eq.trans e2 ?_
    rw [h.2.2, Nat.pow_succ, Nat.mul_comm]
theorem fd_RW_same {A : Nat → Nat → Prop} {g : Nat} {R Q : Nat → Nat} (h : fd_RW A g R Q) {s v : Nat} (h0 : fd_ro R s = 0) (hv : v = fd_xs Q s 8) :
    fd_RW (fun a b => A a b ∨ A (a ^^^ s) (b ^^^ v)) g R Q := by
  apply fd_RW_congr h
  intro a b
  rw [← h.2.1 a b, ← h.2.1 (a ^^^ s) (b ^^^ v), fd_ro_add, fd_xs_add, h0, Nat.xor_zero, ← hv]
  constructor
  · exact Or.inl
  · intro z
    rcases z with z | z
    · exact z
    · refine ⟨z.1, ?_⟩
      have e := congrArg (fun x => x ^^^ v) z.2
      simp only [fd_xc] at e
      exact e
theorem fd_RW_lt {A : Nat → Nat → Prop} {g : Nat} {R Q : Nat → Nat} (h : fd_RW A g R Q) : g ≤ 8 := by
  have h1 := fd_ct_le (fun a => decide (fd_ro R a = 0)) 256
  rw [h.2.2] at h1
  exact (Nat.pow_le_pow_iff_right (a := 2) (by decide)).mp (show 2 ^ g ≤ 2 ^ 8 from h1)
/-- what can be put together from the drops k < n with bit k in m -/
def fd_Sp (S V : Nat → Nat) (m : Nat) : Nat → Nat → Nat → Prop
  | 0 => fun a b => a = 0 ∧ b = 0
  | n + 1 => fun a b => fd_Sp S V m n a b ∨ (m.testBit n = true ∧ fd_Sp S V m n (a ^^^ S n) (b ^^^ V n))
theorem fd_Sp_s (S V : Nat → Nat) (m n a b : Nat) : fd_Sp S V m (n + 1) a b ↔ (fd_Sp S V m n a b ∨ (m.testBit n = true ∧ fd_Sp S V m n (a ^^^ S n) (b ^^^ V n))) := Iff.rfl
theorem fd_Sp_up {S V : Nat → Nat} {m a b : Nat} (n d : Nat) (h : fd_Sp S V m n a b) : fd_Sp S V m (n + d) a b := by
  induction d with
  | zero => exact h
  | succ d ih => exact Or.inl ih
theorem fd_Sp_mono {S V : Nat → Nat} {m m' : Nat} (hm : ∀ j, m.testBit j = true → m'.testBit j = true) (n : Nat) : ∀ a b, fd_Sp S V m n a b → fd_Sp S V m' n a b := by
  induction n with
  | zero => exact fun a b h => h
  | succ n ih =>
    intro a b h
    rcases h with h | h
    · exact Or.inl (ih a b h)
    · exact Or.inr ⟨hm n h.1, ih _ _ h.2⟩
/-- no set has two values -/
def fd_Co (S V : Nat → Nat) (m : Nat) : Prop := ∀ b, fd_Sp S V m 10 0 b → b = 0
theorem fd_Co_mono {S V : Nat → Nat} {m m' : Nat} (hm : ∀ j, m.testBit j = true → m'.testBit j = true) (h : fd_Co S V m') : fd_Co S V m := fun b hb => h b (fd_Sp_mono hm 10 0 b hb)
theorem fd_RW_0 (S V : Nat → Nat) (m : Nat) {R Q : Nat → Nat} (hR : ∀ j, j < 8 → R j = 0) (hQ : ∀ j, j < 8 → Q j = 0) : fd_RW (fd_Sp S V m 0) 0 R Q := by
  have eR : ∀ a, fd_ro R a = a := by
    intro a
    unfold fd_ro
    rw [fd_xs_zero R a 8 (fun k hk _ => hR k hk), Nat.xor_zero]
  refine ⟨⟨fun i j hi hj hn => absurd (hR i hi) hn, fun i hi _ => hQ i hi⟩, ?_, ?_⟩
  · intro a b
    rw [eR, fd_xs_zero Q a 8 (fun k hk _ => hQ k hk)]
    exact Iff.rfl
  · have e : fd_ct (fun a => decide (fd_ro R a = 0)) 256 = fd_ct (fun a => decide (a = 0)) 256 := by
      apply fd_ct_congr
      intro k _
      show decide (fd_ro R k = 0) = decide (k = 0)
      rw [eR]
    rw [e]
    decide +kernel
/-- the next drop isn't taken, is taken and new, is taken and old -/
theorem fd_RW_no {S V : Nat → Nat} {m n g : Nat} {R Q : Nat → Nat} (h : fd_RW (fd_Sp S V m n) g R Q) (hb : m.testBit n = false) : fd_RW (fd_Sp S V m (n + 1)) g R Q := by
  apply fd_RW_congr h
  intro a b
  rw [fd_Sp_s, hb]
  simp
theorem fd_RW_old {S V : Nat → Nat} {m n g : Nat} {R Q : Nat → Nat} (h : fd_RW (fd_Sp S V m n) g R Q) (hc : fd_Co S V m) (hn : n < 10) (hb : m.testBit n = true) (h0 : fd_ro R (S n) = 0) : fd_RW (fd_Sp S V m (n + 1)) g R Q := by
  have hv : V n = fd_xs Q (S n) 8 := by
    have h1 : fd_Sp S V m n (S n) (fd_xs Q (S n) 8) := (h.2.1 _ _).mp ⟨h0, rfl⟩
    have h2 : fd_Sp S V m (n + 1) 0 (V n ^^^ fd_xs Q (S n) 8) := by
      refine Or.inr ⟨hb, ?_⟩
      rw [Nat.zero_xor, Nat.xor_comm (V n), fd_xc]
      exact h1
    have h3 := fd_Sp_up (n + 1) (9 - n) h2
    have e : n + 1 + (9 - n) = 10 := by omega
    rw [e] at h3
    exact fd_x0.mp (hc _ h3)
  apply fd_RW_congr (fd_RW_same h h0 hv)
  intro a b
  rw [fd_Sp_s, hb]
  simp
theorem fd_RW_new {S V : Nat → Nat} {m n g : Nat} {R Q : Nat → Nat} (h : fd_RW (fd_Sp S V m n) g R Q) (hS : S n < 256) (hb : m.testBit n = true) {p : Nat} (hp : p < 8) (hl : (fd_ro R (S n)).testBit p = true) :
    fd_RW (fd_Sp S V m (n + 1)) (g + 1) (fd_inc R R p (fd_ro R (S n))) (fd_inc R Q p (V n ^^^ fd_xs Q (S n) 8)) := by
  apply fd_RW_congr (fd_RW_inc h hS hp hl (V n))
  intro a b
  rw [fd_Sp_s, hb]
  simp
/-- whether a set's exclusive or is known -/
noncomputable def fd_kn (S V : Nat → Nat) (m a : Nat) : Bool := @decide (∃ b, fd_Sp S V m 10 a b) (Classical.propDecidable _)
theorem fd_kn_iff {S V : Nat → Nat} {m a : Nat} : fd_kn S V m a = true ↔ ∃ b, fd_Sp S V m 10 a b := @decide_eq_true_iff _ (Classical.propDecidable _)
theorem fd_kn_ro {S V : Nat → Nat} {m g : Nat} {R Q : Nat → Nat} (h : fd_RW (fd_Sp S V m 10) g R Q) (a : Nat) : fd_kn S V m a = decide (fd_ro R a = 0) := by
  apply Bool.eq_iff_iff.mpr
  rw [fd_kn_iff, decide_eq_true_iff]
  constructor
  · intro z
    obtain ⟨b, hb⟩ := z
    exact ((h.2.1 a b).mpr hb).1
  · intro z
    exact ⟨_, (h.2.1 a _).mp ⟨z, rfl⟩⟩
theorem fd_kn_ct {S V : Nat → Nat} {m g : Nat} {R Q : Nat → Nat} (h : fd_RW (fd_Sp S V m 10) g R Q) : fd_ct (fd_kn S V m) 256 = 2 ^ g := by
  rw [← h.2.2]
  exact fd_ct_congr 256 (fun k _ => fd_kn_ro h k)
theorem fd_ro_pow (R : Nat → Nat) {i : Nat} (hi : i < 8) : fd_ro R (2 ^ i) = 0 ↔ R i = 2 ^ i := by
  unfold fd_ro
  rw [fd_xs_pow R i 8 hi, fd_x0]
  exact eq_comm
/-- a drop is put at a free place -/
def fd_up (f : Nat → Nat) (k x : Nat) : Nat → Nat := fun j => if j = k then x else f j
theorem fd_taut {A B C D p : Prop} : ((A ∨ B) ∨ (p ∧ (C ∨ D))) ↔ ((A ∨ (p ∧ C)) ∨ (B ∨ (p ∧ D))) := by
  constructor
  · intro h
    rcases h with (h | h) | ⟨hp, h | h⟩
    · exact Or.inl (Or.inl h)
    · exact Or.inr (Or.inl h)
    · exact Or.inl (Or.inr ⟨hp, h⟩)
    · exact Or.inr (Or.inr ⟨hp, h⟩)
  · intro h
    rcases h with (h | ⟨hp, h⟩) | (h | ⟨hp, h⟩)
    · exact Or.inl (Or.inl h)
    · exact Or.inr ⟨hp, Or.inl h⟩
    · exact Or.inl (Or.inr h)
    · exact Or.inr ⟨hp, Or.inr h⟩
theorem fd_Sp_put (S V : Nat → Nat) (m k s v : Nat) (hk : m.testBit k = false) (n : Nat) :
    (n ≤ k → ∀ a b, fd_Sp (fd_up S k s) (fd_up V k v) (m ||| 2 ^ k) n a b ↔ fd_Sp S V m n a b) ∧
    (k < n → ∀ a b, fd_Sp (fd_up S k s) (fd_up V k v) (m ||| 2 ^ k) n a b ↔ (fd_Sp S V m n a b ∨ fd_Sp S V m n (a ^^^ s) (b ^^^ v))) := by
  induction n with
  | zero => exact ⟨fun _ a b => Iff.rfl, fun h => absurd h (Nat.not_lt_zero k)⟩
  | succ n ih =>
    have hb : n ≠ k → (m ||| 2 ^ k).testBit n = m.testBit n := by
      intro e
      rw [Nat.testBit_or, Nat.testBit_two_pow, decide_eq_false (fun z => e z.symm), Bool.or_false]
    have hS : n ≠ k → fd_up S k s n = S n := fun e => if_neg e
    have hV : n ≠ k → fd_up V k v n = V n := fun e => if_neg e
    constructor
    · intro h a b
      have e : n ≠ k := by omega
      have i1 := ih.1 (by omega)
      rw [fd_Sp_s, fd_Sp_s, hb e, hS e, hV e, i1, i1]
    · intro h a b
      by_cases e : n = k
      · subst e
        have i1 := ih.1 (Nat.le_refl n)
        have e1 : (m ||| 2 ^ n).testBit n = true := by
          rw [Nat.testBit_or, Nat.testBit_two_pow]
          simp
        have e2 : fd_up S n s n = s := if_pos rfl
        have e3 : fd_up V n v n = v := if_pos rfl
        rw [fd_Sp_s, fd_Sp_s, fd_Sp_s, e1, e2, e3, i1, i1, hk]
        simp
      · have i2 := ih.2 (by omega)
        rw [fd_Sp_s, fd_Sp_s, fd_Sp_s, hb e, hS e, hV e, i2, i2, fd_xrc a (S n) s, fd_xrc b (V n) v]
        exact fd_taut
theorem fd_Sp_put10 (S V : Nat → Nat) (m k s v : Nat) (hk : m.testBit k = false) (h : k < 10) (a b : Nat) : fd_Sp (fd_up S k s) (fd_up V k v) (m ||| 2 ^ k) 10 a b ↔ (fd_Sp S V m 10 a b ∨ fd_Sp S V m 10 (a ^^^ s) (b ^^^ v)) := (fd_Sp_put S V m k s v hk 10).2 h a b
theorem fd_Co_put {S V : Nat → Nat} {m k s v g : Nat} {R Q : Nat → Nat} (h : fd_RW (fd_Sp S V m 10) g R Q) (hc : fd_Co S V m) (hk : m.testBit k = false) (hk10 : k < 10) (hv : fd_ro R s = 0 → v = fd_xs Q s 8) : fd_Co (fd_up S k s) (fd_up V k v) (m ||| 2 ^ k) := by
  intro b hb
  rcases (fd_Sp_put10 S V m k s v hk hk10 0 b).mp hb with z | z
  · exact hc b z
  · rw [Nat.zero_xor] at z
    have z := (h.2.1 _ _).mpr z
    have e := z.2
    rw [← hv z.1] at e
    have e2 := fd_xc b v
    rw [e, Nat.xor_self] at e2
    exact e2.symm
/-- the same by the sets of drops -/
theorem fd_Sp_code (S V : Nat → Nat) (m n : Nat) : ∀ a b, fd_Sp S V m n a b ↔ ∃ c, c < 2 ^ n ∧ (∀ j, j < n → c.testBit j = true → m.testBit j = true) ∧ fd_xs S c n = a ∧ fd_xs V c n = b := by
  induction n with
  | zero =>
    intro a b
    constructor
    · intro h
      exact ⟨0, Nat.one_pos, fun j hj => absurd hj (Nat.not_lt_zero j), h.1.symm, h.2.symm⟩
    · intro h
      obtain ⟨c, _, _, h1, h2⟩ := h
      exact ⟨h1.symm, h2.symm⟩
  | succ n ih =>
    intro a b
    have ep : 2 ^ (n + 1) = 2 ^ n + 2 ^ n := by rw [Nat.pow_succ, Nat.mul_two]
    rw [fd_Sp_s, ih, ih]
    constructor
    · intro h
      rcases h with h | h
      · obtain ⟨c, h0, h1, h2, h3⟩ := h
        have hb : ¬ c.testBit n = true := by
          rw [Nat.testBit_lt_two_pow h0]
          decide
        refine ⟨c, by omega, ?_, ?_, ?_⟩
        · intro j hj hc
          by_cases e : j = n
          · subst e
            exact absurd hc hb
          · exact h1 j (by omega) hc
        · rw [fd_xs_s, if_neg hb, Nat.xor_zero]
          exact h2
        · rw [fd_xs_s, if_neg hb, Nat.xor_zero]
          exact h3
      · obtain ⟨hm, c, h0, h1, h2, h3⟩ := h
        have hlo : ∀ j, j < n → (2 ^ n + c).testBit j = c.testBit j := fun j hj => Nat.testBit_two_pow_add_gt hj c
        have hb : (2 ^ n + c).testBit n = true := by
          rw [Nat.testBit_two_pow_add_eq, Nat.testBit_lt_two_pow h0]
          rfl
        refine ⟨2 ^ n + c, by omega, ?_, ?_, ?_⟩
        · intro j hj hc
          by_cases e : j = n
          · subst e
            exact hm
          · rw [hlo j (by omega)] at hc
            exact h1 j (by omega) hc
        · rw [fd_xs_s, if_pos hb, fd_xs_congr S _ c n hlo, h2, fd_xc]
        · rw [fd_xs_s, if_pos hb, fd_xs_congr V _ c n hlo, h3, fd_xc]
    · intro h
      obtain ⟨c, h0, h1, h2, h3⟩ := h
      have hlo : ∀ j, j < n → c.testBit j = (c % 2 ^ n).testBit j := by
        intro j hj
        rw [Nat.testBit_mod_two_pow, decide_eq_true hj, Bool.true_and]
      rw [fd_xs_s, fd_xs_congr S c (c % 2 ^ n) n hlo] at h2
      rw [fd_xs_s, fd_xs_congr V c (c % 2 ^ n) n hlo] at h3
      have hr : c % 2 ^ n < 2 ^ n := Nat.mod_lt _ (Nat.two_pow_pos n)
      have hr2 : ∀ j, j < n → (c % 2 ^ n).testBit j = true → m.testBit j = true := by
        intro j hj hc
        rw [← hlo j hj] at hc
        exact h1 j (by omega) hc
      by_cases hb : c.testBit n = true
      · rw [if_pos hb] at h2 h3
        refine Or.inr ⟨h1 n (by omega) hb, c % 2 ^ n, hr, hr2, ?_, ?_⟩
        · rw [← h2, fd_xc]
        · rw [← h3, fd_xc]
      · rw [if_neg hb, Nat.xor_zero] at h2 h3
        exact Or.inl ⟨c % 2 ^ n, hr, hr2, h2, h3⟩
end
section
/-! ints: bits, stores -/
def fd_I (f : Nat → Nat) : Nat → Int32 := fun j => nI (f j)
theorem fd_Ik (f : Nat → Nat) {k : Nat} (h : k < 2 ^ 31) : fd_I f (nI k).toNatClampNeg = nI (f k) := by
  rw [nI_clamp h]
  rfl
theorem fd_upI (f : Nat → Nat) (k x : Nat) : upd (fd_I f) k (nI x) = fd_I (fd_up f k x) := by
  funext j
  show (if j = k then nI x else nI (f j)) = nI (if j = k then x else f j)
  by_cases h : j = k
  · rw [if_pos h, if_pos h]
  · rw [if_neg h, if_neg h]
theorem fd_or (a b : Nat) : nI a ||| nI b = nI (a ||| b) := by
  apply Int32.toBitVec_inj.1
  show BitVec.ofNat 32 a ||| BitVec.ofNat 32 b = BitVec.ofNat 32 (a ||| b)
  apply BitVec.eq_of_getLsbD_eq
  intro i hi
  simp [hi]
theorem fd_sh0 : ∀ x, x < 256 → (nI x).toInt16.toInt32 = nI x := by decide +kernel
theorem fd_sh {x : Nat} (h : x < 256) : vp_nar .short (nI x).toInt16.toInt32 = nI x := by
  rw [pk_vs]
  exact fd_sh0 x h
theorem fd_n0 : vp_nar .short 0 = nI 0 := by
  rw [vp_nar_short]
  decide
theorem fd_bit {s i : Nat} (hs : s < 2 ^ 31) (hi : i < 32) : ((nI s >>> (nI i &&& 31)) &&& 1) = nI (s / 2 ^ i % 2) := by
  have e1 := pk_shrN hs (nI i &&& 31) i (s_l i hi)
  have e2 := pk_andN (n := s / 2 ^ i) (Nat.lt_of_le_of_lt (Nat.div_le_self _ _) (Nat.lt_trans hs (by decide))) (m := 1) 1 (by decide)
  rw [e1]
  exact e2
theorem fd_b0 {s i : Nat} (hs : s < 2 ^ 31) (hi : i < 32) : ((nI s >>> (nI i &&& 31)) &&& 1) = 0 ↔ s.testBit i = false := by
  rw [fd_bit hs hi, Nat.testBit_eq_decide_div_mod_eq]
  generalize s / 2 ^ i = z
  rw [← nI_0, nI_eq (by omega) (by omega), decide_eq_false_iff_not]
  omega
theorem fd_b1 {s i : Nat} (hs : s < 2 ^ 31) (hi : i < 32) : ((nI s >>> (nI i &&& 31)) &&& 1) = 1 ↔ s.testBit i = true := by
  rw [fd_bit hs hi, Nat.testBit_eq_decide_div_mod_eq]
  generalize s / 2 ^ i = z
  show nI (z % 2) = nI 1 ↔ _
  rw [nI_eq (by omega) (by omega), decide_eq_true_iff]
theorem fd_br0 {s i : Nat} {A B : Prop} (hs : s < 2 ^ 31) (hi : i < 32) (f : s.testBit i = false → A) (g : s.testBit i = true → B) : (((nI s >>> (nI i &&& 31)) &&& 1) = 0 → A) ∧ (¬ ((nI s >>> (nI i &&& 31)) &&& 1) = 0 → B) :=
  ⟨fun z => f ((fd_b0 hs hi).mp z), fun z => g (eq_true_of_ne_false (fun w => z ((fd_b0 hs hi).mpr w)))⟩
theorem fd_br1 {s i : Nat} {A B : Prop} (hs : s < 2 ^ 31) (hi : i < 32) (f : s.testBit i = true → A) (g : s.testBit i = false → B) : (((nI s >>> (nI i &&& 31)) &&& 1) = 1 → A) ∧ (¬ ((nI s >>> (nI i &&& 31)) &&& 1) = 1 → B) :=
  ⟨fun z => f ((fd_b1 hs hi).mp z), fun z => g (eq_false_of_ne_true (fun w => z ((fd_b1 hs hi).mpr w)))⟩
theorem fd_shl : ∀ i, i < 31 → (1 : Int32) <<< (nI i &&& 31) = nI (2 ^ i) := by decide +kernel
/-- a cell that is, or isn't, a number -/
theorem fd_brI {f : Nat → Nat} {k c : Nat} {x : Int32} {A B : Prop} (hk : k < 2 ^ 31) (hf : f k < 2 ^ 31) (hc : c < 2 ^ 31) (hx : x = nI c) (a : f k = c → A) (b : f k ≠ c → B) : (fd_I f (nI k).toNatClampNeg = x → A) ∧ (¬ fd_I f (nI k).toNatClampNeg = x → B) := by
  rw [fd_Ik f hk, hx, nI_eq hf hc]
  exact ⟨a, b⟩
/-- an int's bits as a number -/
def fd_tN (x : Int32) : Nat := x.toBitVec.toNat
theorem fd_tN_e (x : Int32) : x = nI (fd_tN x) := Int32.toBitVec_inj.mp (by
  show x.toBitVec = BitVec.ofNat 32 x.toBitVec.toNat
  simp)
theorem fd_tN_n {n : Nat} (h : n < 2 ^ 32) : fd_tN (nI n) = n := pk_tn h
theorem fd_tN_b (x : Int32) (i : Nat) : (fd_tN x).testBit i = bt x i := rfl
theorem fd_and (x : Int32) (P : Nat) : x &&& nI P = nI (fd_tN x &&& P) := by
  have e := nx_and (fd_tN x) P
  rw [← fd_tN_e x] at e
  exact e
theorem fd_and_lt (x : Int32) {P : Nat} (h : P < 1024) : fd_tN x &&& P < 1024 := Nat.and_lt_two_pow _ (n := 10) h
/-- a bit is put out -/
def fd_off (k : Nat) : Int32 := ((1 : Int32) <<< (nI k &&& 31)) ^^^ (-1)
theorem fd_off_b {k : Nat} (hk : k < 10) {j : Nat} (hj : j < 32) : bt (fd_off k) j = !decide (k = j) := by
  unfold fd_off
  rw [b_xor, b_m1 j hj, fd_shl k (by omega)]
  have e : bt (nI (2 ^ k)) j = decide (k = j) := by
    have h2 : 2 ^ k < 2 ^ 10 := Nat.pow_lt_pow_right (by decide) hk
    rw [← fd_tN_b, fd_tN_n (Nat.lt_trans h2 (by decide)), Nat.testBit_two_pow]
  rw [e]
  cases decide (k = j) <;> rfl
theorem fd_off_P {P k : Nat} (hP : P < 1024) (hk : k < 10) : nI P &&& fd_off k = nI (P &&& fd_tN (fd_off k)) := by
  have e := nx_and P (fd_tN (fd_off k))
  rw [← fd_tN_e (fd_off k)] at e
  exact e
theorem fd_hi {P j : Nat} (hP : P < 1024) (hj : 10 ≤ j) : P.testBit j = false := by
  have h2 : 2 ^ 10 ≤ 2 ^ j := Nat.pow_le_pow_right (by decide) hj
  exact Nat.testBit_lt_two_pow (Nat.lt_of_lt_of_le hP h2)
theorem fd_off_tb {P k : Nat} (hP : P < 1024) (hk : k < 10) (j : Nat) : (P &&& fd_tN (fd_off k)).testBit j = (P.testBit j && !decide (k = j)) := by
  rw [Nat.testBit_and, fd_tN_b]
  by_cases h : j < 32
  · rw [fd_off_b hk h]
  · rw [fd_hi hP (by omega)]
    rfl
end
section
/-! the component's small methods and loops -/
section XW
variable {p0 kn rk ls lv : Int32} {sa va ra qa : Nat → Int32}
theorem fd_has {post : Int32 → Prop} {P k : Nat} (hP : P < 1024) (hk : k < 10) (f : P.testBit k = false → post 0) (g : P.testBit k = true → post 1) : wpX_has post (nI P, kn, rk, ls, lv, sa, va, ra, qa) (nI k) :=
  br_f (nI_pos (by omega)) (pk_le 10 k (fun z => absurd z (by omega)) (fun _ => fd_br0 (by omega) (by omega) f g))
theorem fd_has_out {post : Int32 → Prop} {x : Int32} (hx : x < 0 ∨ nI 10 ≤ x) (f : post 0) : wpX_has post (p0, kn, rk, ls, lv, sa, va, ra, qa) x := by
  refine br_c (fun _ => f) (fun h0 => ?_)
  rcases hx with h | h
  · exact absurd h h0
  · exact br_t h f
theorem fd_bit_ex {l : Nat} (hl : l < 256) (h0 : l ≠ 0) (hz : ∀ j, 0 < j → j < 8 → l.testBit j = false) : l.testBit 0 = true := by
  by_cases b : l.testBit 0 = true
  · exact b
  · exfalso
    apply h0
    apply Nat.eq_of_testBit_eq
    intro j
    rw [Nat.zero_testBit]
    by_cases e : j = 0
    · subst e
      exact eq_false_of_ne_true b
    · by_cases e8 : j < 8
      · exact hz j (by omega) e8
      · have h2 : 2 ^ 8 ≤ 2 ^ j := Nat.pow_le_pow_right (by decide) (by omega)
        exact Nat.testBit_lt_two_pow (Nat.lt_of_lt_of_le hl h2)
theorem fd_leader_l {post : Int32 → Prop} {l : Nat} (hl : l < 256) (h0 : l ≠ 0) (h : ∀ p, p < 8 → l.testBit p = true → post (nI p)) : ∀ i, i < 8 → (∀ j, i < j → j < 8 → l.testBit j = false) → wX_leader_3 post (nI l) (i + 1) (nI i) := by
  intro i
  induction i with
  | zero =>
    intro _ hz
    exact br_t (by decide) (h 0 (by omega) (fd_bit_ex hl h0 hz))
  | succ i ih =>
    intro hi hz
    refine br_f (nI_nle (by omega) (by omega)) (fd_br0 (by omega) (by omega) (fun b => nm_r (pk_m1 i) (ih (by omega) ?_)) (fun b => h (i + 1) hi b))
    intro j hj hj8
    by_cases e : j = i + 1
    · subst e
      exact b
    · exact hz j (by omega) hj8
theorem fd_leader {post : Int32 → Prop} {l : Nat} (hl : l < 256) (h0 : l ≠ 0) (h : ∀ p, p < 8 → l.testBit p = true → post (nI p)) : wpX_leader post (nI l) :=
  ⟨8, fd_leader_l hl h0 h 7 (by omega) (fun j hj hj8 => absurd hj8 (by omega))⟩
def fd_clr (R : Nat → Nat) (i : Nat) : Nat → Nat := fun j => if j < i then 0 else R j
theorem fd_clr_s (R : Nat → Nat) {i : Nat} (hi : i < 8) : upd (fd_I (fd_clr R i)) (nI i).toNatClampNeg (vp_nar .short 0) = fd_I (fd_clr R (i + 1)) := by
  rw [nI_clamp (by omega), fd_n0, fd_upI]
  apply congrArg fd_I
  funext j
  show (if j = i then 0 else if j < i then 0 else R j) = if j < i + 1 then 0 else R j
  by_cases h1 : j = i
  · rw [if_pos h1, if_pos (by omega)]
  · by_cases h2 : j < i
    · rw [if_neg h1, if_pos h2, if_pos (by omega)]
    · rw [if_neg h1, if_neg h2, if_neg (by omega)]
theorem fd_clear_l {post : SX → Prop} {R Q : Nat → Nat} (h : post (p0, kn, 0, ls, lv, sa, va, fd_I (fd_clr R 8), fd_I (fd_clr Q 8))) : ∀ d i, i + d = 8 → wX_clearRows_2 post p0 kn rk ls lv (d + 1) (nI i) sa va (fd_I (fd_clr R i)) (fd_I (fd_clr Q i)) := by
  intro d
  induction d with
  | zero =>
    intro i hi
    have e : i = 8 := by omega
    subst e
    exact br_t (by decide) h
  | succ d ih =>
    intro i hi
    have h8 : ¬ (8 : Int32) ≤ nI i := nI_ge (b := 8) (by omega) (by decide)
    have hin : vp_in (nI i) 8 := vp_in_nI (by omega) (by decide)
    exact br_f h8 ⟨hin, nm_r (fd_clr_s R (by omega)) ⟨hin, nm_r (fd_clr_s Q (by omega)) (nm_r (nI_1 i) (ih (i + 1) (by omega)))⟩⟩
theorem fd_clear {post : SX → Prop} {R Q : Nat → Nat} (h : ∀ R' Q' : Nat → Nat, (fd_B R → fd_B R') → (fd_B Q → fd_B Q') → (∀ j, j < 8 → R' j = 0) → (∀ j, j < 8 → Q' j = 0) → post (p0, kn, nI 0, ls, lv, sa, va, fd_I R', fd_I Q')) : wpX_clearRows post (p0, kn, rk, ls, lv, sa, va, fd_I R, fd_I Q) := by
  have hB : ∀ F : Nat → Nat, fd_B F → fd_B (fd_clr F 8) := by
    intro F hF k
    show (if k < 8 then 0 else F k) < 256
    split
    · decide
    · exact hF k
  have hz : ∀ F : Nat → Nat, ∀ j, j < 8 → fd_clr F 8 j = 0 := fun F j hj => if_pos hj
  have e : ∀ F : Nat → Nat, fd_clr F 0 = F := fun F => funext (fun j => if_neg (Nat.not_lt_zero j))
  have K := fd_clear_l (p0 := p0) (kn := kn) (rk := rk) (ls := ls) (lv := lv) (sa := sa) (va := va) (h _ _ (hB R) (hB Q) (hz R) (hz Q)) 8 0 rfl
  rw [e, e] at K
  exact ⟨9, K⟩
/-- the counter of a loop that counts down to -1 -/
def fd_dn : Nat → Int32
  | 0 => -1
  | i + 1 => nI i
theorem fd_dn_e : ∀ i : Nat, nI i + (-1) = fd_dn i
  | 0 => by decide
  | i + 1 => pk_m1 i
theorem fd_reduce_l {post : SX → Prop} {R Q : Nat → Nat} (h : fd_OK R Q) (hR : fd_B R) (hQ : fd_B Q) {s v : Nat} (K : post (p0, kn, rk, nI (fd_ro R s), nI (v ^^^ fd_xs Q s 8), sa, va, fd_I R, fd_I Q)) :
    ∀ i, i ≤ 8 → ∀ s' v' : Nat, s' < 256 → v' < 256 → fd_ro R s' = fd_ro R s → v' ^^^ fd_xs Q s' 8 = v ^^^ fd_xs Q s 8 → (∀ k, i ≤ k → k < 8 → R k ≠ 0 → s'.testBit k = false) →
    wX_reduce_13 post p0 kn rk sa va (fd_I R) (fd_I Q) (i + 1) (fd_dn i) (nI s') (nI v') := by
  intro i
  induction i with
  | zero =>
    intro _ s' v' _ _ e1 e2 hf
    obtain ⟨z1, z2⟩ := fd_ro_free h (fun k hk => hf k (Nat.zero_le k) hk)
    have e3 : fd_ro R s' = s' := by
      unfold fd_ro
      rw [z1, Nat.xor_zero]
    rw [z2, Nat.xor_zero] at e2
    rw [e3] at e1
    rw [← e1, ← e2] at K
    exact br_t (by decide) K
  | succ i ih =>
    intro hi s' v' hs hv e1 e2 hf
    have hin : vp_in (nI i) 8 := vp_in_nI (by omega) (by decide)
    show wX_reduce_13 post p0 kn rk sa va (fd_I R) (fd_I Q) (i + 1 + 1) (nI i) (nI s') (nI v')
    refine br_f (nI_pos (by omega)) (fd_br0 (by omega) (by omega) (fun b => nm_r (fd_dn_e i) (ih (by omega) s' v' hs hv e1 e2 ?_)) (fun b => ⟨hin, fd_brI (c := 0) (by omega) (by have := hR i; omega) (by decide) nI_0.symm (fun z => nm_r (fd_dn_e i) (ih (by omega) s' v' hs hv e1 e2 ?_)) (fun z => ⟨hin, nm_r (e' := nI (s' ^^^ R i)) ?_ ⟨hin, nm_r (e' := nI (v' ^^^ Q i)) ?_ (nm_r (fd_dn_e i) (ih (by omega) (s' ^^^ R i) (v' ^^^ Q i) ?_ ?_ ?_ ?_ ?_))⟩⟩)⟩))
    · intro k hk hk8 hn
      by_cases e : k = i
      · subst e
        exact b
      · exact hf k (by omega) hk8 hn
    · intro k hk hk8 hn
      by_cases e : k = i
      · subst e
        exact absurd z hn
      · exact hf k (by omega) hk8 hn
    · rw [fd_Ik R (by omega), nx_xor]
    · rw [fd_Ik Q (by omega), nx_xor]
    · exact Nat.xor_lt_two_pow (n := 8) hs (hR i)
    · exact Nat.xor_lt_two_pow (n := 8) hv (hQ i)
    · have e3 : fd_ro R (R i) = 0 := fd_x0.mpr (fd_row_self h (by omega) z).1.symm
      rw [fd_ro_add, e3, Nat.xor_zero]
      exact e1
    · rw [fd_xs_add, (fd_row_self h (by omega) z).2, fd_x22, Nat.xor_self, Nat.xor_zero]
      exact e2
    · intro k hk hk8 hn
      rw [Nat.testBit_xor, h.1 k i hk8 (by omega) hn]
      by_cases e : k = i
      · subst e
        rw [b]
        simp
      · rw [hf k (by omega) hk8 hn, decide_eq_false e]
        rfl
theorem fd_reduce {post : SX → Prop} {R Q : Nat → Nat} (h : fd_OK R Q) (hR : fd_B R) (hQ : fd_B Q) {s v : Nat} (hs : s < 256) (hv : v < 256) (K : post (p0, kn, rk, nI (fd_ro R s), nI (v ^^^ fd_xs Q s 8), sa, va, fd_I R, fd_I Q)) : wpX_reduce post (p0, kn, rk, ls, lv, sa, va, fd_I R, fd_I Q) (nI s) (nI v) :=
  ⟨9, fd_reduce_l h hR hQ K 8 (Nat.le_refl 8) s v hs hv rfl rfl (fun k hk hk8 => absurd hk8 (by omega))⟩
/-- the rows while the new one is taken out of them -/
def fd_il (R F : Nat → Nat) (p l n : Nat) : Nat → Nat := fun j => if j < n ∧ (R j).testBit p = true then F j ^^^ l else F j
theorem fd_il_0 (R F : Nat → Nat) (p l : Nat) : fd_il R F p l 0 = F := funext (fun j => if_neg (fun z => absurd z.1 (Nat.not_lt_zero j)))
theorem fd_il_at (R F : Nat → Nat) (p l n : Nat) : fd_il R F p l n n = F n := if_neg (fun z => absurd z.1 (Nat.lt_irrefl n))
theorem fd_il_no {R F : Nat → Nat} {p n : Nat} (l : Nat) (b : (R n).testBit p = false) : fd_il R F p l (n + 1) = fd_il R F p l n := by
  funext j
  show (if j < n + 1 ∧ (R j).testBit p = true then F j ^^^ l else F j) = (if j < n ∧ (R j).testBit p = true then F j ^^^ l else F j)
  by_cases e : j = n
  · subst e
    rw [b, if_neg (fun z => Bool.noConfusion z.2), if_neg (fun z => Bool.noConfusion z.2)]
  · by_cases c : j < n ∧ (R j).testBit p = true
    · rw [if_pos c, if_pos ⟨by omega, c.2⟩]
    · rw [if_neg c, if_neg (fun z => c ⟨by omega, z.2⟩)]
theorem fd_il_yes {R F : Nat → Nat} {p n : Nat} (l : Nat) (b : (R n).testBit p = true) : fd_up (fd_il R F p l n) n (F n ^^^ l) = fd_il R F p l (n + 1) := by
  funext j
  show (if j = n then F n ^^^ l else if j < n ∧ (R j).testBit p = true then F j ^^^ l else F j) = (if j < n + 1 ∧ (R j).testBit p = true then F j ^^^ l else F j)
  by_cases e : j = n
  · subst e
    rw [if_pos rfl, if_pos ⟨Nat.lt_succ_self j, b⟩]
  · rw [if_neg e]
    by_cases c : j < n ∧ (R j).testBit p = true
    · rw [if_pos c, if_pos ⟨by omega, c.2⟩]
    · rw [if_neg c, if_neg (fun z => c ⟨by omega, z.2⟩)]
theorem fd_il_w {R F : Nat → Nat} {p n l : Nat} (hn : n < 8) (hF : fd_B F) (hl : l < 256) (b : (R n).testBit p = true) :
    upd (fd_I (fd_il R F p l n)) (nI n).toNatClampNeg (vp_nar .short ((fd_I (fd_il R F p l n) (nI n).toNatClampNeg ^^^ nI l).toInt16.toInt32)) = fd_I (fd_il R F p l (n + 1)) := by
  rw [fd_Ik _ (by omega), fd_il_at, nx_xor, fd_sh (Nat.xor_lt_two_pow (n := 8) (hF n) hl), nI_clamp (by omega), fd_upI, fd_il_yes l b]
theorem fd_il_end {R F : Nat → Nat} {p l : Nat} (hp : p < 8) (hl : l < 256) : upd (fd_I (fd_il R F p l 8)) (nI p).toNatClampNeg (vp_nar .short (nI l).toInt16.toInt32) = fd_I (fd_inc R F p l) := by
  rw [fd_sh hl, nI_clamp (by omega), fd_upI]
  rfl
theorem fd_include_l {post : SX → Prop} {R Q : Nat → Nat} {p l m g : Nat} (hR : fd_B R) (hQ : fd_B Q) (hl : l < 256) (hm : m < 256) (hp : p < 8)
    (K : post (p0, kn, nI (g + 1), nI l, nI m, sa, va, fd_I (fd_inc R R p l), fd_I (fd_inc R Q p m))) :
    ∀ d j, j + d = 8 → wX_include_25 post (nI p) p0 kn (nI g) (nI l) (nI m) (d + 1) (nI j) sa va (fd_I (fd_il R R p l j)) (fd_I (fd_il R Q p m j)) := by
  have hip : vp_in (nI p) 8 := vp_in_nI hp (by decide)
  intro d
  induction d with
  | zero =>
    intro j hj
    have e : j = 8 := by omega
    subst e
    exact br_t (by decide) ⟨hip, nm_r (fd_il_end hp hl) ⟨hip, nm_r (fd_il_end hp hm) (nm_r (nI_1 g) K)⟩⟩
  | succ d ih =>
    intro j hj
    have h8 : ¬ (8 : Int32) ≤ nI j := nI_ge (b := 8) (by omega) (by decide)
    have hin : vp_in (nI j) 8 := vp_in_nI (by omega) (by decide)
    have ih1 := ih (j + 1) (by omega)
    have ec : fd_I (fd_il R R p l j) (nI j).toNatClampNeg = nI (R j) := by rw [fd_Ik _ (by omega), fd_il_at]
    refine br_f h8 ⟨hin, ?_⟩
    by_cases b : (R j).testBit p = true
    · have hb : ¬ ((fd_I (fd_il R R p l j) (nI j).toNatClampNeg >>> (nI p &&& 31)) &&& 1) = 0 := by
        rw [ec, fd_b0 (by have := hR j; omega) (by omega), b]
        decide
      exact br_f hb ⟨hin, hin, nm_r (fd_il_w (by omega) hR hl b) ⟨hin, hin, nm_r (fd_il_w (by omega) hQ hm b) (nm_r (nI_1 j) ih1)⟩⟩
    · have b := eq_false_of_ne_true b
      have hb : ((fd_I (fd_il R R p l j) (nI j).toNatClampNeg >>> (nI p &&& 31)) &&& 1) = 0 := by
        rw [ec, fd_b0 (by have := hR j; omega) (by omega), b]
      rw [fd_il_no l b, fd_il_no m b] at ih1
      exact br_t hb (nm_r (nI_1 j) ih1)
theorem fd_include {post : SX → Prop} {R Q : Nat → Nat} {g s v : Nat} (h : fd_OK R Q) (hR : fd_B R) (hQ : fd_B Q) (hs : s < 256) (hv : v < 256)
    (K0 : fd_ro R s = 0 → post (p0, kn, nI g, nI (fd_ro R s), nI (v ^^^ fd_xs Q s 8), sa, va, fd_I R, fd_I Q))
    (K1 : ∀ p, p < 8 → (fd_ro R s).testBit p = true → post (p0, kn, nI (g + 1), nI (fd_ro R s), nI (v ^^^ fd_xs Q s 8), sa, va, fd_I (fd_inc R R p (fd_ro R s)), fd_I (fd_inc R Q p (v ^^^ fd_xs Q s 8)))) :
    wpX_include post (p0, kn, nI g, ls, lv, sa, va, fd_I R, fd_I Q) (nI s) (nI v) := by
  have hl := fd_ro_lt hR hs
  have hm : v ^^^ fd_xs Q s 8 < 256 := Nat.xor_lt_two_pow (n := 8) hv (fd_xs_lt hQ s 8)
  unfold wpX_include
  refine fd_reduce h hR hQ hs hv ?_
  refine pk_eq (fd_ro R s) 0 K0 (fun z => fd_leader hl z (fun p hp hb => ⟨9, ?_⟩))
  have L := fd_include_l (p0 := p0) (kn := kn) (sa := sa) (va := va) (post := post) hR hQ hl hm hp (K1 p hp hb) 8 0 rfl
  rw [fd_il_0, fd_il_0] at L
  exact L
end XW
end
section
/-! the component's methods over rows -/
/-- what the drops keep; what the rows keep -/
def fd_bas (P : Nat) (S V : Nat → Nat) : Prop := P < 1024 ∧ fd_B S ∧ fd_B V ∧ fd_Co S V P
def fd_rws (P : Nat) (kn : Int32) (g : Nat) (S V R Q : Nat → Nat) : Prop := fd_B R ∧ fd_B Q ∧ (kn ≠ 0 → fd_RW (fd_Sp S V P 10) g R Q)
section XM
variable {p0 kn rk ls lv : Int32} {sa va ra qa : Nat → Int32}
theorem fd_build_l {post : SX → Prop} {S V : Nat → Nat} {m : Nat} (hm : m < 1024) (hS : fd_B S) (hV : fd_B V) (hc : fd_Co S V m)
    (K : ∀ (g : Nat) (ls lv : Int32) (R Q : Nat → Nat), fd_B R → fd_B Q → fd_RW (fd_Sp S V m 10) g R Q → post (p0, kn, nI g, ls, lv, fd_I S, fd_I V, fd_I R, fd_I Q)) :
    ∀ d k, k + d = 10 → ∀ (g : Nat) (ls lv : Int32) (R Q : Nat → Nat), fd_B R → fd_B Q → fd_RW (fd_Sp S V m k) g R Q → wX_build_6 post (nI m) (d + 1) (nI k) p0 kn (nI g) ls lv (fd_I S) (fd_I V) (fd_I R) (fd_I Q) := by
  intro d
  induction d with
  | zero =>
    intro k hk g ls lv R Q hR hQ h
    have e : k = 10 := by omega
    subst e
    exact br_t (by decide) (K g ls lv R Q hR hQ h)
  | succ d ih =>
    intro k hk g ls lv R Q hR hQ h
    have h10 : ¬ (10 : Int32) ≤ nI k := nI_ge (b := 10) (by omega) (by decide)
    have hin : vp_in (nI k) 10 := vp_in_nI (by omega) (by decide)
    refine br_f h10 (fd_br0 (by omega) (by omega) (fun b => nm_r (nI_1 k) (ih (k + 1) (by omega) g ls lv R Q hR hQ (fd_RW_no h b))) (fun b => ⟨hin, hin, ?_⟩))
    rw [fd_Ik S (by omega), fd_Ik V (by omega)]
    refine fd_include h.1 hR hQ (hS k) (hV k) (fun z => ?_) (fun p hp hb => ?_)
    · exact nm_r (nI_1 k) (ih (k + 1) (by omega) g _ _ R Q hR hQ (fd_RW_old h hc (by omega) b z))
    · exact nm_r (nI_1 k) (ih (k + 1) (by omega) (g + 1) _ _ _ _ (fd_B_inc hR (fd_ro_lt hR (hS k))) (fd_B_inc hQ (Nat.xor_lt_two_pow (n := 8) (hV k) (fd_xs_lt hQ (S k) 8))) (fd_RW_new h (hS k) b hp hb))
theorem fd_build {post : SX → Prop} {S V R Q : Nat → Nat} {m : Nat} (hm : m < 1024) (hS : fd_B S) (hV : fd_B V) (hc : fd_Co S V m) (hR : fd_B R) (hQ : fd_B Q)
    (K : ∀ (g : Nat) (ls lv : Int32) (R Q : Nat → Nat), fd_B R → fd_B Q → fd_RW (fd_Sp S V m 10) g R Q → post (p0, kn, nI g, ls, lv, fd_I S, fd_I V, fd_I R, fd_I Q)) :
    wpX_build post (p0, kn, rk, ls, lv, fd_I S, fd_I V, fd_I R, fd_I Q) (nI m) := by
  unfold wpX_build
  refine fd_clear (fun R' Q' h1 h2 z1 z2 => ⟨11, ?_⟩)
  exact fd_build_l hm hS hV hc K 10 0 rfl 0 ls lv R' Q' (h1 hR) (h2 hQ) (fd_RW_0 S V m z1 z2)
theorem fd_learn {post : SX → Prop} {P g : Nat} {S V R Q : Nat → Nat} (hb : fd_bas P S V) (hr : fd_rws P kn g S V R Q)
    (K : ∀ (kn : Int32) (g : Nat) (ls lv : Int32) (R Q : Nat → Nat), fd_rws P kn g S V R Q → fd_RW (fd_Sp S V P 10) g R Q → post (nI P, kn, nI g, ls, lv, fd_I S, fd_I V, fd_I R, fd_I Q)) :
    wpX_learn post (nI P, kn, nI g, ls, lv, fd_I S, fd_I V, fd_I R, fd_I Q) := by
  unfold wpX_learn
  refine br_c (fun _ => ?_) (fun z => K kn g ls lv R Q hr (hr.2.2 z))
  exact fd_build hb.1 hb.2.1 hb.2.2.1 hb.2.2.2 hr.1 hr.2.1 (fun g ls lv R Q hR hQ h => K 1 g ls lv R Q ⟨hR, hQ, fun _ => h⟩ h)
theorem fd_p8 {j : Nat} (h : j < 8) : 2 ^ j < 256 := Nat.pow_lt_pow_right (n := 8) (by decide) h
theorem fd_singles_l {post : Int32 → Prop} {R : Nat → Nat} {p : Nat → Bool} (hR : fd_B R) (hp : ∀ i, i < 8 → (R i = 2 ^ i ↔ p i = true)) (K : post (nI (fd_mk p 8))) :
    ∀ d j, j + d = 8 → wX_singles_4 post p0 kn rk ls lv sa va (fd_I R) qa (d + 1) (nI (fd_mk p j)) (nI j) := by
  intro d
  induction d with
  | zero =>
    intro j hj
    have e : j = 8 := by omega
    subst e
    exact br_t (by decide) K
  | succ d ih =>
    intro j hj
    have h8 : ¬ (8 : Int32) ≤ nI j := nI_ge (b := 8) (by omega) (by decide)
    have hin : vp_in (nI j) 8 := vp_in_nI (by omega) (by decide)
    have h2 := fd_p8 (j := j) (by omega)
    have hRj := hR j
    have ih1 := ih (j + 1) (by omega)
    refine br_f h8 ⟨hin, fd_brI (c := 2 ^ j) (by omega) (by omega) (by omega) (fd_shl j (by omega)) (fun z => nm_r (e' := nI (fd_mk p (j + 1))) ?_ (nm_r (nI_1 j) ih1)) (fun z => nm_r (e' := nI (fd_mk p (j + 1))) ?_ (nm_r (nI_1 j) ih1))⟩
    · rw [fd_shl j (by omega), fd_or, fd_mk_s, if_pos ((hp j (by omega)).mp z)]
    · rw [← nI_0, fd_or, fd_mk_s, if_neg (fun w => z ((hp j (by omega)).mpr w))]
theorem fd_singles {post : Int32 → Prop} {R : Nat → Nat} {p : Nat → Bool} (hR : fd_B R) (hp : ∀ i, i < 8 → (R i = 2 ^ i ↔ p i = true)) (K : post (nI (fd_mk p 8))) : wpX_singles post (p0, kn, rk, ls, lv, sa, va, fd_I R, qa) :=
  ⟨9, fd_singles_l hR hp K 8 0 rfl⟩
theorem fd_bit_n (z j : Nat) : z / 2 ^ j % 2 = if z.testBit j = true then 1 else 0 := by
  rw [Nat.testBit_eq_decide_div_mod_eq]
  generalize z / 2 ^ j = w
  by_cases h : w % 2 = 1
  · rw [if_pos (decide_eq_true h), h]
  · rw [if_neg (fun c => h (of_decide_eq_true c))]
    omega
theorem fd_ones_l {post : Int32 → Prop} {z : Nat} {p : Nat → Bool} (hz : z < 256) (hp : ∀ i, i < 8 → z.testBit i = p i) (K : post (nI (fd_ct p 8))) :
    ∀ d j, j + d = 8 → wX_ones_4 post (nI z) (d + 1) (nI (fd_ct p j)) (nI j) := by
  intro d
  induction d with
  | zero =>
    intro j hj
    have e : j = 8 := by omega
    subst e
    exact br_t (by decide) K
  | succ d ih =>
    intro j hj
    have h8 : ¬ (8 : Int32) ≤ nI j := nI_ge (b := 8) (by omega) (by decide)
    refine br_f h8 (nm_r (e' := nI (fd_ct p (j + 1))) ?_ (nm_r (nI_1 j) (ih (j + 1) (by omega))))
    rw [fd_bit (by omega) (by omega), nI_add, fd_ct_s, fd_bit_n, hp j (by omega)]
theorem fd_ones {post : Int32 → Prop} {z : Nat} {p : Nat → Bool} (hz : z < 256) (hp : ∀ i, i < 8 → z.testBit i = p i) (K : post (nI (fd_ct p 8))) : wpX_ones post (nI z) :=
  ⟨9, fd_ones_l hz hp K 8 0 rfl⟩
/-- the pieces known with one more set -/
noncomputable def fd_kw (S V : Nat → Nat) (P s i : Nat) : Bool := fd_kn S V P (2 ^ i) || fd_kn S V P (2 ^ i ^^^ s)
noncomputable def fd_cw (S V : Nat → Nat) (P s : Nat) : Nat := fd_ct (fd_kw S V P s) 8
theorem fd_kw_iff {S V : Nat → Nat} {P g : Nat} {R Q : Nat → Nat} (h : fd_RW (fd_Sp S V P 10) g R Q) (s i : Nat) : fd_kw S V P s i = true ↔ (fd_ro R (2 ^ i) = 0 ∨ fd_ro R (2 ^ i ^^^ s) = 0) := by
  unfold fd_kw
  rw [Bool.or_eq_true, fd_kn_ro h, fd_kn_ro h, decide_eq_true_iff, decide_eq_true_iff]
theorem fd_countWith {post : Int32 → SX → Prop} {P s : Nat} {S V R Q : Nat → Nat} (hb : fd_bas P S V) (hR : fd_B R) (hQ : fd_B Q) (hs : s < 256)
    (K : ∀ (g : Nat) (ls lv : Int32) (R Q : Nat → Nat), fd_B R → fd_B Q → post (nI (fd_cw S V P s)) (nI P, 0, nI g, ls, lv, fd_I S, fd_I V, fd_I R, fd_I Q)) :
    wpX_countWith post (nI P, kn, rk, ls, lv, fd_I S, fd_I V, fd_I R, fd_I Q) (nI s) := by
  unfold wpX_countWith
  refine fd_build hb.1 hb.2.1 hb.2.2.1 hb.2.2.2 hR hQ (fun g ls lv R Q hR hQ h => ?_)
  have hmk : ∀ i, i < 8 → (fd_mk (fd_kw S V P s) 8).testBit i = fd_kw S V P s i := by
    intro i hi
    rw [fd_mk_bit, decide_eq_true hi, Bool.true_and]
  refine fd_include (v := 0) h.1 hR hQ hs (by decide) (fun z => ?_) (fun p hp hl => ?_)
  · refine fd_singles (p := fd_kw S V P s) hR (fun i hi => ?_) (fd_ones (fd_mk_lt _ 8) hmk (K g _ _ R Q hR hQ))
    rw [fd_kw_iff h, ← fd_ro_pow R hi, fd_ro_add, z, Nat.xor_zero]
    exact (or_self_iff).symm
  · have hR2 := fd_B_inc (R := R) (p := p) hR (fd_ro_lt hR hs)
    refine fd_singles (p := fd_kw S V P s) hR2 (fun i hi => ?_) (fd_ones (fd_mk_lt _ 8) hmk (K (g + 1) _ _ _ _ hR2 (fd_B_inc hQ (Nat.xor_lt_two_pow (n := 8) (by decide) (fd_xs_lt hQ s 8)))))
    rw [fd_kw_iff h, ← fd_ro_pow (fd_inc R R p (fd_ro R s)) hi, fd_inc_in h.1 hp hl]
theorem fd_rankOf {post : Int32 → SX → Prop} {P : Nat} {S V R Q : Nat → Nat} (hb : fd_bas P S V) (hR : fd_B R) (hQ : fd_B Q) (x : Int32)
    (K : ∀ (g : Nat) (ls lv : Int32) (R Q : Nat → Nat), fd_B R → fd_B Q → fd_RW (fd_Sp S V (fd_tN x &&& P) 10) g R Q → post (nI g) (nI P, 0, nI g, ls, lv, fd_I S, fd_I V, fd_I R, fd_I Q)) :
    wpX_rankOf post (nI P, kn, rk, ls, lv, fd_I S, fd_I V, fd_I R, fd_I Q) x := by
  unfold wpX_rankOf
  have hc : fd_Co S V (fd_tN x &&& P) := fd_Co_mono (fun j hj => by
    rw [Nat.testBit_and, Bool.and_eq_true] at hj
    exact hj.2) hb.2.2.2
  have e := fd_and x P
  refine Eq.mpr (congrArg (fun y => wpX_build _ _ y) e) ?_
  exact fd_build (fd_and_lt x hb.1) hb.2.1 hb.2.2.1 hc hR hQ K
/-- whether some drops are as good as all -/
noncomputable def fd_en (S V : Nat → Nat) (P m : Nat) : Int32 := if fd_ct (fd_kn S V m) 256 = fd_ct (fd_kn S V P) 256 then 1 else 0
theorem fd_pow_inj {a b : Nat} (h : 2 ^ a = 2 ^ b) : a = b := by
  rcases Nat.lt_trichotomy a b with z | z | z
  · exact absurd h (Nat.ne_of_lt (Nat.pow_lt_pow_right (by decide) z))
  · exact z
  · exact absurd h.symm (Nat.ne_of_lt (Nat.pow_lt_pow_right (by decide) z))
theorem fd_enough {post : Int32 → SX → Prop} {P : Nat} {S V R Q : Nat → Nat} (hb : fd_bas P S V) (hR : fd_B R) (hQ : fd_B Q) (x : Int32)
    (K : ∀ (g : Nat) (ls lv : Int32) (R Q : Nat → Nat), fd_B R → fd_B Q → post (fd_en S V P (fd_tN x &&& P)) (nI P, 0, nI g, ls, lv, fd_I S, fd_I V, fd_I R, fd_I Q)) :
    wpX_enough post (nI P, kn, rk, ls, lv, fd_I S, fd_I V, fd_I R, fd_I Q) x := by
  unfold wpX_enough
  refine fd_rankOf hb hR hQ (nI P) (fun g1 ls lv R Q hR hQ h1 => ?_)
  have hP := hb.1
  rw [fd_tN_n (by omega), Nat.and_self] at h1
  refine fd_rankOf hb hR hQ x (fun g2 ls lv R Q hR hQ h2 => ?_)
  have k := K g2 ls lv R Q hR hQ
  have c1 := fd_kn_ct h1
  have c2 := fd_kn_ct h2
  have l1 := fd_RW_lt h1
  have l2 := fd_RW_lt h2
  unfold fd_en at k
  rw [c1, c2] at k
  refine pk_eq g2 g1 (fun e => ?_) (fun e => ?_)
  · rw [if_pos (by rw [e])] at k
    exact k
  · rw [if_neg (fun z => e (fd_pow_inj z))] at k
    exact k
end XM
end
section
/-! the reference: its table -/
def fd_th (P : Nat) : Nat → Int32 := fun j => if P.testBit j = true then 1 else 0
theorem fd_thk (P : Nat) {k : Nat} (h : k < 2 ^ 31) : fd_th P (nI k).toNatClampNeg = if P.testBit k = true then 1 else 0 := by
  rw [nI_clamp h]
  rfl
theorem fd_brT {P k : Nat} {A B : Prop} (hk : k < 2 ^ 31) (f : P.testBit k = false → A) (g : P.testBit k = true → B) : (fd_th P (nI k).toNatClampNeg = 0 → A) ∧ (¬ fd_th P (nI k).toNatClampNeg = 0 → B) := by
  rw [fd_thk P hk]
  by_cases b : P.testBit k = true
  · rw [if_pos b]
    exact br_f (by decide) (g b)
  · rw [if_neg b]
    exact br_t rfl (f (eq_false_of_ne_true b))
def fd_b01 (b : Bool) : Int32 := if b = true then 1 else 0
def fd_okc (P c : Nat) (b0 : Bool) : Nat → Bool
  | 0 => b0
  | n + 1 => (fd_okc P c b0 n && (!(c.testBit n) || P.testBit n))
theorem fd_okc_iff (P c : Nat) (b0 : Bool) (n : Nat) : fd_okc P c b0 n = true ↔ (b0 = true ∧ ∀ j, j < n → c.testBit j = true → P.testBit j = true) := by
  induction n with
  | zero => exact ⟨fun h => ⟨h, fun j hj => absurd hj (Nat.not_lt_zero j)⟩, fun h => h.1⟩
  | succ n ih =>
    show (fd_okc P c b0 n && (!(c.testBit n) || P.testBit n)) = true ↔ _
    rw [Bool.and_eq_true, ih]
    constructor
    · intro h
      refine ⟨h.1.1, ?_⟩
      intro j hj hc
      by_cases e : j = n
      · subst e
        have h2 := h.2
        rw [hc] at h2
        exact h2
      · exact h.1.2 j (by omega) hc
    · intro h
      refine ⟨⟨h.1, fun j hj => h.2 j (by omega)⟩, ?_⟩
      have h2 := h.2 n (by omega)
      revert h2
      cases c.testBit n
      · intro _
        rfl
      · intro h2
        rw [h2 rfl]
        rfl
section YW
variable {P : Nat} {S V : Nat → Nat} {t : Nat → Int32} {post : SY → Prop} {J : Int32 → (Nat → Int32) → (Nat → Int32) → (Nat → Int32) → (Nat → Int32) → Prop} {J5 : Int32 → Int32 → Int32 → Int32 → Prop} {x1 x2 : Int32}
theorem fd_w103 (on : Bool) (z : Int32) {k a b : Nat} (hk : k < 10) (K : J5 (nI (a ^^^ (if on = true then S k else 0))) (nI (b ^^^ (if on = true then V k else 0))) z (nI (k + 1))) :
    wY_work_103 post J J5 x1 x2 (nI a) (nI b) (nI k) (fd_b01 on) z (fd_th P) (fd_I S) (fd_I V) t := by
  have hin : vp_in (nI k) 10 := vp_in_nI (by omega) (by decide)
  cases on with
  | false =>
    rw [if_neg (by decide), if_neg (by decide), Nat.xor_zero, Nat.xor_zero] at K
    exact br_t rfl (br_t rfl (nm_r (nI_1 k) K))
  | true =>
    rw [if_pos rfl, if_pos rfl, ← nx_xor a, ← fd_Ik S (k := k) (by omega)] at K
    refine br_f (by decide) ⟨hin, br_f (by decide) ⟨hin, nm_r (e' := nI (b ^^^ V k)) ?_ (nm_r (nI_1 k) K)⟩⟩
    rw [fd_Ik V (by omega), nx_xor]
theorem fd_w76 (on ok : Bool) {k a b : Nat} (hk : k < 10) (K : wY_work_103 post J J5 x1 x2 (nI a) (nI b) (nI k) (fd_b01 on) (fd_b01 (ok && (!on || P.testBit k))) (fd_th P) (fd_I S) (fd_I V) t) :
    wY_work_76 post J J5 x1 x2 (nI a) (nI b) (fd_b01 ok) (nI k) (fd_b01 on) (fd_th P) (fd_I S) (fd_I V) t := by
  have hin : vp_in (nI k) 10 := vp_in_nI (by omega) (by decide)
  cases ok with
  | false => exact br_t rfl K
  | true =>
    cases on with
    | false => exact br_f (by decide) (br_t rfl K)
    | true =>
      refine br_f (by decide) (br_f (by decide) ⟨hin, fd_brT (by omega) (fun b => ?_) (fun b => ?_)⟩)
      · rw [b] at K
        exact K
      · rw [b] at K
        exact K
theorem fd_w54 {c : Nat} (hc : c < 1024) (hS : fd_B S) (b0 : Bool) (K : J (nI (c + 1)) (fd_th P) (fd_I S) (fd_I V) (if fd_okc P c b0 10 = true then upd t (fd_xs S c 10) (nI (fd_xs V c 10)) else t)) :
    ∀ d k, k + d = 10 → wY_work_54 post J x1 (nI c) (fd_th P) (fd_I S) (fd_I V) t (d + 1) (nI (fd_xs S c k)) (nI (fd_xs V c k)) (fd_b01 (fd_okc P c b0 k)) (nI k) := by
  intro d
  induction d with
  | zero =>
    intro k hk
    have e : k = 10 := by omega
    subst e
    have hl := fd_xs_lt hS c 10
    refine br_t (by decide) ?_
    by_cases o : fd_okc P c b0 10 = true
    · rw [if_pos o] at K
      rw [o]
      refine br_f (by decide) ⟨vp_in_nI hl (by decide), nm_r (e' := upd t (fd_xs S c 10) (nI (fd_xs V c 10))) ?_ (nm_r (nI_1 c) K)⟩
      rw [nI_clamp (by omega)]
    · rw [if_neg o] at K
      rw [eq_false_of_ne_true o]
      exact br_t rfl (nm_r (nI_1 c) K)
  | succ d ih =>
    intro k hk
    have h10 : ¬ (10 : Int32) ≤ nI k := nI_ge (b := 10) (by omega) (by decide)
    have ih1 := ih (k + 1) (by omega)
    refine br_f h10 (fd_br1 (by omega) (by omega) (fun b => fd_w76 true (fd_okc P c b0 k) (by omega) (fd_w103 true _ (by omega) ?_)) (fun b => fd_w76 false (fd_okc P c b0 k) (by omega) (fd_w103 false _ (by omega) ?_)))
    · have e : fd_okc P c b0 (k + 1) = (fd_okc P c b0 k && (!true || P.testBit k)) := by
        show (fd_okc P c b0 k && (!(c.testBit k) || P.testBit k)) = _
        rw [b]
      rw [fd_xs_s, fd_xs_s, b, e] at ih1
      exact ih1
    · have e : fd_okc P c b0 (k + 1) = (fd_okc P c b0 k && (!false || P.testBit k)) := by
        show (fd_okc P c b0 k && (!(c.testBit k) || P.testBit k)) = _
        rw [b]
      rw [fd_xs_s, fd_xs_s, b, e] at ih1
      exact ih1
end YW
def fd_cok (m c : Nat) : Prop := ∀ j, j < 10 → c.testBit j = true → m.testBit j = true
def fd_Ti (S V : Nat → Nat) (m n : Nat) (t : Nat → Int32) : Prop := ∀ s, s < 256 → (t s = -1 ∧ ∀ c, c < n → fd_cok m c → fd_xs S c 10 ≠ s) ∨ (∃ c, c < n ∧ fd_cok m c ∧ fd_xs S c 10 = s ∧ t s = nI (fd_xs V c 10))
theorem fd_Ti_s {S V : Nat → Nat} {m n : Nat} {t : Nat → Int32} (h : fd_Ti S V m n t) (o : Bool) (ho : o = true ↔ fd_cok m n) : fd_Ti S V m (n + 1) (if o = true then upd t (fd_xs S n 10) (nI (fd_xs V n 10)) else t) := by
  intro s hs
  by_cases hc : o = true
  · rw [if_pos hc]
    by_cases e : s = fd_xs S n 10
    · subst e
      exact Or.inr ⟨n, Nat.lt_succ_self n, ho.mp hc, rfl, pk_us⟩
    · rw [pk_un e]
      rcases h s hs with z | z
      · refine Or.inl ⟨z.1, ?_⟩
        intro c hcn hok
        by_cases ec : c = n
        · subst ec
          exact fun w => e w.symm
        · exact z.2 c (by omega) hok
      · obtain ⟨c, z1, z2⟩ := z
        exact Or.inr ⟨c, by omega, z2⟩
  · rw [if_neg hc]
    rcases h s hs with z | z
    · refine Or.inl ⟨z.1, ?_⟩
      intro c hcn hok
      by_cases ec : c = n
      · subst ec
        exact absurd (ho.mpr hok) hc
      · exact z.2 c (by omega) hok
    · obtain ⟨c, z1, z2⟩ := z
      exact Or.inr ⟨c, by omega, z2⟩
theorem fd_sub {c : Nat} (hc : c < 1024) (x : Int32) : (nI c &&& (x ^^^ (-1))) = 0 ↔ ∀ j, j < 10 → c.testBit j = true → bt x j = true := by
  have hb : ∀ i, bt (nI c) i = c.testBit i := by
    intro i
    rw [← fd_tN_b, fd_tN_n (by omega)]
  constructor
  · intro h j hj hcj
    have e := congrArg (fun y => bt y j) h
    have e : bt (nI c &&& (x ^^^ (-1))) j = bt 0 j := e
    rw [b_and, b_xor, b_m1 j (by omega), hb, hcj, b_0] at e
    revert e
    cases bt x j <;> decide
  · intro h
    apply b_ext
    intro i hi
    rw [b_and, b_xor, b_m1 i hi, hb, b_0]
    by_cases h10 : i < 10
    · have h2 := h i h10
      revert h2
      cases c.testBit i
      · intro _
        rfl
      · intro h2
        rw [h2 rfl]
        rfl
    · rw [fd_hi hc (by omega)]
      rfl
/-- the table tells what the drops of m can be put together to -/
def fd_Tab (S V : Nat → Nat) (m : Nat) (t : Nat → Int32) : Prop := ∀ s, s < 256 → (t s = -1 ∧ ∀ b, ¬ fd_Sp S V m 10 s b) ∨ (∃ b, b < 256 ∧ fd_Sp S V m 10 s b ∧ t s = nI b)
theorem fd_Ti_tab {S V : Nat → Nat} {m : Nat} {t : Nat → Int32} (hV : fd_B V) (h : fd_Ti S V m 1024 t) : fd_Tab S V m t := by
  intro s hs
  rcases h s hs with z | z
  · refine Or.inl ⟨z.1, ?_⟩
    intro b hb
    obtain ⟨c, h0, h1, h2, _⟩ := (fd_Sp_code S V m 10 s b).mp hb
    exact z.2 c h0 h1 h2
  · obtain ⟨c, h0, h1, h2, h3⟩ := z
    exact Or.inr ⟨fd_xs V c 10, fd_xs_lt hV c 10, (fd_Sp_code S V m 10 s _).mpr ⟨c, h0, h1, h2, rfl⟩, h3⟩
section YT
variable {P m : Nat} {S V : Nat → Nat} {post : SY → Prop} {x1 : Int32}
theorem fd_w24 (hS : fd_B S) (hm : ∀ j, j < 10 → m.testBit j = (bt x1 j && P.testBit j)) (K : ∀ t, fd_Ti S V m 1024 t → post (fd_th P, fd_I S, fd_I V, t)) :
    ∀ d c, c + d = 1024 → ∀ t, fd_Ti S V m c t → wY_work_24 post x1 (d + 1) (nI c) (fd_th P) (fd_I S) (fd_I V) t := by
  intro d
  induction d with
  | zero =>
    intro c hc t h
    have e : c = 1024 := by omega
    subst e
    exact br_t (by decide) (K t h)
  | succ d ih =>
    intro c hc t h
    have h1 : ¬ (1024 : Int32) ≤ nI c := nI_ge (b := 1024) (by omega) (by decide)
    refine br_f h1 (br_c (fun z => ⟨11, ?_⟩) (fun z => ⟨11, ?_⟩))
    · refine fd_w54 (by omega) hS true (ih (c + 1) (by omega) _ (fd_Ti_s h _ ?_)) 10 0 rfl
      rw [fd_okc_iff]
      have z := (fd_sub (by omega) x1).mp z
      constructor
      · intro w j hj hcj
        rw [hm j hj, z j hj hcj, w.2 j hj hcj]
        rfl
      · intro w
        refine ⟨rfl, ?_⟩
        intro j hj hcj
        have w := w j hj hcj
        rw [hm j hj, Bool.and_eq_true] at w
        exact w.2
    · refine fd_w54 (by omega) hS false (ih (c + 1) (by omega) _ (fd_Ti_s h _ ?_)) 10 0 rfl
      rw [fd_okc_iff]
      constructor
      · intro w
        exact absurd w.1 (by decide)
      · intro w
        exfalso
        apply z
        rw [fd_sub (by omega)]
        intro j hj hcj
        have w := w j hj hcj
        rw [hm j hj, Bool.and_eq_true] at w
        exact w.1
theorem fd_w2 (hS : fd_B S) (hm : ∀ j, j < 10 → m.testBit j = (bt x1 j && P.testBit j)) (K : ∀ t, fd_Ti S V m 1024 t → post (fd_th P, fd_I S, fd_I V, t)) :
    ∀ d i, i + d = 256 → ∀ t : Nat → Int32, (∀ s, s < i → t s = -1) → wY_work_2 post x1 (d + 1) (nI i) (fd_th P) (fd_I S) (fd_I V) t := by
  intro d
  induction d with
  | zero =>
    intro i hi t h
    have e : i = 256 := by omega
    subst e
    exact br_t (by decide) ⟨1025, fd_w24 hS hm K 1024 0 rfl t (fun s hs => Or.inl ⟨h s hs, fun c hc => absurd hc (Nat.not_lt_zero c)⟩)⟩
  | succ d ih =>
    intro i hi t h
    have h1 : ¬ (256 : Int32) ≤ nI i := nI_ge (b := 256) (by omega) (by decide)
    refine br_f h1 ⟨vp_in_nI (by omega) (by decide), nm_e (nm_r (nI_1 i) (ih (i + 1) (by omega) _ ?_))⟩
    intro s hs
    rw [nI_clamp (by omega)]
    by_cases e : s = i
    · subst e
      exact pk_us
    · rw [pk_un e]
      exact h s (by omega)
theorem fd_work (hS : fd_B S) (hV : fd_B V) (hm : ∀ j, j < 10 → m.testBit j = (bt x1 j && P.testBit j)) {t : Nat → Int32} (K : ∀ t, fd_Tab S V m t → post (fd_th P, fd_I S, fd_I V, t)) : wpY_work post (fd_th P, fd_I S, fd_I V, t) x1 :=
  ⟨257, fd_w2 hS hm (fun t h => K t (fd_Ti_tab hV h)) 256 0 rfl t (fun s hs => absurd hs (Nat.not_lt_zero s))⟩
theorem fd_1023 : ∀ j, j < 10 → bt 1023 j = true := by decide +kernel
theorem fd_workP (hS : fd_B S) (hV : fd_B V) {t : Nat → Int32} (K : ∀ t, fd_Tab S V P t → post (fd_th P, fd_I S, fd_I V, t)) : wpY_work post (fd_th P, fd_I S, fd_I V, t) 1023 :=
  fd_work hS hV (fun j hj => by rw [fd_1023 j hj, Bool.true_and]) K
end YT
theorem fd_Tab_kn {S V : Nat → Nat} {m : Nat} {t : Nat → Int32} (h : fd_Tab S V m t) {s : Nat} (hs : s < 256) : (fd_kn S V m s = true ∧ ¬ t s < 0) ∨ (fd_kn S V m s = false ∧ t s = -1) := by
  rcases h s hs with z | z
  · refine Or.inr ⟨?_, z.1⟩
    apply eq_false_of_ne_true
    intro w
    obtain ⟨b, hb⟩ := fd_kn_iff.mp w
    exact z.2 b hb
  · obtain ⟨b, h0, h1, h2⟩ := z
    refine Or.inl ⟨fd_kn_iff.mpr ⟨b, h1⟩, ?_⟩
    rw [h2]
    exact nI_pos (by omega)
theorem fd_neg1 : (-1 : Int32) < 0 := by decide
theorem fd_brN {S V : Nat → Nat} {m : Nat} {t : Nat → Int32} (h : fd_Tab S V m t) {s : Nat} (hs : s < 256) {A B : Prop} (f : fd_kn S V m s = false → A) (g : fd_kn S V m s = true → B) : (t s < 0 → A) ∧ (¬ t s < 0 → B) := by
  rcases fd_Tab_kn h hs with z | z
  · exact br_f z.2 (g z.1)
  · rw [z.2]
    exact br_t fd_neg1 (f z.1)
theorem fd_brP {S V : Nat → Nat} {m : Nat} {t : Nat → Int32} (h : fd_Tab S V m t) {s : Nat} (hs : s < 256) {A B : Prop} (f : fd_kn S V m s = true → A) (g : fd_kn S V m s = false → B) : (0 ≤ t s → A) ∧ (¬ 0 ≤ t s → B) := by
  rcases fd_Tab_kn h hs with z | z
  · exact br_t (Int32.not_lt.mp z.2) (f z.1)
  · rw [z.2]
    exact br_f (by decide) (g z.1)
end
section
/-! the reference: what it asks its table -/
section YM
variable {th sa va t : Nat → Int32} {S V : Nat → Nat} {m : Nat}
theorem fd_size_l {post : Int32 → Prop} (h : fd_Tab S V m t) (K : post (nI (fd_ct (fd_kn S V m) 256))) :
    ∀ d j, j + d = 256 → wY_size_4 post th sa va t (d + 1) (nI (fd_ct (fd_kn S V m) j)) (nI j) := by
  intro d
  induction d with
  | zero =>
    intro j hj
    have e : j = 256 := by omega
    subst e
    exact br_t (by decide) K
  | succ d ih =>
    intro j hj
    have h1 : ¬ (256 : Int32) ≤ nI j := nI_ge (b := 256) (by omega) (by decide)
    have ih1 := ih (j + 1) (by omega)
    rw [fd_ct_s] at ih1
    refine br_f h1 ⟨vp_in_nI (by omega) (by decide), ?_⟩
    rw [nI_clamp (by omega)]
    refine fd_brN h (by omega) (fun z => nm_r (nI_1 j) ?_) (fun z => nm_r (nI_1 _) (nm_r (nI_1 j) ?_))
    · rw [z] at ih1
      exact ih1
    · rw [z] at ih1
      exact ih1
theorem fd_size {post : Int32 → Prop} (h : fd_Tab S V m t) (K : post (nI (fd_ct (fd_kn S V m) 256))) : wpY_size post (th, sa, va, t) :=
  ⟨257, fd_size_l h K 256 0 rfl⟩
theorem fd_with_l {post : Int32 → Prop} (h : fd_Tab S V m t) {s : Nat} (hs : s < 256) (K : post (nI (fd_cw S V m s))) :
    ∀ d j, j + d = 8 → wY_with_4 post (nI s) th sa va t (d + 1) (nI (fd_ct (fd_kw S V m s) j)) (nI j) := by
  intro d
  induction d with
  | zero =>
    intro j hj
    have e : j = 8 := by omega
    subst e
    exact br_t (by decide) K
  | succ d ih =>
    intro j hj
    have h1 : ¬ (8 : Int32) ≤ nI j := nI_ge (b := 8) (by omega) (by decide)
    have h2 := fd_p8 (j := j) (by omega)
    have h3 : 2 ^ j ^^^ s < 256 := Nat.xor_lt_two_pow (n := 8) h2 hs
    have ih1 := ih (j + 1) (by omega)
    rw [fd_ct_s] at ih1
    refine br_f h1 ?_
    rw [fd_shl j (by omega), nx_xor, nI_clamp (n := 2 ^ j) (by omega), nI_clamp (n := 2 ^ j ^^^ s) (by omega)]
    refine ⟨vp_in_nI h2 (by decide), fd_brP h h2 (fun z => nm_r (nI_1 _) (nm_r (nI_1 j) ?_)) (fun z => ⟨vp_in_nI h3 (by decide), fd_brN h h3 (fun w => nm_r (nI_1 j) ?_) (fun w => nm_r (nI_1 _) (nm_r (nI_1 j) ?_))⟩)⟩
    · rw [if_pos (by unfold fd_kw; rw [z]; rfl)] at ih1
      exact ih1
    · rw [if_neg (by unfold fd_kw; rw [z, w]; decide)] at ih1
      exact ih1
    · rw [if_pos (by unfold fd_kw; rw [z, w]; rfl)] at ih1
      exact ih1
theorem fd_with {post : Int32 → Prop} (h : fd_Tab S V m t) {s : Nat} (hs : s < 256) (K : post (nI (fd_cw S V m s))) : wpY_with post (th, sa, va, t) (nI s) :=
  ⟨9, fd_with_l h hs K 8 0 rfl⟩
theorem fd_yknown_l {post : Int32 → SY → Prop} (h : fd_Tab S V m t) (K : post (nI (fd_mk (fun i => fd_kn S V m (2 ^ i)) 8)) (th, sa, va, t)) :
    ∀ d j, j + d = 8 → wY_known_11 post th sa va t (d + 1) (nI (fd_mk (fun i => fd_kn S V m (2 ^ i)) j)) (nI j) := by
  intro d
  induction d with
  | zero =>
    intro j hj
    have e : j = 8 := by omega
    subst e
    exact br_t (by decide) K
  | succ d ih =>
    intro j hj
    have h1 : ¬ (8 : Int32) ≤ nI j := nI_ge (b := 8) (by omega) (by decide)
    have h2 := fd_p8 (j := j) (by omega)
    have ih1 := ih (j + 1) (by omega)
    rw [fd_mk_s] at ih1
    refine br_f h1 ?_
    rw [fd_shl j (by omega), nI_clamp (n := 2 ^ j) (by omega)]
    refine ⟨vp_in_nI h2 (by decide), fd_brN h h2 (fun z => nm_r (nI_1 j) ?_) (fun z => nm_r (fd_or _ _) (nm_r (nI_1 j) ?_))⟩
    · rw [if_neg (by rw [z]; decide), Nat.or_zero] at ih1
      exact ih1
    · rw [if_pos z] at ih1
      exact ih1
theorem fd_drops_l {post : Int32 → Prop} {P : Nat} (K : post (nI (fd_mk (fun i => P.testBit i) 10))) :
    ∀ d j, j + d = 10 → wY_drops_4 post (fd_th P) sa va t (d + 1) (nI (fd_mk (fun i => P.testBit i) j)) (nI j) := by
  intro d
  induction d with
  | zero =>
    intro j hj
    have e : j = 10 := by omega
    subst e
    exact br_t (by decide) K
  | succ d ih =>
    intro j hj
    have h1 : ¬ (10 : Int32) ≤ nI j := nI_ge (b := 10) (by omega) (by decide)
    have ih1 := ih (j + 1) (by omega)
    rw [fd_mk_s] at ih1
    refine br_f h1 ⟨vp_in_nI (by omega) (by decide), fd_brT (by omega) (fun z => nm_r (nI_1 j) ?_) (fun z => nm_r (e' := nI (fd_mk (fun i => P.testBit i) j ||| 2 ^ j)) ?_ (nm_r (nI_1 j) ?_))⟩
    · rw [if_neg (by rw [z]; decide), Nat.or_zero] at ih1
      exact ih1
    · rw [fd_shl j (by omega), fd_or]
    · rw [if_pos z] at ih1
      exact ih1
theorem fd_mk_P {P : Nat} (hP : P < 1024) : fd_mk (fun i => P.testBit i) 10 = P := by
  apply Nat.eq_of_testBit_eq
  intro i
  rw [fd_mk_bit]
  by_cases h : i < 10
  · rw [decide_eq_true h, Bool.true_and]
  · rw [decide_eq_false h, fd_hi hP (by omega)]
    rfl
theorem fd_missing_l {post : Int32 → SY → Prop} {g : Nat} (hg : g ≤ 8) (K : post (nI (8 - g)) (th, sa, va, t)) :
    ∀ d j, j + d = 8 - g → wY_missing_14 post (nI (2 ^ g)) th sa va t (d + 1) (nI j) := by
  have hsh : ∀ j, j ≤ 8 → nI (2 ^ g) <<< (nI j &&& 31) = nI (2 ^ (g + j)) ∧ 2 ^ (g + j) < 2 ^ 31 := by
    intro j hj
    have h2 : 2 ^ (g + j) < 2 ^ 31 := Nat.pow_lt_pow_right (by decide) (by omega)
    refine ⟨?_, h2⟩
    rw [Nat.pow_add] at h2 ⊢
    exact pk_shlN (nI j &&& 31) j (s_l j (by omega)) (Nat.lt_trans h2 (by decide))
  intro d
  induction d with
  | zero =>
    intro j hj
    have e : j = 8 - g := by omega
    subst e
    obtain ⟨e1, e2⟩ := hsh (8 - g) (by omega)
    refine br_t ?_ K
    rw [e1]
    have e3 : g + (8 - g) = 8 := by omega
    rw [e3]
    decide
  | succ d ih =>
    intro j hj
    obtain ⟨e1, e2⟩ := hsh j (by omega)
    have h3 : 2 ^ (g + j) < 2 ^ 8 := Nat.pow_lt_pow_right (by decide) (by omega)
    have h4 : ¬ (256 : Int32) ≤ nI (2 ^ g) <<< (nI j &&& 31) := by
      rw [e1]
      exact nI_ge (b := 256) h3 (by decide)
    have h8 : ¬ (8 : Int32) ≤ nI j := nI_ge (b := 8) (by omega) (by decide)
    exact br_f h4 (br_f h8 (nm_r (nI_1 j) (ih (j + 1) (by omega))))
end YM
/-- the best of 1 .. n + 1 -/
def fd_bs (f : Nat → Nat) : Nat → Nat
  | 0 => 1
  | n + 1 => if f (fd_bs f n) < f (n + 2) then n + 2 else fd_bs f n
theorem fd_bs_s (f : Nat → Nat) (n : Nat) : fd_bs f (n + 1) = if f (fd_bs f n) < f (n + 2) then n + 2 else fd_bs f n := rfl
theorem fd_bs_le (f : Nat → Nat) (n : Nat) : fd_bs f n ≤ n + 1 := by
  induction n with
  | zero => exact Nat.le_refl 1
  | succ n ih =>
    rw [fd_bs_s]
    split <;> omega
theorem fd_cw_le (S V : Nat → Nat) (P s : Nat) : fd_cw S V P s ≤ 8 := fd_ct_le _ 8
theorem fd_ybest_l {th sa va t : Nat → Int32} {S V : Nat → Nat} {m : Nat} {post : Int32 → SY → Prop} (h : fd_Tab S V m t) (K : post (nI (fd_bs (fd_cw S V m) 254)) (th, sa, va, t)) :
    ∀ d j, j + d = 254 → wY_bestSet_11 post th sa va t (d + 1) (nI (fd_bs (fd_cw S V m) j)) (nI (j + 2)) := by
  intro d
  induction d with
  | zero =>
    intro j hj
    have e : j = 254 := by omega
    subst e
    exact br_t (by decide) K
  | succ d ih =>
    intro j hj
    have h1 : ¬ (256 : Int32) ≤ nI (j + 2) := nI_ge (b := 256) (by omega) (by decide)
    have ih1 := ih (j + 1) (by omega)
    have c1 := fd_cw_le S V m (j + 2)
    have c2 := fd_cw_le S V m (fd_bs (fd_cw S V m) j)
    have c3 := fd_bs_le (fd_cw S V m) j
    rw [fd_bs_s] at ih1
    refine br_f h1 (fd_with h (by omega) (fd_with h (by omega) ?_))
    refine pk_le (fd_cw S V m (j + 2)) (fd_cw S V m (fd_bs (fd_cw S V m) j)) (fun z => nm_r (nI_1 (j + 2)) ?_) (fun z => nm_r (nI_1 (j + 2)) ?_)
    · rw [if_neg (by omega)] at ih1
      exact ih1
    · rw [if_pos z] at ih1
      exact ih1
end
section
/-! the relation, the ranges of arguments, one lemma a side -/
/-- both keep the same drops; no set has two values; the rows, when they are known, stand for the drops -/
def i_Rel (_ : Nat) (u : SX) (v : SY) : Prop := ∃ (P : Nat) (kn : Int32) (g : Nat) (ls lv : Int32) (S V R Q : Nat → Nat) (t : Nat → Int32), u = (nI P, kn, nI g, ls, lv, fd_I S, fd_I V, fd_I R, fd_I Q) ∧ v = (fd_th P, fd_I S, fd_I V, t) ∧ fd_bas P S V ∧ fd_rws P kn g S V R Q
theorem fd_mkR {k P : Nat} {kn : Int32} {g : Nat} {ls lv : Int32} {S V R Q : Nat → Nat} {t : Nat → Int32} (hb : fd_bas P S V) (hr : fd_rws P kn g S V R Q) : i_Rel k (nI P, kn, nI g, ls, lv, fd_I S, fd_I V, fd_I R, fd_I Q) (fd_th P, fd_I S, fd_I V, t) :=
  ⟨P, kn, g, ls, lv, S, V, R, Q, t, rfl, rfl, hb, hr⟩
theorem fd_rws0 {P g : Nat} {S V R Q : Nat → Nat} (hR : fd_B R) (hQ : fd_B Q) : fd_rws P 0 g S V R Q := ⟨hR, hQ, fun z => absurd rfl z⟩
theorem fd_lit1 : (1 : Int32).toInt = 1 := by decide
theorem fd_lit0 : (0 : Int32).toInt = 0 := by decide
theorem fd_lit7 : (7 : Int32).toInt = 7 := by decide
theorem fd_lit8 : (8 : Int32).toInt = 8 := by decide
theorem fd_lit9 : (9 : Int32).toInt = 9 := by decide
theorem fd_lit10 : (10 : Int32).toInt = 10 := by decide
theorem fd_lit255 : (255 : Int32).toInt = 255 := by decide
theorem fd_set_cases (x : Int32) : x < 1 ∨ (¬ x < 1 ∧ 255 < x) ∨ ∃ s : Nat, 1 ≤ s ∧ s < 256 ∧ x = nI s := by
  by_cases h1 : x < 1
  · exact Or.inl h1
  · by_cases h2 : 255 < x
    · exact Or.inr (Or.inl ⟨h1, h2⟩)
    · refine Or.inr (Or.inr ?_)
      have h3 : ¬ x < 0 := by
        rw [Int32.lt_iff_toInt_lt, fd_lit1] at h1
        rw [Int32.lt_iff_toInt_lt, fd_lit0]
        omega
      obtain ⟨j, hj, rfl⟩ := nI_of h3
      rw [Int32.lt_iff_toInt_lt, nI_toInt hj, fd_lit1] at h1
      rw [Int32.lt_iff_toInt_lt, nI_toInt hj, fd_lit255] at h2
      exact ⟨j, by omega, by omega, rfl⟩
theorem fd_val_cases (x : Int32) : x < 0 ∨ (¬ x < 0 ∧ 255 < x ∧ ¬ x ≤ 255) ∨ ∃ s : Nat, s < 256 ∧ x = nI s := by
  by_cases h1 : x < 0
  · exact Or.inl h1
  · by_cases h2 : 255 < x
    · exact Or.inr (Or.inl ⟨h1, h2, Int32.not_le.mpr h2⟩)
    · refine Or.inr (Or.inr ?_)
      obtain ⟨j, hj, rfl⟩ := nI_of h1
      rw [Int32.lt_iff_toInt_lt, nI_toInt hj, fd_lit255] at h2
      exact ⟨j, by omega, rfl⟩
theorem fd_ix10 (x : Int32) : x < 0 ∨ (¬ x < 0 ∧ nI 10 ≤ x ∧ 9 < x) ∨ ∃ k : Nat, k < 10 ∧ x = nI k := by
  by_cases h1 : x < 0
  · exact Or.inl h1
  · obtain ⟨j, hj, rfl⟩ := nI_of h1
    by_cases h2 : j < 10
    · exact Or.inr (Or.inr ⟨j, h2, rfl⟩)
    · exact Or.inr (Or.inl ⟨h1, nI_le (by omega) hj, nI_lt (a := 9) (by omega) hj⟩)
theorem fd_ix8 (x : Int32) : x < 0 ∨ (¬ x < 0 ∧ ¬ x < 8 ∧ 8 ≤ x ∧ 7 < x) ∨ ∃ k : Nat, k < 8 ∧ x = nI k := by
  by_cases h1 : x < 0
  · exact Or.inl h1
  · obtain ⟨j, hj, rfl⟩ := nI_of h1
    by_cases h2 : j < 8
    · exact Or.inr (Or.inr ⟨j, h2, rfl⟩)
    · exact Or.inr (Or.inl ⟨h1, nI_nlt (b := 8) (by omega) hj, nI_le (a := 8) (by omega) hj, nI_lt (a := 7) (by omega) hj⟩)
theorem fd_isSet0 {post : Int32 → Prop} {x : Int32} (h : x < 1 ∨ (¬ x < 1 ∧ 255 < x)) (f : post 0) : wpX_isSet post x := by
  rcases h with h | h
  · exact br_t h f
  · exact br_f h.1 (br_t h.2 f)
theorem fd_isSet1 {post : Int32 → Prop} {s : Nat} (h1 : 1 ≤ s) (hs : s < 256) (f : post 1) : wpX_isSet post (nI s) :=
  br_f (nI_nlt (b := 1) h1 (by omega)) (br_f (nI_nlt (a := 255) (by omega) (by decide)) f)
section YP
variable {v : SY}
theorem fd_pieces0 {post : Int32 → Prop} {th sa va t : Nat → Int32} {x : Int32} (h : x < 1 ∨ (¬ x < 1 ∧ 255 < x)) (f : post 0) : wpY_pieces post (th, sa, va, t) x := by
  rcases h with h | h
  · exact br_t h f
  · exact br_f h.1 (br_t h.2 f)
theorem fd_pieces1 {post : Int32 → Prop} {th sa va t : Nat → Int32} {s : Nat} (h1 : 1 ≤ s) (hs : s < 256) (f : post 1) : wpY_pieces post (th, sa, va, t) (nI s) :=
  br_f (nI_nlt (b := 1) h1 (by omega)) (br_f (nI_nlt (a := 255) (by omega) (by decide)) f)
theorem fd_number0 {post : Int32 → Prop} {th sa va t : Nat → Int32} {x : Int32} (h : x < 0 ∨ (¬ x < 0 ∧ 255 < x ∧ ¬ x ≤ 255)) (f : post 0) : wpY_number post (th, sa, va, t) x := by
  rcases h with h | h
  · exact br_t h f
  · exact br_f h.1 (br_t h.2.1 f)
theorem fd_number1 {post : Int32 → Prop} {th sa va t : Nat → Int32} {s : Nat} (hs : s < 256) (f : post 1) : wpY_number post (th, sa, va, t) (nI s) :=
  br_f (nI_pos (by omega)) (br_f (nI_nlt (a := 255) (by omega) (by decide)) f)
end YP
theorem fd_le255 {s : Nat} (hs : s < 256) : nI s ≤ 255 := nI_le (b := 255) (by omega) (by decide)
theorem fd_Tab_val {S V : Nat → Nat} {m g : Nat} {R Q : Nat → Nat} {t : Nat → Int32} (hT : fd_Tab S V m t) (h : fd_RW (fd_Sp S V m 10) g R Q) {s : Nat} (hs : s < 256) : t s = if fd_ro R s = 0 then nI (fd_xs Q s 8) else -1 := by
  rcases hT s hs with z | z
  · rw [if_neg (fun w => z.2 _ ((h.2.1 s _).mp ⟨w, rfl⟩)), z.1]
  · obtain ⟨b, _, h1, h2⟩ := z
    have w := (h.2.1 s b).mpr h1
    rw [if_pos w.1, h2, w.2]
theorem fd_Sp_none (S V : Nat → Nat) (n : Nat) : ∀ a b, fd_Sp S V 0 n a b → a = 0 ∧ b = 0 := by
  induction n with
  | zero => exact fun a b h => h
  | succ n ih =>
    intro a b h
    rcases h with h | h
    · exact ih a b h
    · rw [Nat.zero_testBit] at h
      exact absurd h.1 (by decide)
theorem fd_th0 : fd_th 0 = fun _ => 0 := by
  funext j
  show (if (0 : Nat).testBit j = true then (1 : Int32) else 0) = 0
  rw [Nat.zero_testBit]
  rfl
/-- the first free place, or 10 -/
theorem fd_free (P : Nat) : ∃ f, f ≤ 10 ∧ (∀ j, j < f → P.testBit j = true) ∧ (f = 10 ∨ P.testBit f = false) := by
  obtain ⟨f, h1, h2⟩ := pk_least (fun k => k = 10 ∨ P.testBit k = false) ⟨10, Or.inl rfl⟩
  refine ⟨f, ?_, ?_, h1⟩
  · rcases Nat.lt_or_ge 10 f with z | z
    · exact absurd (Or.inl rfl) (h2 10 z)
    · exact z
  · intro j hj
    exact eq_true_of_ne_false (fun w => h2 j hj (Or.inr w))
theorem fd_xtake_l {post : Int32 → SX → Prop} {P f : Nat} {a b kn rk ls lv : Int32} {sa va ra qa : Nat → Int32} (hP : P < 1024) (hf : f ≤ 10) (h1 : ∀ j, j < f → P.testBit j = true) (h2 : f = 10 ∨ P.testBit f = false)
    (K : wX_take_42 post a b (nI f) (nI P) kn rk ls lv sa va ra qa) : ∀ d k, k + d = f → wX_take_22 post a b (nI P) kn rk ls lv sa va ra qa (d + 1) (nI k) := by
  intro d
  induction d with
  | zero =>
    intro k hk
    have e : k = f := by omega
    subst e
    rcases Nat.lt_or_ge k 10 with z | z
    · refine br_f (nI_ge (b := 10) z (by decide)) (fd_has hP z (fun _ => br_t rfl K) (fun w => ?_))
      rcases h2 with h2 | h2
      · omega
      · rw [h2] at w
        cases w
    · exact br_t (nI_le (a := 10) z (by omega)) K
  | succ d ih =>
    intro k hk
    refine br_f (nI_ge (b := 10) (by omega) (by decide)) (fd_has hP (by omega) (fun w => ?_) (fun w => br_f (by decide) (nm_r (nI_1 k) (ih (k + 1) (by omega)))))
    rw [h1 k (by omega)] at w
    cases w
section YK
variable {post : Int32 → SY → Prop} {P f s v : Nat} {S V : Nat → Nat} {t : Nat → Int32}
theorem fd_ytake_l {a b : Int32} {sa va : Nat → Int32} (hf : f ≤ 10) (h1 : ∀ j, j < f → P.testBit j = true) (K : ∀ n, wY_take_27 post a b (fd_th P) sa va t (n + 1) (nI f)) :
    ∀ d k, k + d = f → wY_take_27 post a b (fd_th P) sa va t (d + 1) (nI k) := by
  intro d
  induction d with
  | zero =>
    intro k hk
    have e : k = f := by omega
    subst e
    exact K 0
  | succ d ih =>
    intro k hk
    refine br_f (nI_ge (b := 10) (by omega) (by decide)) ⟨vp_in_nI (by omega) (by decide), fd_brT (by omega) (fun w => ?_) (fun w => nm_r (nI_1 k) (ih (k + 1) (by omega)))⟩
    rw [h1 k (by omega)] at w
    cases w
theorem fd_ytake_full (hS : fd_B S) (hV : fd_B V) (h1 : ∀ j, j < 10 → P.testBit j = true) (s1 : 1 ≤ s) (hs : s < 256) (hv : v < 256) (K : ∀ t, post (-2) (fd_th P, fd_I S, fd_I V, t)) : wpY_take post (fd_th P, fd_I S, fd_I V, t) (nI s) (nI v) := by
  unfold wpY_take
  refine fd_pieces1 s1 hs (br_f (by decide) (fd_number1 hv (br_f (by decide) (fd_workP hS hV (fun t _ => ⟨11, ?_⟩)))))
  exact fd_ytake_l (f := 10) (Nat.le_refl 10) h1 (fun n => br_t (by decide) (K t)) 10 0 rfl
theorem fd_ytake_ref (hS : fd_B S) (hV : fd_B V) (hf : f < 10) (h1 : ∀ j, j < f → P.testBit j = true) (h2 : P.testBit f = false) (s1 : 1 ≤ s) (hs : s < 256) (hv : v < 256) (hk : ∃ b, fd_Sp S V P 10 s b) (hA : ∀ b, fd_Sp S V P 10 s b → b ≠ v) (K : ∀ t, post (-3) (fd_th P, fd_I S, fd_I V, t)) : wpY_take post (fd_th P, fd_I S, fd_I V, t) (nI s) (nI v) := by
  unfold wpY_take
  refine fd_pieces1 s1 hs (br_f (by decide) (fd_number1 hv (br_f (by decide) (fd_workP hS hV (fun t hT => ⟨f + 1, ?_⟩)))))
  refine fd_ytake_l (by omega) h1 (fun n => ?_) f 0 (by omega)
  refine br_f (nI_ge (b := 10) hf (by decide)) ⟨vp_in_nI hf (by decide), fd_brT (by omega) (fun _ => ⟨vp_in_nI hs (by decide), ?_⟩) (fun w => ?_)⟩
  · rw [nI_clamp (n := s) (by omega)]
    rcases hT s hs with z | z
    · obtain ⟨b, hb⟩ := hk
      exact absurd hb (z.2 b)
    · obtain ⟨b, b1, b2, b3⟩ := z
      rw [b3]
      refine br_f (nI_pos (by omega)) ⟨vp_in_nI hs (by decide), br_f (fun e => ?_) (K t)⟩
      exact hA b b2 ((nI_eq (by omega) (by omega)).mp e)
  · rw [h2] at w
    cases w
theorem fd_th_put (hf : f < 10) : upd (fd_th P) (nI f).toNatClampNeg (vp_nar .boolean 1) = fd_th (P ||| 2 ^ f) := by
  rw [nI_clamp (by omega)]
  funext j
  show (if j = f then vp_nar .boolean 1 else if P.testBit j = true then (1 : Int32) else 0) = (if (P ||| 2 ^ f).testBit j = true then (1 : Int32) else 0)
  rw [Nat.testBit_or, Nat.testBit_two_pow]
  by_cases e : j = f
  · subst e
    rw [if_pos rfl, if_pos (by simp)]
    rfl
  · rw [if_neg e, decide_eq_false (fun z => e z.symm), Bool.or_false]
theorem fd_ytake_64 {a b : Int32} (hf : f < 10) (ha : a = nI s) (hb : b = nI v) (K : post (nI f) (fd_th (P ||| 2 ^ f), fd_I (fd_up S f s), fd_I (fd_up V f v), t)) : wY_take_64 post a b (nI f) (fd_th P) (fd_I S) (fd_I V) t := by
  have hin : vp_in (nI f) 10 := vp_in_nI hf (by decide)
  refine ⟨hin, nm_r (fd_th_put hf) ⟨hin, nm_r (e' := fd_I (fd_up S f s)) ?_ ⟨hin, nm_r (e' := fd_I (fd_up V f v)) ?_ K⟩⟩⟩
  · rw [ha, nI_clamp (by omega), fd_upI]
  · rw [hb, nI_clamp (by omega), fd_upI]
theorem fd_ytake_ok (hS : fd_B S) (hV : fd_B V) (hf : f < 10) (h1 : ∀ j, j < f → P.testBit j = true) (h2 : P.testBit f = false) (s1 : 1 ≤ s) (hs : s < 256) (hv : v < 256) (hA : ∀ b, fd_Sp S V P 10 s b → b = v) (K : ∀ t, post (nI f) (fd_th (P ||| 2 ^ f), fd_I (fd_up S f s), fd_I (fd_up V f v), t)) : wpY_take post (fd_th P, fd_I S, fd_I V, t) (nI s) (nI v) := by
  unfold wpY_take
  refine fd_pieces1 s1 hs (br_f (by decide) (fd_number1 hv (br_f (by decide) (fd_workP hS hV (fun t hT => ⟨f + 1, ?_⟩)))))
  refine fd_ytake_l (by omega) h1 (fun n => ?_) f 0 (by omega)
  refine br_f (nI_ge (b := 10) hf (by decide)) ⟨vp_in_nI hf (by decide), fd_brT (by omega) (fun _ => ⟨vp_in_nI hs (by decide), ?_⟩) (fun w => ?_)⟩
  · rw [nI_clamp (n := s) (by omega)]
    rcases hT s hs with z | z
    · rw [z.1]
      exact br_t fd_neg1 (fd_ytake_64 hf rfl rfl (K t))
    · obtain ⟨b, b1, b2, b3⟩ := z
      rw [b3, hA b b2]
      exact br_f (nI_pos (by omega)) ⟨vp_in_nI hs (by decide), br_t rfl (fd_ytake_64 hf rfl rfl (K t))⟩
  · rw [h2] at w
    cases w
theorem fd_yenough (hS : fd_B S) (hV : fd_B V) (x : Int32) (K : ∀ t, post (fd_en S V P (fd_tN x &&& P)) (fd_th P, fd_I S, fd_I V, t)) : wpY_enough post (fd_th P, fd_I S, fd_I V, t) x := by
  unfold wpY_enough
  refine fd_workP hS hV (fun t h1 => fd_size h1 (fd_work (m := fd_tN x &&& P) hS hV (fun j _ => ?_) (fun t h2 => fd_size h2 ?_)))
  · rw [Nat.testBit_and, fd_tN_b]
  · have k := K t
    unfold fd_en at k
    have c1 := fd_ct_le (fd_kn S V P) 256
    have c2 := fd_ct_le (fd_kn S V (fd_tN x &&& P)) 256
    refine pk_eq (fd_ct (fd_kn S V (fd_tN x &&& P)) 256) (fd_ct (fd_kn S V P) 256) (fun e => ?_) (fun e => ?_)
    · rw [if_pos e] at k
      exact k
    · rw [if_neg e] at k
      exact k
theorem fd_ypiece (hS : fd_B S) (hV : fd_B V) {i : Nat} (hi : i < 8) (K : ∀ t, fd_Tab S V P t → post (t (2 ^ i)) (fd_th P, fd_I S, fd_I V, t)) : wpY_piece post (fd_th P, fd_I S, fd_I V, t) (nI i) := by
  unfold wpY_piece
  refine fd_workP hS hV (fun t h => br_f (nI_pos (by omega)) (br_f (nI_nlt (a := 7) (b := i) (by omega) (by decide)) ?_))
  have h2 := fd_p8 hi
  rw [fd_shl i (by omega), nI_clamp (n := 2 ^ i) (by omega)]
  exact ⟨vp_in_nI h2 (by decide), K t h⟩
end YK
section XK
variable {post : Int32 → SX → Prop} {P g : Nat} {S V R Q : Nat → Nat} {kn ls lv : Int32}
theorem fd_xpiece (hb : fd_bas P S V) (hr : fd_rws P kn g S V R Q) {i : Nat} (hi : i < 8)
    (K : ∀ (kn : Int32) (g : Nat) (ls lv : Int32) (R Q : Nat → Nat), fd_rws P kn g S V R Q → fd_RW (fd_Sp S V P 10) g R Q → post (if fd_ro R (2 ^ i) = 0 then nI (fd_xs Q (2 ^ i) 8) else -1) (nI P, kn, nI g, ls, lv, fd_I S, fd_I V, fd_I R, fd_I Q)) :
    wpX_piece post (nI P, kn, nI g, ls, lv, fd_I S, fd_I V, fd_I R, fd_I Q) (nI i) := by
  unfold wpX_piece
  have h2 := fd_p8 hi
  have hin : vp_in (nI i) 8 := vp_in_nI hi (by decide)
  refine br_f (nI_pos (by omega)) (br_t (nI_lt (b := 8) hi (by decide)) (fd_learn hb hr (fun kn g ls lv R Q hr h => ⟨hin, ?_⟩)))
  have k := K kn g ls lv R Q hr h
  have hRi := hr.1 i
  refine fd_brI (c := 2 ^ i) (by omega) (by omega) (by omega) (fd_shl i (by omega)) (fun z => ⟨hin, ?_⟩) (fun z => ?_)
  · rw [if_pos ((fd_ro_pow R hi).mpr z), fd_xs_pow Q i 8 hi, ← fd_Ik Q (by omega)] at k
    exact k
  · rw [if_neg (fun w => z ((fd_ro_pow R hi).mp w))] at k
    exact k
theorem fd_xbest_l (hb : fd_bas P S V) (K : ∀ (g : Nat) (ls lv : Int32) (R Q : Nat → Nat), fd_B R → fd_B Q → post (nI (fd_bs (fd_cw S V P) 254)) (nI P, 0, nI g, ls, lv, fd_I S, fd_I V, fd_I R, fd_I Q)) :
    ∀ d j, j + d = 254 → ∀ (g : Nat) (ls lv : Int32) (R Q : Nat → Nat), fd_B R → fd_B Q → wX_bestSet_6 post (d + 1) (nI (fd_bs (fd_cw S V P) j)) (nI (fd_cw S V P (fd_bs (fd_cw S V P) j))) (nI (j + 2)) (nI P) 0 (nI g) ls lv (fd_I S) (fd_I V) (fd_I R) (fd_I Q) := by
  intro d
  induction d with
  | zero =>
    intro j hj g ls lv R Q hR hQ
    have e : j = 254 := by omega
    subst e
    exact br_t (by decide) (K g ls lv R Q hR hQ)
  | succ d ih =>
    intro j hj g ls lv R Q hR hQ
    have c1 := fd_cw_le S V P (j + 2)
    have c2 := fd_cw_le S V P (fd_bs (fd_cw S V P) j)
    refine br_f (nI_nlt (a := 255) (by omega) (by decide)) (fd_countWith hb hR hQ (by omega) (fun g ls lv R Q hR hQ => ?_))
    have ih1 := ih (j + 1) (by omega) g ls lv R Q hR hQ
    rw [fd_bs_s] at ih1
    refine pk_le (fd_cw S V P (j + 2)) (fd_cw S V P (fd_bs (fd_cw S V P) j)) (fun z => nm_r (nI_1 (j + 2)) ?_) (fun z => nm_r (nI_1 (j + 2)) ?_)
    · rw [if_neg (by omega)] at ih1
      exact ih1
    · rw [if_pos z] at ih1
      exact ih1
theorem fd_xbest (hb : fd_bas P S V) (hR : fd_B R) (hQ : fd_B Q) (K : ∀ (g : Nat) (ls lv : Int32) (R Q : Nat → Nat), fd_B R → fd_B Q → post (nI (fd_bs (fd_cw S V P) 254)) (nI P, 0, nI g, ls, lv, fd_I S, fd_I V, fd_I R, fd_I Q)) :
    wpX_bestSet post (nI P, kn, nI g, ls, lv, fd_I S, fd_I V, fd_I R, fd_I Q) := by
  refine ⟨256, br_f (by decide) (fd_countWith (s := 1) hb hR hQ (by decide) (fun g ls lv R Q hR hQ => ?_))⟩
  have c1 := fd_cw_le S V P 1
  refine br_f ?_ (nm_r (nI_1 1) (fd_xbest_l hb K 254 0 rfl g ls lv R Q hR hQ))
  rw [Int32.le_iff_toInt_le, nI_toInt (by omega), show (-1 : Int32).toInt = -1 from by decide]
  omega
end XK
theorem fd_masks {P k : Nat} (hP : P < 1024) (hk : k < 10) : fd_tN (nI P &&& (((1 : Int32) <<< (nI k &&& 31)) ^^^ (-1))) &&& P = fd_tN (1023 &&& (((1 : Int32) <<< (nI k &&& 31)) ^^^ (-1))) &&& P := by
  apply Nat.eq_of_testBit_eq
  intro j
  rw [Nat.testBit_and, Nat.testBit_and, fd_tN_b, fd_tN_b, b_and, b_and]
  by_cases h : j < 10
  · rw [fd_1023 j h, ← fd_tN_b (nI P), fd_tN_n (by omega)]
    cases P.testBit j <;> simp
  · rw [fd_hi hP (by omega), Bool.and_false, Bool.and_false]
theorem fd_th_off {P k : Nat} (hP : P < 1024) (hk : k < 10) : upd (fd_th P) (nI k).toNatClampNeg (vp_nar .boolean 0) = fd_th (P &&& fd_tN (fd_off k)) := by
  rw [nI_clamp (by omega)]
  funext j
  show (if j = k then vp_nar .boolean 0 else if P.testBit j = true then (1 : Int32) else 0) = (if (P &&& fd_tN (fd_off k)).testBit j = true then (1 : Int32) else 0)
  rw [fd_off_tb hP hk]
  by_cases e : j = k
  · subst e
    rw [if_pos rfl, if_neg (by simp)]
    rfl
  · rw [if_neg e, decide_eq_false (fun z => e z.symm), Bool.not_false, Bool.and_true]
theorem fd_en_01 (S V : Nat → Nat) (P m : Nat) : fd_en S V P m = 0 ∨ fd_en S V P m = 1 := by
  unfold fd_en
  split
  · exact Or.inr rfl
  · exact Or.inl rfl
end
section
/-! what is owed -/
theorem i_up {k : Nat} {u : SX} {v : SY} (h : i_Rel k u v) : i_Rel (k + 3) u v := h
theorem i_vc0 : wpX_init (fun u => wpY_init (fun v => i_Rel 0 u v)) := by
  have hB : fd_B (fun _ => 0) := fun _ => Nat.zero_lt_succ 255
  have hb : fd_bas 0 (fun _ => 0) (fun _ => 0) := ⟨by decide, hB, hB, fun b h => (fd_Sp_none _ _ 10 0 b h).2⟩
  have r := fd_mkR (k := 0) (ls := 0) (lv := 0) (t := fun _ => 0) hb (fd_rws0 (g := 0) hB hB)
  rw [fd_th0] at r
  exact r
theorem i_vc_take {k : Nat} {u : SX} {v : SY} (I : i_Rel k u v) (hk : k + 3 ≤ 1536) (v1 : Int32) (v2 : Int32) : wpX_take (fun r u' => wpY_take (fun r' v' => r' = r ∧ i_Rel (k + 3) u' v') v v1 v2) u v1 v2 := by
  obtain ⟨P, kn, g, ls, lv, S, V, R, Q, t, rfl, rfl, hb, hr⟩ := I
  unfold wpX_take
  have hset : ∀ h : v1 < 1 ∨ (¬ v1 < 1 ∧ 255 < v1), wpY_take (fun r' v' => r' = -1 ∧ i_Rel (k + 3) (nI P, kn, nI g, ls, lv, fd_I S, fd_I V, fd_I R, fd_I Q) v') (fd_th P, fd_I S, fd_I V, t) v1 v2 := by
    intro h
    unfold wpY_take
    exact fd_pieces0 h (br_t rfl ⟨rfl, fd_mkR hb hr⟩)
  rcases fd_set_cases v1 with h | h | ⟨s, s1, hs, rfl⟩
  · exact fd_isSet0 (Or.inl h) (br_t rfl (hset (Or.inl h)))
  · exact fd_isSet0 (Or.inr h) (br_t rfl (hset (Or.inr h)))
  · refine fd_isSet1 s1 hs (br_f (by decide) ?_)
    have hval : ∀ h : v2 < 0 ∨ (¬ v2 < 0 ∧ 255 < v2 ∧ ¬ v2 ≤ 255), wpY_take (fun r' v' => r' = -1 ∧ i_Rel (k + 3) (nI P, kn, nI g, ls, lv, fd_I S, fd_I V, fd_I R, fd_I Q) v') (fd_th P, fd_I S, fd_I V, t) (nI s) v2 := by
      intro h
      unfold wpY_take
      exact fd_pieces1 s1 hs (br_f (by decide) (fd_number0 h (br_t rfl ⟨rfl, fd_mkR hb hr⟩)))
    rcases fd_val_cases v2 with h | h | ⟨v, hv, rfl⟩
    · exact br_t h (hval (Or.inl h))
    · exact br_f h.1 (br_f h.2.2 (hval (Or.inr h)))
    · refine br_f (nI_pos (by omega)) (br_t (fd_le255 hv) ?_)
      obtain ⟨hP, hS, hV, hC⟩ := hb
      obtain ⟨f, f1, f2, f3⟩ := fd_free P
      refine ⟨f + 1, fd_xtake_l hP f1 f2 f3 ?_ f 0 (by omega)⟩
      by_cases hf : f = 10
      · subst hf
        exact br_t (by decide) (fd_ytake_full hS hV f2 s1 hs hv (fun t => ⟨rfl, fd_mkR ⟨hP, hS, hV, hC⟩ hr⟩))
      · have hf : f < 10 := by omega
        have f4 : P.testBit f = false := by
          rcases f3 with z | z
          · omega
          · exact z
        have hf10 : ¬ nI f = 10 := fun z => by
          have z := (nI_eq (b := 10) (by omega) (by decide)).mp z
          omega
        refine br_f hf10 (fd_learn ⟨hP, hS, hV, hC⟩ hr (fun kn g ls lv R Q hr h => fd_reduce h.1 hr.1 hr.2.1 hs hv ?_))
        have hm : v ^^^ fd_xs Q s 8 < 256 := Nat.xor_lt_two_pow (n := 8) hv (fd_xs_lt hr.2.1 s 8)
        have hl := fd_ro_lt hr.1 hs
        have hPk : P ||| 2 ^ f < 1024 := Nat.or_lt_two_pow (n := 10) hP (Nat.pow_lt_pow_right (by decide) hf)
        have hSk : fd_B (fd_up S f s) := fun j => by
          show (if j = f then s else S j) < 256
          split
          · exact hs
          · exact hS j
        have hVk : fd_B (fd_up V f v) := fun j => by
          show (if j = f then v else V j) < 256
          split
          · exact hv
          · exact hV j
        have acc : ∀ ls lv : Int32, (fd_ro R s = 0 → v = fd_xs Q s 8) → wX_take_78 (fun r u' => wpY_take (fun r' v' => r' = r ∧ i_Rel (k + 3) u' v') (fd_th P, fd_I S, fd_I V, t) (nI s) (nI v)) (nI s) (nI v) (nI f) (nI P) kn (nI g) ls lv (fd_I S) (fd_I V) (fd_I R) (fd_I Q) := by
          intro ls lv ha
          have hin : vp_in (nI f) 10 := vp_in_nI hf (by decide)
          have hb2 : fd_bas (P ||| 2 ^ f) (fd_up S f s) (fd_up V f v) := ⟨hPk, hSk, hVk, fd_Co_put h hC f4 hf ha⟩
          have hA : ∀ b, fd_Sp S V P 10 s b → b = v := by
            intro b hb
            have w := (h.2.1 s b).mpr hb
            rw [w.2, ← ha w.1]
          refine nm_r (e' := nI (P ||| 2 ^ f)) ?_ ⟨hin, nm_r (e' := fd_I (fd_up S f s)) ?_ ⟨hin, nm_r (e' := fd_I (fd_up V f v)) ?_ ?_⟩⟩
          · rw [fd_shl f (by omega), fd_or]
          · rw [fd_sh hs, nI_clamp (by omega), fd_upI]
          · rw [fd_sh hv, nI_clamp (by omega), fd_upI]
          · refine fd_include h.1 hr.1 hr.2.1 hs hv (fun z => ?_) (fun p hp hlp => ?_)
            · exact fd_ytake_ok hS hV hf f2 f4 s1 hs hv hA (fun t => ⟨rfl, fd_mkR hb2 ⟨hr.1, hr.2.1, fun _ => fd_RW_congr (fd_RW_same h z (ha z)) (fun a b => (fd_Sp_put10 S V P f s v f4 hf a b).symm)⟩⟩)
            · exact fd_ytake_ok hS hV hf f2 f4 s1 hs hv hA (fun t => ⟨rfl, fd_mkR hb2 ⟨fd_B_inc hr.1 hl, fd_B_inc hr.2.1 hm, fun _ => fd_RW_congr (fd_RW_inc h hs hp hlp v) (fun a b => (fd_Sp_put10 S V P f s v f4 hf a b).symm)⟩⟩)
        refine pk_eq (fd_ro R s) 0 (fun z => pk_eq (v ^^^ fd_xs Q s 8) 0 (fun w => acc _ _ (fun _ => fd_x0.mp w)) (fun w => ?_)) (fun z => acc _ _ (fun w => absurd w z))
        refine fd_ytake_ref hS hV hf f2 f4 s1 hs hv ⟨_, (h.2.1 s _).mp ⟨z, rfl⟩⟩ (fun b hb e => ?_) (fun t => ⟨rfl, fd_mkR ⟨hP, hS, hV, hC⟩ hr⟩)
        have y := (h.2.1 s b).mpr hb
        exact w (fd_x0.mpr (e.symm.trans y.2))
theorem i_vc_drop {k : Nat} {u : SX} {v : SY} (I : i_Rel k u v) (hk : k + 3 ≤ 1536) (v1 : Int32) : wpX_drop (fun r u' => wpY_drop (fun r' v' => r' = r ∧ i_Rel (k + 3) u' v') v v1) u v1 := by
  obtain ⟨P, kn, g, ls, lv, S, V, R, Q, t, rfl, rfl, hb, hr⟩ := I
  unfold wpX_drop
  rcases fd_ix10 v1 with h | h | ⟨j, hj, rfl⟩
  · exact fd_has_out (Or.inl h) (br_t rfl (br_t h ⟨rfl, fd_mkR hb hr⟩))
  · exact fd_has_out (Or.inr h.2.1) (br_t rfl (br_f h.1 (br_t h.2.2 ⟨rfl, fd_mkR hb hr⟩)))
  · have hin : vp_in (nI j) 10 := vp_in_nI hj (by decide)
    have h9 : ¬ (9 : Int32) < nI j := nI_nlt (a := 9) (by omega) (by decide)
    refine fd_has hb.1 hj (fun b => br_t rfl ?_) (fun b => br_f (by decide) (nm_r (fd_off_P hb.1 hj) ?_))
    · refine br_f (nI_pos (by omega)) (br_f h9 ⟨hin, fd_brT (by omega) (fun _ => ⟨rfl, fd_mkR hb hr⟩) (fun w => ?_)⟩)
      rw [b] at w
      cases w
    · refine br_f (nI_pos (by omega)) (br_f h9 ⟨hin, fd_brT (by omega) (fun w => ?_) (fun _ => ⟨hin, nm_r (fd_th_off hb.1 hj) ⟨rfl, fd_mkR ?_ (fd_rws0 hr.1 hr.2.1)⟩⟩)⟩)
      · rw [b] at w
        cases w
      · refine ⟨Nat.lt_of_le_of_lt Nat.and_le_left hb.1, hb.2.1, hb.2.2.1, fd_Co_mono (fun i hi => ?_) hb.2.2.2⟩
        rw [Nat.testBit_and, Bool.and_eq_true] at hi
        exact hi.1
theorem i_vc_drops {k : Nat} {u : SX} {v : SY} (I : i_Rel k u v) (hk : k + 3 ≤ 1536) : wpX_drops (fun r => wpY_drops (fun r' => r' = r ∧ i_Rel (k + 3) u v) v) u := by
  obtain ⟨P, kn, g, ls, lv, S, V, R, Q, t, rfl, rfl, hb, hr⟩ := I
  exact ⟨11, fd_drops_l ⟨congrArg nI (fd_mk_P hb.1), fd_mkR hb hr⟩ 10 0 rfl⟩
theorem i_vc_known {k : Nat} {u : SX} {v : SY} (I : i_Rel k u v) (hk : k + 3 ≤ 1536) : wpX_known (fun r u' => wpY_known (fun r' v' => r' = r ∧ i_Rel (k + 3) u' v') v) u := by
  obtain ⟨P, kn, g, ls, lv, S, V, R, Q, t, rfl, rfl, hb, hr⟩ := I
  unfold wpX_known
  refine fd_learn hb hr (fun kn g ls lv R Q hr h => fd_singles (p := fun i => fd_kn S V P (2 ^ i)) hr.1 (fun i hi => ?_) ?_)
  · show R i = 2 ^ i ↔ fd_kn S V P (2 ^ i) = true
    rw [fd_kn_ro h, decide_eq_true_iff, fd_ro_pow R hi]
  · unfold wpY_known
    exact fd_workP hb.2.1 hb.2.2.1 (fun t hT => ⟨9, fd_yknown_l hT ⟨rfl, fd_mkR hb hr⟩ 8 0 rfl⟩)
theorem i_vc_piece {k : Nat} {u : SX} {v : SY} (I : i_Rel k u v) (hk : k + 3 ≤ 1536) (v1 : Int32) : wpX_piece (fun r u' => wpY_piece (fun r' v' => r' = r ∧ i_Rel (k + 3) u' v') v v1) u v1 := by
  obtain ⟨P, kn, g, ls, lv, S, V, R, Q, t, rfl, rfl, hb, hr⟩ := I
  rcases fd_ix8 v1 with h | h | ⟨i, hi, rfl⟩
  · unfold wpX_piece wpY_piece
    exact br_t h (fd_workP hb.2.1 hb.2.2.1 (fun t _ => br_t h ⟨rfl, fd_mkR hb hr⟩))
  · unfold wpX_piece wpY_piece
    exact br_f h.1 (br_f h.2.1 (fd_workP hb.2.1 hb.2.2.1 (fun t _ => br_f h.1 (br_t h.2.2.2 ⟨rfl, fd_mkR hb hr⟩))))
  · refine fd_xpiece hb hr hi (fun kn g ls lv R Q hr h => fd_ypiece hb.2.1 hb.2.2.1 hi (fun t hT => ⟨fd_Tab_val hT h (fd_p8 hi), fd_mkR hb hr⟩))
theorem i_vc_sum {k : Nat} {u : SX} {v : SY} (I : i_Rel k u v) (hk : k + 3 ≤ 1536) (v1 : Int32) : wpX_sum (fun r u' => wpY_sum (fun r' v' => r' = r ∧ i_Rel (k + 3) u' v') v v1) u v1 := by
  obtain ⟨P, kn, g, ls, lv, S, V, R, Q, t, rfl, rfl, hb, hr⟩ := I
  unfold wpX_sum wpY_sum
  rcases fd_val_cases v1 with h | h | ⟨s, hs, rfl⟩
  · exact br_t h (fd_workP hb.2.1 hb.2.2.1 (fun t _ => br_t h ⟨rfl, fd_mkR hb hr⟩))
  · exact br_f h.1 (br_f h.2.2 (fd_workP hb.2.1 hb.2.2.1 (fun t _ => br_f h.1 (br_t h.2.1 ⟨rfl, fd_mkR hb hr⟩))))
  · refine br_f (nI_pos (by omega)) (br_t (fd_le255 hs) (fd_learn hb hr (fun kn g ls lv R Q hr h => fd_reduce (v := 0) h.1 hr.1 hr.2.1 hs (by decide) ?_)))
    have hl := fd_ro_lt hr.1 hs
    have Y : ∀ (r : Int32) (ls lv : Int32), r = (if fd_ro R s = 0 then nI (fd_xs Q s 8) else -1) → wpY_work (fun u => match u with | (a_there_2, a_sets_3, a_values_4, a_table_5) => (((nI s < 0 → ((-1) = r ∧ i_Rel (k + 3) (nI P, kn, nI g, ls, lv, fd_I S, fd_I V, fd_I R, fd_I Q) (a_there_2, a_sets_3, a_values_4, a_table_5))) ∧ (¬ nI s < 0 → (((255 < nI s → ((-1) = r ∧ i_Rel (k + 3) (nI P, kn, nI g, ls, lv, fd_I S, fd_I V, fd_I R, fd_I Q) (a_there_2, a_sets_3, a_values_4, a_table_5))) ∧ (¬ 255 < nI s → (vp_in (nI s) 256 ∧ (a_table_5 (nI s).toNatClampNeg = r ∧ i_Rel (k + 3) (nI P, kn, nI g, ls, lv, fd_I S, fd_I V, fd_I R, fd_I Q) (a_there_2, a_sets_3, a_values_4, a_table_5))))))))) ) (fd_th P, fd_I S, fd_I V, t) 1023 := by
      intro r ls lv hr1
      refine fd_workP hb.2.1 hb.2.2.1 (fun t hT => br_f (nI_pos (by omega)) (br_f (nI_nlt (a := 255) (by omega) (by decide)) ⟨vp_in_nI hs (by decide), ?_, fd_mkR hb hr⟩))
      rw [nI_clamp (by omega), hr1]
      exact fd_Tab_val hT h hs
    refine pk_eq (fd_ro R s) 0 (fun z => ?_) (fun z => ?_)
    · exact Y _ _ _ (by rw [if_pos z, Nat.zero_xor])
    · exact Y _ _ _ (by rw [if_neg z])
theorem i_vc_missing {k : Nat} {u : SX} {v : SY} (I : i_Rel k u v) (hk : k + 3 ≤ 1536) : wpX_missing (fun r u' => wpY_missing (fun r' v' => r' = r ∧ i_Rel (k + 3) u' v') v) u := by
  obtain ⟨P, kn, g, ls, lv, S, V, R, Q, t, rfl, rfl, hb, hr⟩ := I
  unfold wpX_missing wpY_missing
  refine fd_learn hb hr (fun kn g ls lv R Q hr h => fd_workP hb.2.1 hb.2.2.1 (fun t hT => fd_size hT ?_))
  have hg := fd_RW_lt h
  rw [fd_kn_ct h]
  exact ⟨9 - g, by
    have e : 9 - g = (8 - g) + 1 := by omega
    rw [e]
    exact fd_missing_l hg ⟨(pk_sub (a := 8) hg).symm, fd_mkR hb hr⟩ (8 - g) 0 (by omega)⟩
theorem i_vc_idle {k : Nat} {u : SX} {v : SY} (I : i_Rel k u v) (hk : k + 3 ≤ 1536) (v1 : Int32) : wpX_idle (fun r u' => wpY_idle (fun r' v' => r' = r ∧ i_Rel (k + 3) u' v') v v1) u v1 := by
  obtain ⟨P, kn, g, ls, lv, S, V, R, Q, t, rfl, rfl, hb, hr⟩ := I
  unfold wpX_idle wpY_idle
  rcases fd_ix10 v1 with h | h | ⟨j, hj, rfl⟩
  · exact fd_has_out (Or.inl h) (br_t rfl (br_t h ⟨rfl, fd_mkR hb hr⟩))
  · exact fd_has_out (Or.inr h.2.1) (br_t rfl (br_f h.1 (br_t h.2.2 ⟨rfl, fd_mkR hb hr⟩)))
  · have hin : vp_in (nI j) 10 := vp_in_nI hj (by decide)
    have h9 : ¬ (9 : Int32) < nI j := nI_nlt (a := 9) (by omega) (by decide)
    refine fd_has hb.1 hj (fun b => br_t rfl ?_) (fun b => br_f (by decide) (fd_enough hb hr.1 hr.2.1 _ (fun g ls lv R Q hR hQ => ?_)))
    · refine br_f (nI_pos (by omega)) (br_f h9 ⟨hin, fd_brT (by omega) (fun _ => ⟨rfl, fd_mkR hb hr⟩) (fun w => ?_)⟩)
      rw [b] at w
      cases w
    · have em := fd_masks hb.1 hj
      have nb : narrow .boolean (.int (fd_en S V P (fd_tN (1023 &&& (((1 : Int32) <<< (nI j &&& 31)) ^^^ (-1))) &&& P))) = .int (fd_en S V P (fd_tN (1023 &&& (((1 : Int32) <<< (nI j &&& 31)) ^^^ (-1))) &&& P)) := by
        rcases fd_en_01 S V P (fd_tN (1023 &&& (((1 : Int32) <<< (nI j &&& 31)) ^^^ (-1))) &&& P) with z | z
        · rw [z]
          rfl
        · rw [z]
          rfl
      refine br_c (fun z => ?_) (fun z => ?_)
      · refine br_f (nI_pos (by omega)) (br_f h9 ⟨hin, fd_brT (by omega) (fun w => ?_) (fun _ => fd_yenough hb.2.1 hb.2.2.1 _ (fun t => ⟨nb, ?_, fd_mkR hb (fd_rws0 hR hQ)⟩))⟩)
        · rw [b] at w
          cases w
        · rw [← em]
          exact z
      · refine br_f (nI_pos (by omega)) (br_f h9 ⟨hin, fd_brT (by omega) (fun w => ?_) (fun _ => fd_yenough hb.2.1 hb.2.2.1 _ (fun t => ⟨nb, ?_, fd_mkR hb (fd_rws0 hR hQ)⟩))⟩)
        · rw [b] at w
          cases w
        · rw [← em]
          rcases fd_en_01 S V P (fd_tN (nI P &&& (((1 : Int32) <<< (nI j &&& 31)) ^^^ (-1))) &&& P) with y | y
          · exact absurd y z
          · exact y
theorem i_vc_knownSums {k : Nat} {u : SX} {v : SY} (I : i_Rel k u v) (hk : k + 3 ≤ 1536) : wpX_knownSums (fun r u' => wpY_knownSums (fun r' v' => r' = r ∧ i_Rel (k + 3) u' v') v) u := by
  obtain ⟨P, kn, g, ls, lv, S, V, R, Q, t, rfl, rfl, hb, hr⟩ := I
  unfold wpX_knownSums wpY_knownSums
  refine fd_learn hb hr (fun kn g ls lv R Q hr h => fd_workP hb.2.1 hb.2.2.1 (fun t hT => fd_size hT ⟨?_, fd_mkR hb hr⟩))
  have hg := fd_RW_lt h
  rw [fd_kn_ct h, fd_shl g (by omega)]
theorem i_vc_knownWith {k : Nat} {u : SX} {v : SY} (I : i_Rel k u v) (hk : k + 3 ≤ 1536) (v1 : Int32) : wpX_knownWith (fun r u' => wpY_knownWith (fun r' v' => r' = r ∧ i_Rel (k + 3) u' v') v v1) u v1 := by
  obtain ⟨P, kn, g, ls, lv, S, V, R, Q, t, rfl, rfl, hb, hr⟩ := I
  unfold wpX_knownWith wpY_knownWith
  rcases fd_set_cases v1 with h | h | ⟨s, s1, hs, rfl⟩
  · exact fd_isSet0 (Or.inl h) (br_t rfl (fd_pieces0 (Or.inl h) (br_t rfl ⟨rfl, fd_mkR hb hr⟩)))
  · exact fd_isSet0 (Or.inr h) (br_t rfl (fd_pieces0 (Or.inr h) (br_t rfl ⟨rfl, fd_mkR hb hr⟩)))
  · refine fd_isSet1 s1 hs (br_f (by decide) (fd_countWith hb hr.1 hr.2.1 hs (fun g ls lv R Q hR hQ => ?_)))
    exact fd_pieces1 s1 hs (br_f (by decide) (fd_workP hb.2.1 hb.2.2.1 (fun t hT => fd_with hT hs ⟨rfl, fd_mkR hb (fd_rws0 hR hQ)⟩)))
theorem i_vc_bestSet {k : Nat} {u : SX} {v : SY} (I : i_Rel k u v) (hk : k + 3 ≤ 1536) : wpX_bestSet (fun r u' => wpY_bestSet (fun r' v' => r' = r ∧ i_Rel (k + 3) u' v') v) u := by
  obtain ⟨P, kn, g, ls, lv, S, V, R, Q, t, rfl, rfl, hb, hr⟩ := I
  refine fd_xbest hb hr.1 hr.2.1 (fun g ls lv R Q hR hQ => ?_)
  unfold wpY_bestSet
  exact fd_workP hb.2.1 hb.2.2.1 (fun t hT => ⟨255, fd_ybest_l hT ⟨rfl, fd_mkR hb (fd_rws0 hR hQ)⟩ 254 0 rfl⟩)
theorem i_vc_possible {k : Nat} {u : SX} {v : SY} (I : i_Rel k u v) (hk : k + 3 ≤ 1536) (v1 : Int32) (v2 : Int32) : wpX_possible (fun r u' => wpY_possible (fun r' v' => r' = r ∧ i_Rel (k + 3) u' v') v v1 v2) u v1 v2 := by
  obtain ⟨P, kn, g, ls, lv, S, V, R, Q, t, rfl, rfl, hb, hr⟩ := I
  unfold wpX_possible wpY_possible
  rcases fd_ix8 v1 with h | h | ⟨i, hi, rfl⟩
  · exact br_t h (br_t h ⟨rfl, fd_mkR hb hr⟩)
  · exact br_f h.1 (br_t h.2.2.1 (br_f h.1 (br_t h.2.2.2 ⟨rfl, fd_mkR hb hr⟩)))
  · have a0 : ¬ nI i < 0 := nI_pos (by omega)
    have a8 : ¬ (8 : Int32) ≤ nI i := nI_ge (b := 8) hi (by decide)
    have a7 : ¬ (7 : Int32) < nI i := nI_nlt (a := 7) (by omega) (by decide)
    rcases fd_val_cases v2 with h | h | ⟨v, hv, rfl⟩
    · exact br_f a0 (br_f a8 (br_t h (br_f a0 (br_f a7 (fd_number0 (Or.inl h) (br_t rfl ⟨rfl, fd_mkR hb hr⟩))))))
    · exact br_f a0 (br_f a8 (br_f h.1 (br_f h.2.2 (br_f a0 (br_f a7 (fd_number0 (Or.inr h) (br_t rfl ⟨rfl, fd_mkR hb hr⟩)))))))
    · refine br_f a0 (br_f a8 (br_f (nI_pos (by omega)) (br_t (fd_le255 hv) (fd_xpiece hb hr hi (fun kn g ls lv R Q hr h => ?_)))))
      refine br_c (fun z => ?_) (fun z => br_c (fun w => ?_) (fun w => ?_))
      · refine br_f a0 (br_f a7 (fd_number1 hv (br_f (by decide) (fd_ypiece hb.2.1 hb.2.2.1 hi (fun t hT => ?_)))))
        have e := fd_Tab_val hT h (fd_p8 hi)
        exact br_t (by rw [e]; exact z) ⟨rfl, fd_mkR hb hr⟩
      · refine br_f a0 (br_f a7 (fd_number1 hv (br_f (by decide) (fd_ypiece hb.2.1 hb.2.2.1 hi (fun t hT => ?_)))))
        have e := fd_Tab_val hT h (fd_p8 hi)
        exact br_f (by rw [e]; exact z) (br_t (by rw [e]; exact w) ⟨rfl, fd_mkR hb hr⟩)
      · refine br_f a0 (br_f a7 (fd_number1 hv (br_f (by decide) (fd_ypiece hb.2.1 hb.2.2.1 hi (fun t hT => ?_)))))
        have e := fd_Tab_val hT h (fd_p8 hi)
        exact br_f (by rw [e]; exact z) (br_f (by rw [e]; exact w) ⟨rfl, fd_mkR hb hr⟩)
theorem i_vc_enough {k : Nat} {u : SX} {v : SY} (I : i_Rel k u v) (hk : k + 3 ≤ 1536) (v1 : Int32) : wpX_enough (fun r u' => wpY_enough (fun r' v' => r' = r ∧ i_Rel (k + 3) u' v') v v1) u v1 := by
  obtain ⟨P, kn, g, ls, lv, S, V, R, Q, t, rfl, rfl, hb, hr⟩ := I
  exact fd_enough hb hr.1 hr.2.1 v1 (fun g ls lv R Q hR hQ => fd_yenough hb.2.1 hb.2.2.1 v1 (fun t => ⟨rfl, fd_mkR hb (fd_rws0 hR hQ)⟩))
end
