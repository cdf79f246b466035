section
theorem pk_us {f : Nat → Int32} {k : Nat} {x : Int32} : upd f k x k = x := if_pos rfl
theorem pk_un {f : Nat → Int32} {k j : Nat} {x : Int32} (h : j ≠ k) : upd f k x j = f j := if_neg h
theorem pk_sub {a b : Nat} (h : b ≤ a) : nI a - nI b = nI (a - b) := by
  obtain ⟨c, rfl⟩ : ∃ c, a = c + b := ⟨a - b, by omega⟩
  rw [← nI_add, Int32.add_sub_cancel, Nat.add_sub_cancel]
theorem pk_m1 (n : Nat) : nI (n + 1) + (-1) = nI n := by
  rw [← nI_1, Int32.add_assoc, show (1 : Int32) + (-1) = 0 from rfl, Int32.add_zero]
theorem pk_mul (a b : Nat) : nI a * nI b = nI (a * b) := (Int32.ofNat_mul a b).symm
theorem pk_div {a d : Nat} (ha : a < 2 ^ 31) (h0 : 0 < d) (hd : d < 2 ^ 31) : nI a / nI d = nI (a / d) := by
  apply Int32.toInt_inj.mp
  rw [lg_idiv_nonneg (by rw [nI_toInt ha]; omega) (by rw [nI_toInt hd]; omega), nI_toInt ha, nI_toInt hd, nI_toInt (Nat.lt_of_le_of_lt (Nat.div_le_self a d) ha)]
  first | rfl | exact (Int.natCast_ediv _ _).symm
theorem pk_rem {a d : Nat} (ha : a < 2 ^ 31) (h0 : 0 < d) (hd : d < 2 ^ 31) : nI a - nI a / nI d * nI d = nI (a % d) := by
  rw [pk_div ha h0 hd, pk_mul, pk_sub (Nat.div_mul_le_self a d)]
  exact congrArg nI (by have := Nat.div_add_mod' a d; omega)
theorem pk_sub_toInt {a b : Nat} (ha : a < 2 ^ 30) (hb : b < 2 ^ 30) : (nI a - nI b).toInt = (a : Int) - b := by
  rw [Int32.toInt_sub, nI_toInt (by omega), nI_toInt (by omega)]
  exact Int.bmod_eq_of_le (by omega) (by omega)
theorem pk_sneg {a b : Nat} (hb : b < 2 ^ 30) (h : a < b) : nI a - nI b < 0 := by
  rw [Int32.lt_iff_toInt_lt, pk_sub_toInt (by omega) hb, show (0 : Int32).toInt = 0 from by decide]
  omega
theorem pk_ix (x : Int32) {n : Nat} (hn : n < 2 ^ 31) : x < 0 ∨ nI n ≤ x ∨ ∃ j : Nat, j < n ∧ x = nI j := by
  by_cases h : x < 0
  · exact Or.inl h
  · obtain ⟨j, hj, rfl⟩ := nI_of h
    by_cases h2 : j < n
    · exact Or.inr (Or.inr ⟨j, h2, rfl⟩)
    · exact Or.inr (Or.inl (nI_le (by omega) hj))
theorem pk_le {x y : Int32} {A B : Prop} (a b : Nat) (f : a ≤ b → A) (g : b < a → B) (hx : x = nI a := by rfl) (hy : y = nI b := by rfl) (ha : a < 2 ^ 31 := by omega) (hb : b < 2 ^ 31 := by omega) : (x ≤ y → A) ∧ (¬ x ≤ y → B) := by
  subst hx hy
  rw [nI_leI ha hb]
  exact ⟨f, fun z => g (by omega)⟩
theorem pk_lt {x y : Int32} {A B : Prop} (a b : Nat) (f : a < b → A) (g : b ≤ a → B) (hx : x = nI a := by rfl) (hy : y = nI b := by rfl) (ha : a < 2 ^ 31 := by omega) (hb : b < 2 ^ 31 := by omega) : (x < y → A) ∧ (¬ x < y → B) := by
  subst hx hy
  rw [nI_ltI ha hb]
  exact ⟨f, fun z => g (by omega)⟩
theorem pk_eq {x y : Int32} {A B : Prop} (a b : Nat) (f : a = b → A) (g : a ≠ b → B) (hx : x = nI a := by rfl) (hy : y = nI b := by rfl) (ha : a < 2 ^ 31 := by omega) (hb : b < 2 ^ 31 := by omega) : (x = y → A) ∧ (¬ x = y → B) := by
  subst hx hy
  rw [nI_eq ha hb]
  exact ⟨f, g⟩
theorem pk_in {x : Int32} (n N : Nat) (h : n < N) (hx : x = nI n := by rfl) (hN : N < 2 ^ 31 := by omega) : vp_in x N := by
  subst hx
  exact vp_in_nI h hN
theorem pk_cl {x : Int32} (n : Nat) (hx : x = nI n := by rfl) (h : n < 2 ^ 31 := by omega) : x.toNatClampNeg = n := by
  subst hx
  exact nI_clamp h
theorem pk_tn {n : Nat} (h : n < 2 ^ 32) : (nI n).toBitVec.toNat = n := Nat.mod_eq_of_lt h
theorem pk_and (x : Int32) {m : Int32} (k : Nat) (hm : m.toBitVec.toNat = 2 ^ k - 1) : x &&& m = nI (x.toBitVec.toNat % 2 ^ k) := by
  apply Int32.toBitVec_inj.mp
  apply BitVec.eq_of_toNat_eq
  rw [Int32.toBitVec_and, BitVec.toNat_and, hm, Nat.and_two_pow_sub_one_eq_mod]
  show _ = (BitVec.ofNat 32 _).toNat
  rw [BitVec.toNat_ofNat]
  exact (Nat.mod_eq_of_lt (Nat.lt_of_le_of_lt (Nat.mod_le _ _) x.toBitVec.isLt)).symm
theorem pk_andN {n : Nat} (h : n < 2 ^ 32) {m : Int32} (k : Nat) (hm : m.toBitVec.toNat = 2 ^ k - 1) : nI n &&& m = nI (n % 2 ^ k) := by
  rw [pk_and _ k hm, pk_tn h]
theorem pk_shr (a s : Int32) (k : Nat) (hs : (s.toBitVec.smod 32).toNat = k) : (a >>> s).toInt = a.toInt >>> k := by
  show (a.toBitVec.sshiftRight (s.toBitVec.smod 32).toNat).toInt = _
  rw [hs, BitVec.toInt_sshiftRight]
  rfl
theorem pk_shrN {n : Nat} (h : n < 2 ^ 31) (s : Int32) (k : Nat) (hs : (s.toBitVec.smod 32).toNat = k) : nI n >>> s = nI (n / 2 ^ k) := by
  apply Int32.toInt_inj.mp
  have h2 : n / 2 ^ k ≤ n := Nat.div_le_self _ _
  rw [pk_shr _ _ k hs, nI_toInt h, nI_toInt (by omega), Int.shiftRight_eq_div_pow]
  rfl
theorem pk_least (P : Nat → Prop) (h : ∃ k, P k) : ∃ k, P k ∧ ∀ j, j < k → ¬ P j := by
  obtain ⟨k, hk⟩ := h
  induction k using Nat.strongRecOn with
  | ind k ih =>
    by_cases e : ∃ j, j < k ∧ P j
    · obtain ⟨j, hj, pj⟩ := e
      exact ih j hj pj
    · exact ⟨k, hk, fun j hj pj => e ⟨j, hj, pj⟩⟩
/-! own rows: numbers -/
theorem ga_s1 {n : Nat} (h : 0 < n) : nI n - 1 = nI (n - 1) := pk_sub h
theorem ga_s2 {n : Nat} (h : 2 ≤ n) : nI n - 2 = nI (n - 2) := pk_sub h
theorem ga_s5 {n : Nat} (h : 5 ≤ n) : nI n - 5 = nI (n - 5) := pk_sub h
theorem ga_m1 {n : Nat} (h : 0 < n) : nI n + (-1) = nI (n - 1) := by
  obtain ⟨m, rfl⟩ : ∃ m, n = m + 1 := ⟨n - 1, by omega⟩
  exact pk_m1 m
theorem ga_p0 (x : Int32) : x + 0 = x := Int32.add_zero x
theorem ga_p5 (a : Nat) : nI a + 5 = nI (a + 5) := nI_add a 5
theorem ga_10 (a : Nat) : 10 * nI a = nI (10 * a) := pk_mul 10 a
theorem ga_8 (a : Nat) : 8 * nI a = nI (8 * a) := pk_mul 8 a
theorem ga_60 (a : Nat) : 60 * nI a = nI (60 * a) := pk_mul 60 a
theorem ga_64 (a : Nat) : 64 * nI a = nI (64 * a) := pk_mul 64 a
theorem ga_2 (a : Nat) : 2 * nI a = nI (2 * a) := pk_mul 2 a
theorem ga_le0 {a : Nat} (h : a < 2 ^ 31) : nI a ≤ 0 ↔ a = 0 := by
  rw [← nI_0, nI_leI h (by omega)]; omega
theorem ga_eq0 {a : Nat} (h : a < 2 ^ 31) : nI a = 0 ↔ a = 0 := by
  rw [← nI_0, nI_eq h (by omega)]
theorem ga_lt0 {a : Nat} (h : a < 2 ^ 31) : ¬ nI a < 0 := nI_pos h
theorem ga_m1lt : (-1 : Int32) < 0 := by decide
theorem ga_m1le : ¬ (0 : Int32) ≤ -1 := by decide
theorem ga_ltm (a : Nat) (h : a < 2 ^ 31) : ¬ nI a < (-1 : Int32) := by
  intro z
  exact nI_pos h (Int32.lt_trans z ga_m1lt)
theorem ga_mlt (a : Nat) (h : a < 2 ^ 31) : (-1 : Int32) < nI a := by
  rw [Int32.lt_iff_toInt_lt, nI_toInt h]
  have : ((-1 : Int32)).toInt = -1 := by decide
  omega
theorem ga_mle (a : Nat) (h : a < 2 ^ 31) : ¬ nI a ≤ (-1 : Int32) := by
  intro z
  exact Int32.lt_irrefl (Int32.lt_of_lt_of_le (ga_mlt a h) z)
theorem ga_ne (a : Nat) (h : a < 2 ^ 31) : ¬ nI a = (-1 : Int32) := by
  intro z
  exact nI_pos h (by rw [z]; exact ga_m1lt)
/-- a stored row of naturals -/
def rp_A (a : Nat → Int32) (f : Nat → Nat) (n : Nat) : Prop := ∀ i, i < n → a i = nI (f i)
def rp_u (f : Nat → Nat) (k x : Nat) : Nat → Nat := fun j => if j = k then x else f j
theorem rp_us {f : Nat → Nat} {k x : Nat} : rp_u f k x k = x := if_pos rfl
theorem rp_un {f : Nat → Nat} {k x j : Nat} (h : j ≠ k) : rp_u f k x j = f j := if_neg h
theorem rp_up {a : Nat → Int32} {f : Nat → Nat} {n k x : Nat} (h : rp_A a f n) : rp_A (upd a k (nI x)) (rp_u f k x) n := by
  intro i hi
  by_cases e : i = k
  · subst e; rw [pk_us, rp_us]
  · rw [pk_un e, rp_un e]; exact h i hi
theorem rp_cg {a : Nat → Int32} {f g : Nat → Nat} {n : Nat} (h : rp_A a f n) (e : ∀ i, i < n → f i = g i) : rp_A a g n := by
  intro i hi
  rw [h i hi, e i hi]
/-- a read at a natural index -/
theorem rp_at {a : Nat → Int32} {f : Nat → Nat} {n : Nat} (h : rp_A a f n) {i : Nat} (hi : i < n) (hb : i < 2 ^ 31) : a (nI i).toNatClampNeg = nI (f i) := by
  rw [nI_clamp hb]; exact h i hi
theorem ga_r4 {a : Nat} (h : a < 2 ^ 31) : nI a - nI a / 4 * 4 = nI (a % 4) := pk_rem (d := 4) h (by decide) (by decide)
theorem ga_r8 {a : Nat} (h : a < 2 ^ 31) : nI a - nI a / 8 * 8 = nI (a % 8) := pk_rem (d := 8) h (by decide) (by decide)
theorem ga_d8 {a : Nat} (h : a < 2 ^ 31) : nI a / 8 = nI (a / 8) := pk_div (d := 8) h (by decide) (by decide)
theorem ga_r64 {a : Nat} (h : a < 2 ^ 31) : nI a - nI a / 64 * 64 = nI (a % 64) := pk_rem (d := 64) h (by decide) (by decide)
theorem ga_d64 {a : Nat} (h : a < 2 ^ 31) : nI a / 64 = nI (a / 64) := pk_div (d := 64) h (by decide) (by decide)
end
section
/-! counting: cn_c p n is how many i below n have p; cn_s f n is the sum of f below n -/
noncomputable def cn_b (p : Prop) : Nat := @ite Nat p (Classical.propDecidable p) 1 0
theorem cn_b1 {p : Prop} (h : p) : cn_b p = 1 := @if_pos p (Classical.propDecidable p) h Nat 1 0
theorem cn_b0 {p : Prop} (h : ¬ p) : cn_b p = 0 := @if_neg p (Classical.propDecidable p) h Nat 1 0
theorem cn_bc {p q : Prop} (h : p ↔ q) : cn_b p = cn_b q := by
  by_cases hp : p
  · rw [cn_b1 hp, cn_b1 (h.mp hp)]
  · rw [cn_b0 hp, cn_b0 (fun z => hp (h.mpr z))]
theorem cn_b_le (p : Prop) : cn_b p ≤ 1 := by
  by_cases hp : p
  · rw [cn_b1 hp]; omega
  · rw [cn_b0 hp]; omega
noncomputable def cn_c (p : Nat → Prop) : Nat → Nat
  | 0 => 0
  | n + 1 => cn_c p n + cn_b (p n)
theorem cn_0 (p : Nat → Prop) : cn_c p 0 = 0 := rfl
theorem cn_S (p : Nat → Prop) (n : Nat) : cn_c p (n + 1) = cn_c p n + cn_b (p n) := rfl
theorem cn_t {p : Nat → Prop} {n : Nat} (h : p n) : cn_c p (n + 1) = cn_c p n + 1 := by rw [cn_S, cn_b1 h]
theorem cn_f {p : Nat → Prop} {n : Nat} (h : ¬ p n) : cn_c p (n + 1) = cn_c p n := by rw [cn_S, cn_b0 h]; rfl
theorem cn_le (p : Nat → Prop) (n : Nat) : cn_c p n ≤ n := by
  induction n with
  | zero => exact Nat.le_refl 0
  | succ n ih => rw [cn_S]; have := cn_b_le (p n); omega
theorem cn_cg {p q : Nat → Prop} {n : Nat} (h : ∀ i, i < n → (p i ↔ q i)) : cn_c p n = cn_c q n := by
  induction n with
  | zero => rfl
  | succ n ih => rw [cn_S, cn_S, ih (fun i hi => h i (by omega)), cn_bc (h n (by omega))]
theorem cn_mo {p q : Nat → Prop} {n : Nat} (h : ∀ i, i < n → p i → q i) : cn_c p n ≤ cn_c q n := by
  induction n with
  | zero => exact Nat.le_refl 0
  | succ n ih =>
    have h1 := ih (fun i hi => h i (by omega))
    by_cases hp : p n
    · rw [cn_t hp, cn_t (h n (by omega) hp)]; omega
    · rw [cn_f hp, cn_S]; omega
theorem cn_mn {p : Nat → Prop} {m n : Nat} (h : m ≤ n) : cn_c p m ≤ cn_c p n := by
  induction n with
  | zero => have e : m = 0 := by omega
            rw [e]; exact Nat.le_refl _
  | succ n ih =>
    by_cases e : m = n + 1
    · rw [e]; exact Nat.le_refl _
    · have := ih (by omega)
      rw [cn_S]; omega
theorem cn_z {p : Nat → Prop} {n : Nat} (h : ∀ i, i < n → ¬ p i) : cn_c p n = 0 := by
  induction n with
  | zero => rfl
  | succ n ih => rw [cn_f (h n (by omega)), ih (fun i hi => h i (by omega))]
theorem cn_all {p : Nat → Prop} {n : Nat} (h : ∀ i, i < n → p i) : cn_c p n = n := by
  induction n with
  | zero => rfl
  | succ n ih => rw [cn_t (h n (by omega)), ih (fun i hi => h i (by omega))]
theorem cn_ex {p : Nat → Prop} {n : Nat} : 0 < cn_c p n ↔ ∃ i, i < n ∧ p i := by
  constructor
  · intro h
    by_cases e : ∃ i, i < n ∧ p i
    · exact e
    · rw [cn_z (fun i hi hp => e ⟨i, hi, hp⟩)] at h
      exact absurd h (by omega)
  · rintro ⟨i, hi, hp⟩
    have h1 : cn_c p (i + 1) ≤ cn_c p n := cn_mn hi
    rw [cn_t hp] at h1
    omega
theorem cn_add (p : Nat → Prop) (m n : Nat) : cn_c p (m + n) = cn_c p m + cn_c (fun i => p (m + i)) n := by
  induction n with
  | zero => rfl
  | succ n ih =>
    show cn_c p (m + n + 1) = _
    rw [cn_S, ih, cn_S]; omega
theorem cn_split (p q : Nat → Prop) (n : Nat) : cn_c p n = cn_c (fun i => p i ∧ q i) n + cn_c (fun i => p i ∧ ¬ q i) n := by
  induction n with
  | zero => rfl
  | succ n ih =>
    rw [cn_S, cn_S, cn_S, ih]
    have : cn_b (p n) = cn_b (p n ∧ q n) + cn_b (p n ∧ ¬ q n) := by
      by_cases hp : p n
      · by_cases hq : q n
        · rw [cn_b1 hp, cn_b1 ⟨hp, hq⟩, cn_b0 (fun z => z.2 hq)]
        · rw [cn_b1 hp, cn_b0 (fun z => hq z.2), cn_b1 ⟨hp, hq⟩]
      · rw [cn_b0 hp, cn_b0 (fun z => hp z.1), cn_b0 (fun z => hp z.1)]
    omega
theorem cn_or {p q : Nat → Prop} {n : Nat} (h : ∀ i, i < n → p i → ¬ q i) : cn_c (fun i => p i ∨ q i) n = cn_c p n + cn_c q n := by
  rw [cn_split (fun i => p i ∨ q i) p n]
  congr 1
  · exact cn_cg (fun i _ => ⟨fun z => z.2, fun z => ⟨Or.inl z, z⟩⟩)
  · exact cn_cg (fun i hi => ⟨fun z => z.1.resolve_left z.2, fun z => ⟨Or.inr z, fun y => h i hi y z⟩⟩)
theorem cn_one {n j : Nat} (h : j < n) : cn_c (fun i => i = j) n = 1 := by
  induction n with
  | zero => omega
  | succ n ih =>
    by_cases e : n = j
    · rw [cn_t (p := fun i => i = j) e, cn_z (fun i hi z => by omega)]
    · rw [cn_f (p := fun i => i = j) e, ih (by omega)]
theorem cn_rem {p : Nat → Prop} {n j : Nat} (hj : j < n) (hp : p j) : cn_c p n = cn_c (fun i => p i ∧ i ≠ j) n + 1 := by
  rw [cn_split p (fun i => i ≠ j) n]
  congr 1
  rw [← cn_one hj]
  exact cn_cg (fun i _ => ⟨fun z => Classical.not_not.mp z.2, fun z => ⟨z ▸ hp, fun y => y z⟩⟩)
/-- an injection, as a relation, gives an order of counts -/
theorem cn_inj {R : Nat → Nat → Prop} {p : Nat → Prop} {m : Nat} : ∀ (n : Nat) (q : Nat → Prop),
    (∀ i, i < n → p i → ∃ j, j < m ∧ q j ∧ R i j) →
    (∀ i i' j, i < n → i' < n → p i → p i' → R i j → R i' j → i = i') → cn_c p n ≤ cn_c q m := by
  intro n
  induction n with
  | zero => intro q _ _; exact Nat.zero_le _
  | succ n ih =>
    intro q h1 h2
    by_cases hp : p n
    · obtain ⟨j, hj, qj, rj⟩ := h1 n (by omega) hp
      rw [cn_t hp, cn_rem hj qj]
      apply Nat.succ_le_succ
      apply ih
      · intro i hi pi
        obtain ⟨j', hj', qj', rj'⟩ := h1 i (by omega) pi
        refine ⟨j', hj', ⟨qj', ?_⟩, rj'⟩
        intro e
        subst e
        have := h2 i n j' (by omega) (by omega) pi hp rj' rj
        omega
      · intro i i' j hi hi'
        exact h2 i i' j (by omega) (by omega)
    · rw [cn_f hp]
      exact ih q (fun i hi => h1 i (by omega)) (fun i i' j hi hi' => h2 i i' j (by omega) (by omega))
theorem cn_bij {R : Nat → Nat → Prop} {p q : Nat → Prop} {n m : Nat}
    (h1 : ∀ i, i < n → p i → ∃ j, j < m ∧ q j ∧ R i j) (h2 : ∀ j, j < m → q j → ∃ i, i < n ∧ p i ∧ R i j)
    (h3 : ∀ i i' j, i < n → i' < n → p i → p i' → R i j → R i' j → i = i')
    (h4 : ∀ i j j', j < m → j' < m → q j → q j' → R i j → R i j' → j = j') : cn_c p n = cn_c q m := by
  apply Nat.le_antisymm
  · exact cn_inj n q h1 h3
  · exact cn_inj (R := fun j i => R i j) m p (fun j hj qj => h2 j hj qj) (fun j j' i hj hj' qj qj' r r' => h4 i j j' hj hj' qj qj' r r')
/-- a downward closed set is an initial piece -/
theorem cn_pre {p : Nat → Prop} {n : Nat} (h : ∀ i j, i < j → j < n → p j → p i) : ∀ i, i < n → (p i ↔ i < cn_c p n) := by
  induction n with
  | zero => intro i hi; omega
  | succ n ih =>
    have ih' := ih (fun i j a b => h i j a (by omega))
    intro i hi
    by_cases hp : p n
    · have ha : cn_c p (n + 1) = n + 1 := by
        apply cn_all
        intro k hk
        by_cases e : k = n
        · rw [e]; exact hp
        · exact h k n (by omega) (by omega) hp
      rw [ha]
      constructor
      · intro _; omega
      · intro _
        by_cases e : i = n
        · rw [e]; exact hp
        · exact h i n (by omega) (by omega) hp
    · rw [cn_f hp]
      by_cases e : i = n
      · subst e
        have := cn_le p i
        constructor
        · intro z; exact absurd z hp
        · intro z; omega
      · exact ih' i (by omega)
/-- the count below a bound inside -/
theorem cn_lt (n x : Nat) (h : x ≤ n) : cn_c (fun i => i < x) n = x := by
  induction n with
  | zero => have e : x = 0 := by omega
            rw [e]; rfl
  | succ n ih =>
    by_cases e : x = n + 1
    · rw [e]; exact cn_all (fun i hi => hi)
    · rw [cn_f (by omega), ih (by omega)]
theorem cn_cut (p : Nat → Prop) (n x : Nat) (h : x ≤ n) : cn_c (fun i => i < x ∧ p i) n = cn_c p x := by
  obtain ⟨m, rfl⟩ : ∃ m, n = x + m := ⟨n - x, by omega⟩
  rw [cn_add, cn_cg (q := p) (fun i hi => ⟨fun z => z.2, fun z => ⟨hi, z⟩⟩), cn_z (n := m) (fun i _ z => by omega)]
  rfl
theorem cn_btw (n x y : Nat) (hx : x ≤ y) (hy : y ≤ n) : cn_c (fun i => x ≤ i ∧ i < y) n = y - x := by
  have e := cn_split (fun i => i < y) (fun i => i < x) n
  rw [cn_lt n y hy, cn_cg (p := fun i => i < y ∧ i < x) (q := fun i => i < x) (fun i _ => ⟨fun z => z.2, fun z => ⟨by omega, z⟩⟩), cn_lt n x (by omega)] at e
  rw [cn_cg (q := fun i => i < y ∧ ¬ i < x) (fun i _ => ⟨fun z => ⟨z.2, by omega⟩, fun z => ⟨by omega, z.1⟩⟩)]
  omega
/-! sums -/
def cn_s (f : Nat → Nat) : Nat → Nat
  | 0 => 0
  | n + 1 => cn_s f n + f n
theorem cn_sS (f : Nat → Nat) (n : Nat) : cn_s f (n + 1) = cn_s f n + f n := rfl
theorem cn_scg {f g : Nat → Nat} {n : Nat} (h : ∀ i, i < n → f i = g i) : cn_s f n = cn_s g n := by
  induction n with
  | zero => rfl
  | succ n ih => rw [cn_sS, cn_sS, ih (fun i hi => h i (by omega)), h n (by omega)]
theorem cn_sadd (f g : Nat → Nat) (n : Nat) : cn_s (fun i => f i + g i) n = cn_s f n + cn_s g n := by
  induction n with
  | zero => rfl
  | succ n ih => rw [cn_sS, cn_sS, cn_sS, ih]; omega
theorem cn_sz (n : Nat) : cn_s (fun _ => 0) n = 0 := by
  induction n with
  | zero => rfl
  | succ n ih => rw [cn_sS, ih]
theorem cn_sb (p : Nat → Prop) (n : Nat) : cn_s (fun i => cn_b (p i)) n = cn_c p n := by
  induction n with
  | zero => rfl
  | succ n ih => rw [cn_sS, cn_S, ih]
theorem cn_sapp (f : Nat → Nat) (m n : Nat) : cn_s f (m + n) = cn_s f m + cn_s (fun i => f (m + i)) n := by
  induction n with
  | zero => rfl
  | succ n ih =>
    show cn_s f (m + n + 1) = _
    rw [cn_sS, ih, cn_sS]; omega
theorem cn_swap (p : Nat → Nat → Prop) (n m : Nat) : cn_s (fun i => cn_c (p i) m) n = cn_s (fun j => cn_c (fun i => p i j) n) m := by
  induction n with
  | zero => exact (cn_sz m).symm
  | succ n ih =>
    rw [cn_sS, ih, ← cn_sb, ← cn_sadd]
    rfl
theorem cn_sle {f : Nat → Nat} {c n : Nat} (h : ∀ i, i < n → f i ≤ c) : cn_s f n ≤ c * n := by
  induction n with
  | zero => exact Nat.zero_le _
  | succ n ih =>
    have h1 := ih (fun i hi => h i (by omega))
    have h2 := h n (by omega)
    rw [cn_sS, Nat.mul_succ]; omega
/-! permutations of the numbers below n -/
def pm_P (n : Nat) (o : Nat → Nat) : Prop := (∀ i, i < n → o i < n) ∧ (∀ i j, i < n → j < n → o i = o j → i = j)
theorem pm_sur {n : Nat} {o : Nat → Nat} (h : pm_P n o) {a : Nat} (ha : a < n) : ∃ i, i < n ∧ o i = a := by
  by_cases e : ∃ i, i < n ∧ o i = a
  · exact e
  · exfalso
    have h1 : cn_c (fun _ => True) n ≤ cn_c (fun j => True ∧ j ≠ a) n :=
      cn_inj (R := fun i j => o i = j) n _ (fun i hi _ => ⟨o i, h.1 i hi, ⟨trivial, fun z => e ⟨i, hi, z⟩⟩, rfl⟩)
        (fun i i' j hi hi' _ _ r r' => h.2 i i' hi hi' (r.trans r'.symm))
    have h2 : cn_c (fun _ => True) n = cn_c (fun j => True ∧ j ≠ a) n + 1 := cn_rem (p := fun _ => True) ha trivial
    omega
theorem pm_cn {n : Nat} {o : Nat → Nat} (h : pm_P n o) (p : Nat → Prop) : cn_c (fun i => p (o i)) n = cn_c p n := by
  refine cn_bij (R := fun i j => o i = j) ?_ ?_ ?_ ?_
  · exact fun i hi hp => ⟨o i, h.1 i hi, hp, rfl⟩
  · intro j hj hp
    obtain ⟨i, hi, e⟩ := pm_sur h hj
    exact ⟨i, hi, by show p (o i); rw [e]; exact hp, e⟩
  · exact fun i i' j hi hi' _ _ r r' => h.2 i i' hi hi' (r.trans r'.symm)
  · exact fun i j j' _ _ _ _ r r' => r.symm.trans r'
end
section
/-! the first h symbols of a rest, as a number in base 11 (0 behind the end) -/
section
variable {T : Nat → Nat} {N : Nat}
def kv_P (T : Nat → Nat) (N i : Nat) : Nat := if i < N then T i + 1 else 0
theorem kv_in {i : Nat} (h : i < N) : kv_P T N i = T i + 1 := if_pos h
theorem kv_out {i : Nat} (h : N ≤ i) : kv_P T N i = 0 := if_neg (by omega)
theorem kv_Pl (hT : ∀ i, i < N → T i < 10) (i : Nat) : kv_P T N i ≤ 10 := by
  by_cases h : i < N
  · rw [kv_in h]; have := hT i h; omega
  · rw [kv_out (by omega)]; omega
theorem kv_Pi {i : Nat} (h : 0 < kv_P T N i) : i < N := by
  by_cases e : i < N
  · exact e
  · rw [kv_out (by omega)] at h; omega
def kv_v (T : Nat → Nat) (N : Nat) : Nat → Nat → Nat
  | 0, _ => 0
  | h + 1, a => kv_P T N a * 11 ^ h + kv_v T N h (a + 1)
theorem kv_v0 (a : Nat) : kv_v T N 0 a = 0 := rfl
theorem kv_vS (h a : Nat) : kv_v T N (h + 1) a = kv_P T N a * 11 ^ h + kv_v T N h (a + 1) := rfl
theorem kv_v1 (a : Nat) : kv_v T N 1 a = kv_P T N a := by
  rw [show (1 : Nat) = 0 + 1 from rfl, kv_vS, kv_v0, Nat.pow_zero, Nat.mul_one, Nat.add_zero]
theorem kv_ar {x y r s M : Nat} (hr : r < M) (hs : s < M) : x * M + r < y * M + s ↔ x < y ∨ (x = y ∧ r < s) := by
  rcases Nat.lt_trichotomy x y with h | h | h
  · have h1 := Nat.mul_le_mul_right M (show x + 1 ≤ y from h)
    rw [Nat.add_mul, Nat.one_mul] at h1
    constructor
    · intro _; exact Or.inl h
    · intro _; omega
  · subst h
    constructor
    · intro z; exact Or.inr ⟨rfl, by omega⟩
    · rintro (z | z)
      · omega
      · omega
  · have h1 := Nat.mul_le_mul_right M (show y + 1 ≤ x from h)
    rw [Nat.add_mul, Nat.one_mul] at h1
    constructor
    · intro z; omega
    · rintro (z | z)
      · omega
      · omega
theorem kv_are {x y r s M : Nat} (hr : r < M) (hs : s < M) : x * M + r = y * M + s ↔ x = y ∧ r = s := by
  constructor
  · intro e
    have a : ¬ (x * M + r < y * M + s) := by omega
    have b : ¬ (y * M + s < x * M + r) := by omega
    rw [kv_ar hr hs] at a
    rw [kv_ar hs hr] at b
    have e1 : x = y := by omega
    exact ⟨e1, by omega⟩
  · rintro ⟨rfl, rfl⟩; rfl
theorem kv_lt (hT : ∀ i, i < N → T i < 10) : ∀ h a : Nat, kv_v T N h a < 11 ^ h := by
  intro h
  induction h with
  | zero => intro a; exact Nat.lt_succ_self 0
  | succ h ih =>
    intro a
    rw [kv_vS, Nat.pow_succ]
    have h1 := ih (a + 1)
    have h2 := Nat.mul_le_mul_right (11 ^ h) (kv_Pl hT a)
    generalize 11 ^ h = M at h1 h2 ⊢
    generalize kv_P T N a * M = z at h2 ⊢
    omega
theorem kv_add (h k : Nat) : ∀ a, kv_v T N (h + k) a = kv_v T N h a * 11 ^ k + kv_v T N k (a + h) := by
  induction h with
  | zero => intro a; rw [kv_v0, Nat.zero_add, Nat.zero_mul, Nat.zero_add, Nat.add_zero]
  | succ h ih =>
    intro a
    rw [show h + 1 + k = (h + k) + 1 from by omega, kv_vS, ih (a + 1), kv_vS, Nat.pow_add, Nat.add_mul, Nat.mul_assoc, show a + 1 + h = a + (h + 1) from by omega, Nat.add_assoc]
theorem kv_lex (hT : ∀ i, i < N → T i < 10) (h k a b : Nat) : kv_v T N (h + k) a < kv_v T N (h + k) b ↔ kv_v T N h a < kv_v T N h b ∨ (kv_v T N h a = kv_v T N h b ∧ kv_v T N k (a + h) < kv_v T N k (b + h)) := by
  rw [kv_add, kv_add]
  exact kv_ar (kv_lt hT _ _) (kv_lt hT _ _)
theorem kv_leq (hT : ∀ i, i < N → T i < 10) (h k a b : Nat) : kv_v T N (h + k) a = kv_v T N (h + k) b ↔ kv_v T N h a = kv_v T N h b ∧ kv_v T N k (a + h) = kv_v T N k (b + h) := by
  rw [kv_add, kv_add]
  exact kv_are (kv_lt hT _ _) (kv_lt hT _ _)
theorem kv_stp (hT : ∀ i, i < N → T i < 10) (h a b : Nat) : kv_v T N (h + 1) a < kv_v T N (h + 1) b ↔ kv_P T N a < kv_P T N b ∨ (kv_P T N a = kv_P T N b ∧ kv_v T N h (a + 1) < kv_v T N h (b + 1)) := by
  rw [kv_vS, kv_vS]
  exact kv_ar (kv_lt hT _ _) (kv_lt hT _ _)
theorem kv_eqI (hT : ∀ i, i < N → T i < 10) : ∀ h a b : Nat, kv_v T N h a = kv_v T N h b ↔ ∀ j, j < h → kv_P T N (a + j) = kv_P T N (b + j) := by
  intro h
  induction h with
  | zero => intro a b; exact ⟨fun _ j hj => by omega, fun _ => rfl⟩
  | succ h ih =>
    intro a b
    rw [kv_vS, kv_vS, kv_are (kv_lt hT _ _) (kv_lt hT _ _), ih]
    constructor
    · rintro ⟨e, f⟩ j hj
      by_cases z : j = 0
      · subst z; exact e
      · have := f (j - 1) (by omega)
        rw [show a + 1 + (j - 1) = a + j from by omega, show b + 1 + (j - 1) = b + j from by omega] at this
        exact this
    · intro f
      refine ⟨f 0 (by omega), fun j hj => ?_⟩
      have := f (j + 1) (by omega)
      rw [show a + (j + 1) = a + 1 + j from by omega, show b + (j + 1) = b + 1 + j from by omega] at this
      exact this
theorem kv_up (hT : ∀ i, i < N → T i < 10) {h H a b : Nat} (hH : h ≤ H) (z : kv_v T N h a < kv_v T N h b) : kv_v T N H a < kv_v T N H b := by
  obtain ⟨k, rfl⟩ : ∃ k, H = h + k := ⟨H - h, by omega⟩
  exact (kv_lex hT h k a b).mpr (Or.inl z)
theorem kv_mo (hT : ∀ i, i < N → T i < 10) {h H a b : Nat} (hH : h ≤ H) (z : kv_v T N H a ≤ kv_v T N H b) : kv_v T N h a ≤ kv_v T N h b := by
  by_cases e : kv_v T N h a ≤ kv_v T N h b
  · exact e
  · have := kv_up hT hH (show kv_v T N h b < kv_v T N h a from by omega)
    omega
theorem kv_z {h a : Nat} (ha : N ≤ a) : kv_v T N h a = 0 := by
  induction h generalizing a with
  | zero => rfl
  | succ h ih => rw [kv_vS, kv_out ha, ih (by omega), Nat.zero_mul]
theorem kv_pos {h a : Nat} (ha : a < N) (hh : 0 < h) : 0 < kv_v T N h a := by
  obtain ⟨k, rfl⟩ : ∃ k, h = k + 1 := ⟨h - 1, by omega⟩
  rw [kv_vS, kv_in ha, Nat.add_mul]
  have : 0 < 11 ^ k := Nat.pow_pos (by omega)
  omega
theorem kv_inj (hT : ∀ i, i < N → T i < 10) {h a b : Nat} (hN : N ≤ h) (ha : a < N) (hb : b < N) (e : kv_v T N h a = kv_v T N h b) : a = b := by
  rw [kv_eqI hT] at e
  rcases Nat.lt_trichotomy a b with z | z | z
  · have := e (N - b) (by omega)
    rw [kv_in (i := a + (N - b)) (by omega), kv_out (i := b + (N - b)) (by omega)] at this
    omega
  · exact z
  · have := e (N - a) (by omega)
    rw [kv_in (i := b + (N - a)) (by omega), kv_out (i := a + (N - a)) (by omega)] at this
    omega
/-- longer looks change nothing -/
theorem kv_more (hT : ∀ i, i < N → T i < 10) {h H a b : Nat} (hN : N ≤ h) (hH : h ≤ H) (ha : a < N) (hb : b < N) : kv_v T N H a < kv_v T N H b ↔ kv_v T N h a < kv_v T N h b := by
  constructor
  · intro z
    have h1 := kv_mo hT hH (Nat.le_of_lt z)
    by_cases e : kv_v T N h a = kv_v T N h b
    · have := kv_inj hT hN ha hb e
      subst this
      omega
    · omega
  · exact kv_up hT hH
/-! how many symbols two rests have in common -/
def lc_C (T : Nat → Nat) (N x y : Nat) : Prop := x < N ∧ y < N ∧ 5 ≤ T x ∧ T x = T y
def lc_f (T : Nat → Nat) (N : Nat) : Nat → Nat → Nat → Nat
  | 0, _, _ => 0
  | f + 1, a, b => if a < N ∧ b < N ∧ 5 ≤ T a ∧ T a = T b then lc_f T N f (a + 1) (b + 1) + 1 else 0
def lc_l (T : Nat → Nat) (N a b : Nat) : Nat := lc_f T N N a b
theorem lc_fS (f a b : Nat) : lc_f T N (f + 1) a b = if a < N ∧ b < N ∧ 5 ≤ T a ∧ T a = T b then lc_f T N f (a + 1) (b + 1) + 1 else 0 := rfl
theorem lc_ff : ∀ f a b k : Nat, k ≤ f → (k ≤ lc_f T N f a b ↔ ∀ j, j < k → lc_C T N (a + j) (b + j)) := by
  intro f
  induction f with
  | zero =>
    intro a b k hk
    exact ⟨fun _ j hj => by omega, fun _ => by omega⟩
  | succ f ih =>
    intro a b k hk
    by_cases k0 : k = 0
    · subst k0
      exact ⟨fun _ j hj => by omega, fun _ => by omega⟩
    · obtain ⟨m, rfl⟩ : ∃ m, k = m + 1 := ⟨k - 1, by omega⟩
      rw [lc_fS]
      by_cases c : a < N ∧ b < N ∧ 5 ≤ T a ∧ T a = T b
      · rw [if_pos c]
        have h1 := ih (a + 1) (b + 1) m (by omega)
        constructor
        · intro z j hj
          by_cases j0 : j = 0
          · subst j0; exact c
          · have := h1.mp (by omega) (j - 1) (by omega)
            rw [show a + 1 + (j - 1) = a + j from by omega, show b + 1 + (j - 1) = b + j from by omega] at this
            exact this
        · intro z
          have := h1.mpr (fun j hj => by
            have := z (j + 1) (by omega)
            rw [show a + (j + 1) = a + 1 + j from by omega, show b + (j + 1) = b + 1 + j from by omega] at this
            exact this)
          omega
      · rw [if_neg c]
        constructor
        · intro z; omega
        · intro z; exact absurd (z 0 (by omega)) c
theorem lc_fle : ∀ f a b : Nat, lc_f T N f a b ≤ f := by
  intro f
  induction f with
  | zero => intro a b; exact Nat.le_refl 0
  | succ f ih =>
    intro a b
    rw [lc_fS]
    have := ih (a + 1) (b + 1)
    split <;> omega
theorem lc_iff {a b k : Nat} : k ≤ lc_l T N a b ↔ ∀ j, j < k → lc_C T N (a + j) (b + j) := by
  by_cases h : k ≤ N
  · exact lc_ff N a b k h
  · constructor
    · intro z
      have := lc_fle (T := T) (N := N) N a b
      unfold lc_l at z
      omega
    · intro z
      have := (z N (by omega)).1
      omega
theorem lc_leN (a b : Nat) : lc_l T N a b ≤ N := lc_fle N a b
theorem lc_ext {x y : Nat} (h : ∀ k, k ≤ x ↔ k ≤ y) : x = y := by
  have h1 := (h x).mp (Nat.le_refl x)
  have h2 := (h y).mpr (Nat.le_refl y)
  omega
theorem lc_Cs {x y : Nat} (h : lc_C T N x y) : lc_C T N y x := ⟨h.2.1, h.1, by rw [← h.2.2.2]; exact h.2.2.1, h.2.2.2.symm⟩
theorem lc_Ct {x y z : Nat} (h : lc_C T N x y) (g : lc_C T N y z) : lc_C T N x z := ⟨h.1, g.2.1, h.2.2.1, h.2.2.2.trans g.2.2.2⟩
theorem lc_sy (a b : Nat) : lc_l T N a b = lc_l T N b a := by
  apply lc_ext
  intro k
  rw [lc_iff, lc_iff]
  exact ⟨fun h j hj => lc_Cs (h j hj), fun h j hj => lc_Cs (h j hj)⟩
theorem lc_tr {a b c k : Nat} (h : k ≤ lc_l T N a b) (g : k ≤ lc_l T N b c) : k ≤ lc_l T N a c := by
  rw [lc_iff] at h g ⊢
  exact fun j hj => lc_Ct (h j hj) (g j hj)
theorem lc_v (hT : ∀ i, i < N → T i < 10) {a b k : Nat} (h : k ≤ lc_l T N a b) : kv_v T N k a = kv_v T N k b := by
  rw [kv_eqI hT]
  rw [lc_iff] at h
  intro j hj
  have c := h j hj
  rw [kv_in c.1, kv_in c.2.1, c.2.2.2]
theorem lc_ofP {a b c k : Nat} (h : k ≤ lc_l T N a c) (e : ∀ j, j < k → kv_P T N (a + j) = kv_P T N (b + j)) : k ≤ lc_l T N a b := by
  rw [lc_iff] at h ⊢
  intro j hj
  have g := h j hj
  have e1 := e j hj
  rw [kv_in g.1] at e1
  have hb : b + j < N := kv_Pi (T := T) (by omega)
  rw [kv_in hb] at e1
  exact ⟨g.1, hb, g.2.2.1, by omega⟩
/-- between two rests of the order -/
theorem lc_mid (hT : ∀ i, i < N → T i < 10) {H a b c k : Nat} (hN : N ≤ H) (hab : kv_v T N H a ≤ kv_v T N H b) (hbc : kv_v T N H b ≤ kv_v T N H c) (h : k ≤ lc_l T N a c) : k ≤ lc_l T N a b ∧ k ≤ lc_l T N b c := by
  have hk : k ≤ H := by have := lc_leN (T := T) (N := N) a c; omega
  have h1 := kv_mo hT hk hab
  have h2 := kv_mo hT hk hbc
  have h3 := lc_v hT h
  have e1 : kv_v T N k a = kv_v T N k b := by omega
  rw [kv_eqI hT] at e1
  have g1 := lc_ofP h e1
  have g2 : k ≤ lc_l T N b a := by rw [lc_sy]; exact g1
  exact ⟨g1, lc_tr g2 h⟩
end
end
section
/-! the documents one after the other: L d is the length of document d, dt_s L d its start; each has its mark behind it -/
def dt_s (L : Nat → Nat) : Nat → Nat
  | 0 => 0
  | d + 1 => dt_s L d + L d + 1
def dt_ok (T : Nat → Nat) (D : Nat) (L : Nat → Nat) : Prop :=
  (1 ≤ D ∧ D ≤ 5 ∧ dt_s L D ≤ D + 60) ∧ (∀ d, d < D → T (dt_s L d + L d) = d) ∧ (∀ d p, d < D → p < L d → 5 ≤ T (dt_s L d + p) ∧ T (dt_s L d + p) < 10)
section
variable {T L : Nat → Nat} {D : Nat}
theorem dt_0 : dt_s L 0 = 0 := rfl
theorem dt_S (d : Nat) : dt_s L (d + 1) = dt_s L d + L d + 1 := rfl
theorem dt_lt {d e : Nat} (h : d < e) : dt_s L d + L d < dt_s L e := by
  induction e with
  | zero => omega
  | succ e ih =>
    rw [dt_S]
    by_cases z : d = e
    · subst z; omega
    · have := ih (by omega); omega
theorem dt_mn {d e : Nat} (h : d ≤ e) : dt_s L d ≤ dt_s L e := by
  by_cases z : d = e
  · rw [z]; exact Nat.le_refl _
  · have := dt_lt (L := L) (show d < e from by omega); omega
theorem dt_ge (d : Nat) : d ≤ dt_s L d := by
  induction d with
  | zero => exact Nat.zero_le _
  | succ d ih => rw [dt_S]; omega
theorem dt_L {d e : Nat} (h : d < e) : L d + e ≤ dt_s L e := by
  induction e with
  | zero => omega
  | succ e ih =>
    rw [dt_S]
    by_cases z : d = e
    · subst z; have := dt_ge (L := L) d; omega
    · have := ih (by omega); omega
theorem dt_in {d e p : Nat} (h : d < e) (hp : p ≤ L d) : dt_s L d + p < dt_s L e := by
  have := dt_lt (L := L) h; omega
theorem dt_loc {e q : Nat} (h : q < dt_s L e) : ∃ d p, d < e ∧ p ≤ L d ∧ q = dt_s L d + p := by
  induction e with
  | zero => rw [dt_0] at h; omega
  | succ e ih =>
    by_cases z : q < dt_s L e
    · obtain ⟨d, p, hd, hp, e1⟩ := ih z
      exact ⟨d, p, by omega, hp, e1⟩
    · rw [dt_S] at h
      exact ⟨e, q - dt_s L e, by omega, by omega, by omega⟩
theorem dt_un {d e p q : Nat} (hp : p ≤ L d) (hq : q ≤ L e) (h : dt_s L d + p = dt_s L e + q) : d = e ∧ p = q := by
  rcases Nat.lt_trichotomy d e with z | z | z
  · have := dt_lt (L := L) z; omega
  · subst z; exact ⟨rfl, by omega⟩
  · have := dt_lt (L := L) z; omega
theorem dt_L60 (h : dt_ok T D L) {d : Nat} (hd : d < D) : L d ≤ 60 := by
  have := dt_L (L := L) hd
  have := h.1.2.2
  omega
theorem dt_N65 (h : dt_ok T D L) : dt_s L D ≤ 65 := by
  have := h.1; omega
theorem dt_N1 (h : dt_ok T D L) : 1 ≤ dt_s L D := by
  have := h.1; have := dt_ge (L := L) D; omega
theorem dt_T10 (h : dt_ok T D L) : ∀ q, q < dt_s L D → T q < 10 := by
  intro q hq
  obtain ⟨d, p, hd, hp, rfl⟩ := dt_loc hq
  by_cases z : p = L d
  · subst z; rw [h.2.1 d hd]; have := h.1; omega
  · exact (h.2.2 d p hd (by omega)).2
theorem dt_mk (h : dt_ok T D L) {q : Nat} (hq : q < dt_s L D) (hm : T q < 5) : T q < D ∧ q = dt_s L (T q) + L (T q) := by
  obtain ⟨d, p, hd, hp, rfl⟩ := dt_loc hq
  by_cases z : p = L d
  · subst z; rw [h.2.1 d hd]; exact ⟨hd, rfl⟩
  · have := (h.2.2 d p hd (by omega)).1; omega
theorem dt_mu (h : dt_ok T D L) {a b : Nat} (ha : a < dt_s L D) (hb : b < dt_s L D) (hm : T a < 5) (e : T a = T b) : a = b := by
  have h1 := (dt_mk h ha hm).2
  have h2 := (dt_mk h hb (by omega)).2
  rw [h1, h2, e]
theorem dt_sym (h : dt_ok T D L) {d p : Nat} (hd : d < D) (hp : p ≤ L d) : 5 ≤ T (dt_s L d + p) ↔ p < L d := by
  constructor
  · intro z
    by_cases e : p = L d
    · subst e; rw [h.2.1 d hd] at z; have := h.1; omega
    · omega
  · intro z; exact (h.2.2 d p hd z).1
theorem dt_Np (h : dt_ok T D L) : dt_s L D - 1 = dt_s L (D - 1) + L (D - 1) := by
  obtain ⟨e, rfl⟩ : ∃ e, D = e + 1 := ⟨D - 1, by have := h.1; omega⟩
  rw [dt_S, Nat.add_sub_cancel, Nat.add_sub_cancel]
theorem dt_last (h : dt_ok T D L) : T (dt_s L D - 1) = D - 1 := by
  rw [dt_Np h]
  exact h.2.1 (D - 1) (by have := h.1; omega)
theorem dt_ca (F : Nat → Prop) (d : Nat) : cn_c F (dt_s L (d + 1)) = cn_c F (dt_s L d) + cn_c (fun p => F (dt_s L d + p)) (L d) + cn_b (F (dt_s L d + L d)) := by
  rw [dt_S, cn_S, cn_add]
theorem dt_mc (h : dt_ok T D L) : ∀ e, e ≤ D → cn_c (fun q => T q < 5) (dt_s L e) = e := by
  intro e
  induction e with
  | zero => intro _; rfl
  | succ e ih =>
    intro he
    rw [dt_ca, ih (by omega), cn_z (n := L e), cn_b1]
    · rw [h.2.1 e (by omega)]; have := h.1; omega
    · intro p hp z
      have := (h.2.2 e p (by omega) hp).1
      omega
/-! what two rests have in common, by their documents -/
theorem lc_doc (h : dt_ok T D L) {d p : Nat} (hd : d < D) (hp : p ≤ L d) (b : Nat) : lc_l T (dt_s L D) (dt_s L d + p) b ≤ L d - p := by
  by_cases z : lc_l T (dt_s L D) (dt_s L d + p) b ≤ L d - p
  · exact z
  · exfalso
    have h1 : L d - p + 1 ≤ lc_l T (dt_s L D) (dt_s L d + p) b := by omega
    rw [lc_iff] at h1
    have h2 := (h1 (L d - p) (by omega)).2.2.1
    rw [show dt_s L d + p + (L d - p) = dt_s L d + L d from by omega, h.2.1 d hd] at h2
    have := h.1
    omega
theorem lc_inN (h : dt_ok T D L) {a : Nat} (ha : a < dt_s L D) (b : Nat) : a + lc_l T (dt_s L D) a b < dt_s L D := by
  obtain ⟨d, p, hd, hp, rfl⟩ := dt_loc ha
  have h1 := lc_doc h hd hp b
  have h2 := dt_lt (L := L) hd
  omega
theorem lc_dif (h : dt_ok T D L) {a b : Nat} (ha : a < dt_s L D) (hb : b < dt_s L D) (hab : a ≠ b) : T (a + lc_l T (dt_s L D) a b) ≠ T (b + lc_l T (dt_s L D) a b) := by
  have h1 := lc_inN h ha b
  have h2 := lc_inN h hb a
  rw [lc_sy] at h2
  intro e
  by_cases m : T (a + lc_l T (dt_s L D) a b) < 5
  · have := dt_mu h h1 h2 m e
    omega
  · have h3 : lc_l T (dt_s L D) a b + 1 ≤ lc_l T (dt_s L D) a b := by
      rw [lc_iff]
      intro j hj
      by_cases z : j = lc_l T (dt_s L D) a b
      · rw [z]; exact ⟨h1, h2, by omega, e⟩
      · exact (lc_iff.mp (Nat.le_refl _)) j (by omega)
    omega
theorem lc_ord (h : dt_ok T D L) {H a b : Nat} (hH : dt_s L D ≤ H) (ha : a < dt_s L D) (hb : b < dt_s L D) (hab : a ≠ b) : kv_v T (dt_s L D) H a < kv_v T (dt_s L D) H b ↔ T (a + lc_l T (dt_s L D) a b) < T (b + lc_l T (dt_s L D) a b) := by
  have h1 := lc_inN h ha b
  have h2 := lc_inN h hb a
  rw [lc_sy] at h2
  have h3 := lc_dif h ha hb hab
  have h4 := lc_v (dt_T10 h) (Nat.le_refl (lc_l T (dt_s L D) a b))
  generalize lc_l T (dt_s L D) a b = l at h1 h2 h3 h4 ⊢
  obtain ⟨k, rfl⟩ : ∃ k, H = l + (k + 1) := ⟨H - l - 1, by omega⟩
  rw [kv_lex (dt_T10 h), kv_stp (dt_T10 h), kv_in h1, kv_in h2]
  constructor
  · rintro (z | ⟨_, z | z⟩)
    · omega
    · omega
    · omega
  · intro z
    exact Or.inr ⟨h4, Or.inl (by omega)⟩
theorem lc_nxt (h : dt_ok T D L) {d p e q i : Nat} (hd : d < D) (hp : p ≤ L d) (he : e < D) (hq : q ≤ L e) (hi : i ≤ lc_l T (dt_s L D) (dt_s L d + p) (dt_s L e + q)) :
    i + 1 ≤ lc_l T (dt_s L D) (dt_s L d + p) (dt_s L e + q) ↔ p + i < L d ∧ q + i < L e ∧ T (dt_s L d + p + i) = T (dt_s L e + q + i) := by
  have h1 := lc_doc h hd hp (dt_s L e + q)
  have h2 := lc_doc h he hq (dt_s L d + p)
  rw [lc_sy] at h2
  constructor
  · intro z
    have c := (lc_iff.mp z) i (by omega)
    have := c.2.2.2
    exact ⟨by omega, by omega, this⟩
  · rintro ⟨z1, z2, z3⟩
    rw [lc_iff]
    intro j hj
    by_cases e1 : j = i
    · subst e1
      refine ⟨?_, ?_, ?_, z3⟩
      · rw [Nat.add_assoc]; exact dt_in hd (by omega)
      · rw [Nat.add_assoc]; exact dt_in he (by omega)
      · rw [Nat.add_assoc]; exact (h.2.2 d (p + j) hd z1).1
    · exact (lc_iff.mp hi) j (by omega)
theorem lc_slf (h : dt_ok T D L) {d p : Nat} (hd : d < D) (hp : p ≤ L d) : lc_l T (dt_s L D) (dt_s L d + p) (dt_s L d + p) = L d - p := by
  apply Nat.le_antisymm
  · exact lc_doc h hd hp _
  · rw [lc_iff]
    intro j hj
    have h1 : dt_s L d + p + j < dt_s L D := by rw [Nat.add_assoc]; exact dt_in hd (by omega)
    refine ⟨h1, h1, ?_, rfl⟩
    rw [Nat.add_assoc]; exact (h.2.2 d (p + j) hd (by omega)).1
theorem lc_mk0 {N a b : Nat} (hm : T a < 5) : lc_l T N a b = 0 := by
  by_cases z : lc_l T N a b = 0
  · exact z
  · have : 1 ≤ lc_l T N a b := by omega
    rw [lc_iff] at this
    have h1 : 5 ≤ T a := (this 0 (by omega)).2.2.1
    omega
end
end
section
/-! sorting by insertion, and ranks: pure -/
def so_c (i k j : Nat) : Nat := if j = k then i else if k < j ∧ j ≤ i then j - 1 else j
theorem so_ck (i k : Nat) : so_c i k k = i := if_pos rfl
theorem so_cm {i k j : Nat} (h : k < j) (h2 : j ≤ i) : so_c i k j = j - 1 := by
  unfold so_c; rw [if_neg (by omega), if_pos ⟨h, h2⟩]
theorem so_co {i k j : Nat} (h : j ≠ k) (h2 : ¬ (k < j ∧ j ≤ i)) : so_c i k j = j := by
  unfold so_c; rw [if_neg h, if_neg h2]
/-- the row with a gap moving down from i to k -/
def so_sh (o : Nat → Nat) (i k j : Nat) : Nat := if k < j ∧ j ≤ i then o (j - 1) else o j
def so_in (o : Nat → Nat) (i k j : Nat) : Nat := o (so_c i k j)
theorem so_sh0 (o : Nat → Nat) (i j : Nat) : so_sh o i i j = o j := by
  unfold so_sh; rw [if_neg (by omega)]
theorem so_shn {o : Nat → Nat} {i k : Nat} (hk : k < i) (j : Nat) : rp_u (so_sh o i (k + 1)) (k + 1) (o k) j = so_sh o i k j := by
  by_cases e : j = k + 1
  · subst e; rw [rp_us]; unfold so_sh; rw [if_pos (by omega)]; rfl
  · rw [rp_un e]; unfold so_sh
    by_cases z : k + 1 < j ∧ j ≤ i
    · rw [if_pos z, if_pos (by omega)]
    · rw [if_neg z, if_neg (by omega)]
theorem so_shk {o : Nat → Nat} {i k j : Nat} (h : j ≤ k) : so_sh o i k j = o j := by
  unfold so_sh; rw [if_neg (by omega)]
theorem so_inu {o : Nat → Nat} {i k : Nat} (j : Nat) : rp_u (so_sh o i k) k (o i) j = so_in o i k j := by
  by_cases e : j = k
  · subst e; rw [rp_us]; unfold so_in; rw [so_ck]
  · rw [rp_un e]; unfold so_in so_sh
    by_cases z : k < j ∧ j ≤ i
    · rw [if_pos z, so_cm z.1 z.2]
    · rw [if_neg z, so_co e z]
theorem so_pm {o : Nat → Nat} {n i k : Nat} (h : pm_P n o) (hi : i < n) (hk : k ≤ i) : pm_P n (so_in o i k) := by
  constructor
  · intro j hj
    apply h.1
    unfold so_c
    split
    · exact hi
    · split <;> omega
  · intro a b ha hb e
    have e1 : so_c i k a = so_c i k b := by
      apply h.2 _ _ _ _ e
      · unfold so_c
        split
        · exact hi
        · split <;> omega
      · unfold so_c
        split
        · exact hi
        · split <;> omega
    unfold so_c at e1
    split at e1
    · split at e1
      · omega
      · split at e1 <;> omega
    · split at e1
      · split at e1
        · omega
        · split at e1 <;> omega
      · split at e1
        · omega
        · split at e1 <;> omega
def so_S (V : Nat → Nat) (o : Nat → Nat) (n : Nat) : Prop := ∀ a b, a < b → b < n → V (o a) ≤ V (o b)
theorem so_srt {V o : Nat → Nat} {i k : Nat} (h : so_S V o i) (hk : k ≤ i) (h1 : ∀ j, k ≤ j → j < i → V (o i) < V (o j)) (h2 : k = 0 ∨ ¬ V (o i) < V (o (k - 1))) : so_S V (so_in o i k) (i + 1) := by
  have h3 : ∀ j, j < k → V (o j) ≤ V (o i) := by
    intro j hj
    rcases h2 with z | z
    · omega
    · by_cases e : j = k - 1
      · rw [e]; omega
      · have := h j (k - 1) (by omega) (by omega); omega
  intro a b hab hb
  unfold so_in
  by_cases ea : a = k
  · subst ea
    rw [so_ck, so_cm hab (by omega)]
    exact Nat.le_of_lt (h1 (b - 1) (by omega) (by omega))
  · by_cases za : k < a ∧ a ≤ i
    · rw [so_cm za.1 za.2, so_cm (by omega) (by omega)]
      exact h (a - 1) (b - 1) (by omega) (by omega)
    · rw [so_co ea za]
      by_cases eb : b = k
      · subst eb; rw [so_ck]; exact h3 a hab
      · by_cases zb : k < b ∧ b ≤ i
        · rw [so_cm zb.1 zb.2]
          by_cases e2 : b - 1 = a
          · rw [e2]; exact Nat.le_refl _
          · exact h a (b - 1) (by omega) (by omega)
        · rw [so_co eb zb]
          exact h a b hab (by omega)
theorem so_in_hi {o : Nat → Nat} {i k j : Nat} (hk : k ≤ i) (h : i < j) : so_in o i k j = o j := by
  unfold so_in; rw [so_co (by omega) (by omega)]
/-- ranks count the rises -/
def so_rk (V o : Nat → Nat) : Nat → Nat
  | 0 => 0
  | j + 1 => so_rk V o j + (if V (o j) < V (o (j + 1)) then 1 else 0)
theorem so_rkS (V o : Nat → Nat) (j : Nat) : so_rk V o (j + 1) = so_rk V o j + (if V (o j) < V (o (j + 1)) then 1 else 0) := rfl
theorem so_rkle (V o : Nat → Nat) (j : Nat) : so_rk V o j ≤ j := by
  induction j with
  | zero => exact Nat.le_refl 0
  | succ j ih => rw [so_rkS]; split <;> omega
theorem so_rkm {V o : Nat → Nat} {n : Nat} (h : so_S V o n) : ∀ {i j : Nat}, i ≤ j → j < n → so_rk V o i ≤ so_rk V o j ∧ (so_rk V o i = so_rk V o j ↔ V (o i) = V (o j)) := by
  intro i j
  induction j with
  | zero =>
    intro h1 h2
    have e : i = 0 := by omega
    subst e
    exact ⟨Nat.le_refl _, ⟨fun _ => rfl, fun _ => rfl⟩⟩
  | succ j ih =>
    intro h1 h2
    by_cases e : i = j + 1
    · subst e; exact ⟨Nat.le_refl _, ⟨fun _ => rfl, fun _ => rfl⟩⟩
    · have h3 := ih (by omega) (by omega)
      have h4 : V (o i) ≤ V (o j) := by
        by_cases z : i = j
        · rw [z]; exact Nat.le_refl _
        · exact h i j (by omega) (by omega)
      have h5 := h j (j + 1) (by omega) h2
      have h6 := h3.2
      rw [so_rkS]
      by_cases c : V (o j) < V (o (j + 1))
      · rw [if_pos c]
        exact ⟨by omega, ⟨fun z => by omega, fun z => by omega⟩⟩
      · rw [if_neg c]
        have e2 : V (o j) = V (o (j + 1)) := by omega
        rw [← e2]
        exact ⟨by omega, ⟨fun z => h6.mp (by omega), fun z => by have := h6.mpr z; omega⟩⟩
theorem so_rki {V o : Nat → Nat} {n : Nat} (h : so_S V o n) {i j : Nat} (hi : i < n) (hj : j < n) : so_rk V o i < so_rk V o j ↔ V (o i) < V (o j) := by
  by_cases z : i ≤ j
  · have h1 := so_rkm h z hj
    have h2 : V (o i) ≤ V (o j) := by
      by_cases e : i = j
      · rw [e]; exact Nat.le_refl _
      · exact h i j (by omega) hj
    have h3 := h1.2
    constructor
    · intro y
      by_cases e : V (o i) = V (o j)
      · have := h3.mpr e; omega
      · omega
    · intro y
      by_cases e : so_rk V o i = so_rk V o j
      · have := h3.mp e; omega
      · omega
  · have h1 := so_rkm h (show j ≤ i from by omega) hi
    have h2 := h j i (by omega) hi
    constructor
    · intro y; omega
    · intro y; omega
/-- ranks that tell all apart are the places -/
theorem so_rkx {V o : Nat → Nat} {n : Nat} (h : ∀ a b, a < b → b < n → V (o a) < V (o b)) : ∀ j, j < n → so_rk V o j = j := by
  intro j
  induction j with
  | zero => intro _; rfl
  | succ j ih =>
    intro hj
    rw [so_rkS, ih (by omega), if_pos (h j (j + 1) (by omega) hj)]
/-- a row of ranks that tells the rests as their first h symbols do -/
def so_I (T : Nat → Nat) (N h : Nat) (r : Nat → Nat) : Prop := ∀ a b, a < N → b < N → (r a < r b ↔ kv_v T N h a < kv_v T N h b)
theorem so_Ie {T r : Nat → Nat} {N h a b : Nat} (I : so_I T N h r) (ha : a < N) (hb : b < N) : r a = r b ↔ kv_v T N h a = kv_v T N h b := by
  have h1 := I a b ha hb
  have h2 := I b a hb ha
  omega
theorem so_I1 (T : Nat → Nat) (N : Nat) : so_I T N 1 T := by
  intro a b ha hb
  rw [kv_v1, kv_v1, kv_in ha, kv_in hb]
  omega
/-- what comesBefore answers -/
theorem so_cmp {T r : Nat → Nat} {N h a b : Nat} (hT : ∀ i, i < N → T i < 10) (h0 : 0 < h) (I : so_I T N h r) (ha : a < N) (hb : b < N) :
    kv_v T N (h + h) a < kv_v T N (h + h) b ↔ r a < r b ∨ (r a = r b ∧ ((a + h < N ∧ b + h < N ∧ r (a + h) < r (b + h)) ∨ (¬ a + h < N ∧ b + h < N))) := by
  rw [kv_lex hT, ← I a b ha hb, ← so_Ie I ha hb]
  by_cases za : a + h < N
  · by_cases zb : b + h < N
    · rw [← I _ _ za zb]
      constructor
      · rintro (z | z)
        · exact Or.inl z
        · exact Or.inr ⟨z.1, Or.inl ⟨za, zb, z.2⟩⟩
      · rintro (z | ⟨z, y | y⟩)
        · exact Or.inl z
        · exact Or.inr ⟨z, y.2.2⟩
        · exact absurd za y.1
    · rw [kv_z (a := b + h) (by omega)]
      constructor
      · rintro (z | z)
        · exact Or.inl z
        · have := z.2; omega
      · rintro (z | ⟨z, y | y⟩)
        · exact Or.inl z
        · omega
        · omega
  · rw [kv_z (a := a + h) (by omega)]
    by_cases zb : b + h < N
    · have := kv_pos (T := T) zb h0
      constructor
      · rintro (z | z)
        · exact Or.inl z
        · exact Or.inr ⟨z.1, Or.inr ⟨za, zb⟩⟩
      · rintro (z | ⟨z, y | y⟩)
        · exact Or.inl z
        · omega
        · exact Or.inr ⟨z, this⟩
    · rw [kv_z (a := b + h) (by omega)]
      constructor
      · rintro (z | z)
        · exact Or.inl z
        · have := z.2; omega
      · rintro (z | ⟨z, y | y⟩)
        · exact Or.inl z
        · omega
        · omega
theorem so_In {T r o : Nat → Nat} {N h : Nat} (P : pm_P N o) (S : so_S (kv_v T N h) o N) (e : ∀ i, i < N → r (o i) = so_rk (kv_v T N h) o i) : so_I T N h r := by
  intro a b ha hb
  obtain ⟨i, hi, rfl⟩ := pm_sur P ha
  obtain ⟨j, hj, rfl⟩ := pm_sur P hb
  rw [e i hi, e j hj]
  exact so_rki S hi hj
/-- the order at the end -/
def so_O (T : Nat → Nat) (N : Nat) (o r : Nat → Nat) : Prop :=
  pm_P N o ∧ (∀ i, i < N → r (o i) = i) ∧ (∀ a, a < N → r a < N ∧ o (r a) = a) ∧ (∀ a b, a < N → b < N → (r a < r b ↔ kv_v T N 128 a < kv_v T N 128 b))
theorem so_end {T r o : Nat → Nat} {N : Nat} (hT : ∀ i, i < N → T i < 10) (hN : N ≤ 128) (P : pm_P N o) (S : so_S (kv_v T N 128) o N) (e : ∀ i, i < N → r (o i) = so_rk (kv_v T N 128) o i) : so_O T N o r := by
  have h1 : ∀ a b, a < b → b < N → kv_v T N 128 (o a) < kv_v T N 128 (o b) := by
    intro a b hab hb
    have h2 := S a b hab hb
    by_cases z : kv_v T N 128 (o a) = kv_v T N 128 (o b)
    · have h3 := kv_inj hT hN (P.1 a (by omega)) (P.1 b hb) z
      have := P.2 a b (by omega) hb h3
      omega
    · omega
  have h2 : ∀ i, i < N → r (o i) = i := fun i hi => by rw [e i hi, so_rkx h1 i hi]
  refine ⟨P, h2, ?_, so_In P S e⟩
  intro a ha
  obtain ⟨i, hi, rfl⟩ := pm_sur P ha
  rw [h2 i hi]
  exact ⟨hi, rfl⟩
section
variable {T o r : Nat → Nat} {N : Nat}
theorem so_lt (h : so_O T N o r) {i j : Nat} (hi : i < N) (hj : j < N) : kv_v T N 128 (o i) < kv_v T N 128 (o j) ↔ i < j := by
  rw [← h.2.2.2 _ _ (h.1.1 i hi) (h.1.1 j hj), h.2.1 i hi, h.2.1 j hj]
theorem so_le (h : so_O T N o r) {i j : Nat} (hi : i < N) (hj : j < N) (hij : i ≤ j) : kv_v T N 128 (o i) ≤ kv_v T N 128 (o j) := by
  by_cases e : i = j
  · rw [e]; exact Nat.le_refl _
  · have := (so_lt h hi hj).mpr (by omega); omega
theorem so_cn (h : so_O T N o r) (p : Nat → Prop) : cn_c (fun i => p (o i)) N = cn_c p N := pm_cn h.1 p
/-- the rank of a rest counts those before it -/
theorem so_rc (h : so_O T N o r) {a : Nat} (ha : a < N) : cn_c (fun q => kv_v T N 128 q < kv_v T N 128 a) N = r a := by
  rw [← so_cn h, ← cn_lt N (r a) (by have := (h.2.2.1 a ha).1; omega)]
  apply cn_cg
  intro i hi
  rw [← h.2.2.2 _ _ (h.1.1 i hi) ha, h.2.1 i hi]
end
end
section
/-! the column before the rests, and the search from the end: pure -/
def fi_col (T : Nat → Nat) (N : Nat) (o : Nat → Nat) (i : Nat) : Nat := if o i = 0 then T (N - 1) else T (o i - 1)
def fi_mt (T : Nat → Nat) (N : Nat) (Q : Nat → Nat) (a k m : Nat) : Prop := ∀ j, k + j < m → a + j < N ∧ T (a + j) = Q (k + j) + 5
section
variable {T o r Q : Nat → Nat} {N : Nat}
theorem fi_lfc (h : so_O T N o r) {x s : Nat} (hx : x ≤ N) (hs : s ≠ T (N - 1)) : cn_c (fun i => fi_col T N o i = s) x = cn_c (fun q => T q = s ∧ q + 1 < N ∧ r (q + 1) < x) N := by
  have hne : ∀ i, fi_col T N o i = s → o i ≠ 0 := by
    intro i hc z
    unfold fi_col at hc
    rw [if_pos z] at hc
    exact hs hc.symm
  refine cn_bij (R := fun i q => o i = q + 1) ?_ ?_ ?_ ?_
  · intro i hi hc
    have h0 := hne i hc
    have h1 := h.1.1 i (by omega)
    unfold fi_col at hc
    rw [if_neg h0] at hc
    refine ⟨o i - 1, by omega, ⟨hc, by omega, ?_⟩, by omega⟩
    rw [show o i - 1 + 1 = o i from by omega, h.2.1 i (by omega)]
    exact hi
  · rintro q hq ⟨h1, h2, h3⟩
    have h4 := (h.2.2.1 (q + 1) h2).2
    refine ⟨r (q + 1), h3, ?_, h4⟩
    unfold fi_col
    rw [h4, if_neg (by omega), Nat.add_sub_cancel]
    exact h1
  · intro i i' j hi hi' _ _ e e'
    exact h.1.2 i i' (by omega) (by omega) (e.trans e'.symm)
  · intro i j j' _ _ _ _ e e'
    omega
theorem fi_cnt (h : so_O T N o r) {x s : Nat} (hx : x ≤ N) (hs : s ≠ T (N - 1)) : cn_c (fun q => T q < s) N + cn_c (fun i => fi_col T N o i = s) x = cn_c (fun q => T q < s ∨ (T q = s ∧ q + 1 < N ∧ r (q + 1) < x)) N := by
  rw [fi_lfc h hx hs, cn_or]
  intro q _ z y
  have := y.1
  omega
theorem fi_thr (h : so_O T N o r) {x s : Nat} (hx : x ≤ N) (hs : s ≠ T (N - 1)) (Z : Nat → Prop) (hZ : ∀ q, q < N → (T q < s ∨ (T q = s ∧ q + 1 < N ∧ r (q + 1) < x) ↔ Z q)) (hd : ∀ i j, i < j → j < N → Z (o j) → Z (o i)) :
    ∀ i, i < N → (Z (o i) ↔ i < cn_c (fun q => T q < s) N + cn_c (fun i => fi_col T N o i = s) x) := by
  rw [fi_cnt h hx hs, cn_cg hZ, ← so_cn h]
  exact cn_pre (p := fun i => Z (o i)) hd
theorem fi_cle (h : so_O T N o r) {x s : Nat} (hx : x ≤ N) (hs : s ≠ T (N - 1)) : cn_c (fun q => T q < s) N + cn_c (fun i => fi_col T N o i = s) x ≤ N := by
  rw [fi_cnt h hx hs]; exact cn_le _ _
/-- one step back in the text -/
theorem fi_lf (h : so_O T N o r) (hT : ∀ i, i < N → T i < 10) (hN : N ≤ 127) {a t : Nat} (ht : t < N) (ha : o t = a + 1) (hs : T a ≠ T (N - 1)) : cn_c (fun q => T q < T a) N + cn_c (fun i => fi_col T N o i = T a) t = r a := by
  have h1 := h.1.1 t ht
  rw [fi_cnt h (by omega) hs, ← so_rc h (show a < N from by omega)]
  apply cn_cg
  intro q hq
  rw [show (128 : Nat) = 127 + 1 from rfl, kv_stp hT, kv_in hq, kv_in (show a < N from by omega)]
  have hrt : r (a + 1) = t := by rw [← ha]; exact h.2.1 t ht
  constructor
  · rintro (z | ⟨z1, z2, z3⟩)
    · exact Or.inl (by omega)
    · refine Or.inr ⟨by omega, ?_⟩
      rw [← hrt, h.2.2.2 _ _ z2 (by omega), kv_more hT hN (by omega) z2 (by omega)] at z3
      exact z3
  · rintro (z | ⟨z1, z2⟩)
    · exact Or.inl (by omega)
    · have hq1 : q + 1 < N := by
        by_cases e : q = N - 1
        · rw [e] at z1; omega
        · omega
      refine Or.inr ⟨by omega, hq1, ?_⟩
      rw [← hrt, h.2.2.2 _ _ hq1 (by omega), kv_more hT hN (by omega) hq1 (by omega)]
      exact z2
theorem fi_mtE {a k m : Nat} (h : m ≤ k) : fi_mt T N Q a k m := fun j hj => by omega
theorem fi_mtS {a k m : Nat} (h : k < m) : fi_mt T N Q a k m ↔ a < N ∧ T a = Q k + 5 ∧ fi_mt T N Q (a + 1) (k + 1) m := by
  constructor
  · intro z
    refine ⟨(z 0 h).1, (z 0 h).2, fun j hj => ?_⟩
    have := z (j + 1) (by omega)
    rw [show a + (j + 1) = a + 1 + j from by omega, show k + (j + 1) = k + 1 + j from by omega] at this
    exact this
  · rintro ⟨z1, z2, z3⟩ j hj
    by_cases e : j = 0
    · subst e; exact ⟨z1, z2⟩
    · have := z3 (j - 1) (by omega)
      rw [show a + 1 + (j - 1) = a + j from by omega, show k + 1 + (j - 1) = k + j from by omega] at this
      exact this
theorem fi_mtv (hT : ∀ i, i < N → T i < 10) {a k m : Nat} (h : fi_mt T N Q a k m) (q : Nat) : fi_mt T N Q q k m ↔ kv_v T N (m - k) q = kv_v T N (m - k) a := by
  rw [kv_eqI hT]
  constructor
  · intro z j hj
    have h1 := h j (by omega)
    have h2 := z j (by omega)
    rw [kv_in h1.1, kv_in h2.1, h1.2, h2.2]
  · intro z j hj
    have h1 := h j (by omega)
    have h2 := z j (by omega)
    rw [kv_in h1.1] at h2
    have h3 : q + j < N := kv_Pi (T := T) (by omega)
    rw [kv_in h3] at h2
    exact ⟨h3, by omega⟩
/-- the rests from lo to hi are those that begin with the row -/
def fi_W (T : Nat → Nat) (N : Nat) (o Q : Nat → Nat) (lo hi k m : Nat) : Prop := lo ≤ hi ∧ hi ≤ N ∧ ∀ i, i < N → ((lo ≤ i ∧ i < hi) ↔ fi_mt T N Q (o i) k m)
theorem fi_W0 (m : Nat) : fi_W T N o Q 0 N m m := ⟨Nat.zero_le _, Nat.le_refl _, fun i hi => ⟨fun _ => fi_mtE (Nat.le_refl _), fun _ => ⟨Nat.zero_le _, hi⟩⟩⟩
theorem fi_We (h : so_O T N o r) (h0 : 0 < N) {lo hi k m : Nat} (hk : k < m) (w : fi_W T N o Q lo hi (k + 1) m) (e : hi ≤ lo) : fi_W T N o Q lo hi k m := by
  refine ⟨w.1, w.2.1, fun i hi' => ⟨fun z => by omega, fun z => ?_⟩⟩
  exfalso
  rw [fi_mtS hk] at z
  by_cases e2 : k + 1 = m
  · have := (w.2.2 0 h0).mpr (fi_mtE (by omega))
    omega
  · have h1 : o i + 1 < N := (z.2.2 0 (by omega)).1
    have h2 := h.2.2.1 (o i + 1) h1
    have := (w.2.2 (r (o i + 1)) h2.1).mpr (by rw [h2.2]; exact z.2.2)
    omega
theorem fi_Wx (h : so_O T N o r) (hT : ∀ i, i < N → T i < 10) (hl : T (N - 1) < 5) {lo hi k m : Nat} (hm : m ≤ 128) (hk : k < m) (w : fi_W T N o Q lo hi (k + 1) m) (e : lo < hi) :
    fi_W T N o Q (cn_c (fun q => T q < Q k + 5) N + cn_c (fun i => fi_col T N o i = Q k + 5) lo) (cn_c (fun q => T q < Q k + 5) N + cn_c (fun i => fi_col T N o i = Q k + 5) hi) k m := by
  have hs : Q k + 5 ≠ T (N - 1) := by omega
  have w1 := w.2.1
  have hlo : lo < N := by omega
  have hm0 : fi_mt T N Q (o lo) (k + 1) m := (w.2.2 lo hlo).mp ⟨Nat.le_refl _, e⟩
  have hv := fi_mtv hT hm0
  have hmono : ∀ i j, i ≤ j → j < N → kv_v T N (m - (k + 1)) (o i) ≤ kv_v T N (m - (k + 1)) (o j) := fun i j hij hj => kv_mo hT (by omega) (so_le h (by omega) hj hij)
  have A1 : ∀ i, i < N → (i < lo ↔ kv_v T N (m - (k + 1)) (o i) < kv_v T N (m - (k + 1)) (o lo)) := by
    intro i hi'
    have h1 := (w.2.2 i hi').trans (hv (o i))
    constructor
    · intro z
      have h2 := hmono i lo (by omega) hlo
      by_cases e2 : kv_v T N (m - (k + 1)) (o i) = kv_v T N (m - (k + 1)) (o lo)
      · have := h1.mpr e2; omega
      · omega
    · intro z
      by_cases e2 : i < lo
      · exact e2
      · have h2 := hmono lo i (by omega) hi'; omega
  have A2 : ∀ i, i < N → (i < hi ↔ kv_v T N (m - (k + 1)) (o i) ≤ kv_v T N (m - (k + 1)) (o lo)) := by
    intro i hi'
    have h1 := (w.2.2 i hi').trans (hv (o i))
    constructor
    · intro z
      by_cases e2 : i < lo
      · exact hmono i lo (by omega) hlo
      · have := h1.mp ⟨by omega, z⟩; omega
    · intro z
      by_cases e2 : i < lo
      · omega
      · have h2 := hmono lo i (by omega) hi'
        exact (h1.mpr (by omega)).2
  have hml : ∀ q, q < N → T q = Q k + 5 → q + 1 < N := by
    intro q hq z
    by_cases e2 : q = N - 1
    · rw [e2] at z; omega
    · omega
  have hw : m - k = m - (k + 1) + 1 := by omega
  have hb := kv_lt hT (m - (k + 1)) (o lo)
  have hmono' : ∀ i j, i ≤ j → j < N → kv_v T N (m - (k + 1) + 1) (o i) ≤ kv_v T N (m - (k + 1) + 1) (o j) := fun i j hij hj => kv_mo hT (by omega) (so_le h (by omega) hj hij)
  have Zlt : ∀ q, q < N → (T q < Q k + 5 ∨ (T q = Q k + 5 ∧ q + 1 < N ∧ r (q + 1) < lo) ↔ kv_v T N (m - (k + 1) + 1) q < (Q k + 6) * 11 ^ (m - (k + 1)) + kv_v T N (m - (k + 1)) (o lo)) := by
    intro q hq
    rw [kv_vS, kv_ar (kv_lt hT _ _) hb, kv_in hq]
    constructor
    · rintro (z | ⟨z1, z2, z3⟩)
      · exact Or.inl (by omega)
      · rw [A1 _ (h.2.2.1 _ z2).1, (h.2.2.1 _ z2).2] at z3
        exact Or.inr ⟨by omega, z3⟩
    · rintro (z | ⟨z1, z2⟩)
      · exact Or.inl (by omega)
      · have h3 := hml q hq (by omega)
        refine Or.inr ⟨by omega, h3, ?_⟩
        rw [A1 _ (h.2.2.1 _ h3).1, (h.2.2.1 _ h3).2]
        exact z2
  have Zle : ∀ q, q < N → (T q < Q k + 5 ∨ (T q = Q k + 5 ∧ q + 1 < N ∧ r (q + 1) < hi) ↔ ¬ (Q k + 6) * 11 ^ (m - (k + 1)) + kv_v T N (m - (k + 1)) (o lo) < kv_v T N (m - (k + 1) + 1) q) := by
    intro q hq
    rw [kv_vS, kv_ar hb (kv_lt hT _ _), kv_in hq]
    constructor
    · rintro (z | ⟨z1, z2, z3⟩)
      · omega
      · rw [A2 _ (h.2.2.1 _ z2).1, (h.2.2.1 _ z2).2] at z3
        omega
    · intro z
      by_cases z1 : T q < Q k + 5
      · exact Or.inl z1
      · have z2 : T q = Q k + 5 := by omega
        have h3 := hml q hq z2
        refine Or.inr ⟨z2, h3, ?_⟩
        rw [A2 _ (h.2.2.1 _ h3).1, (h.2.2.1 _ h3).2]
        omega
  have R1 := fi_thr h (show lo ≤ N from by omega) hs _ Zlt (fun i j hij hj z => by have := hmono' i j (by omega) hj; omega)
  have R2 := fi_thr h w1 hs _ Zle (fun i j hij hj z => by have := hmono' i j (by omega) hj; omega)
  refine ⟨Nat.add_le_add_left (cn_mn w.1) _, fi_cle h w1 hs, fun i hi' => ?_⟩
  have h1 := R1 i hi'
  have h2 := R2 i hi'
  have h3 : kv_v T N (m - (k + 1) + 1) (o i) = (Q k + 6) * 11 ^ (m - (k + 1)) + kv_v T N (m - (k + 1)) (o lo) ↔ fi_mt T N Q (o i) k m := by
    rw [fi_mtS hk, kv_vS, kv_are (kv_lt hT _ _) hb, hv, kv_in (h.1.1 i hi')]
    constructor
    · rintro ⟨z1, z2⟩
      exact ⟨h.1.1 i hi', by omega, z2⟩
    · rintro ⟨_, z1, z2⟩
      exact ⟨by omega, z2⟩
  rw [← h3]
  constructor
  · intro z; omega
  · intro z; omega
theorem fi_Wn (h : so_O T N o r) {lo hi k m : Nat} (w : fi_W T N o Q lo hi k m) (p : Nat → Prop) : cn_c (fun j => p (o (lo + j))) (hi - lo) = cn_c (fun q => fi_mt T N Q q k m ∧ p q) N := by
  rw [← so_cn h (fun q => fi_mt T N Q q k m ∧ p q)]
  have w1 := w.1
  have w2 := w.2.1
  have e1 : cn_c (fun i => fi_mt T N Q (o i) k m ∧ p (o i)) N = cn_c (fun i => (lo ≤ i ∧ i < hi) ∧ p (o i)) N := cn_cg (fun i hi' => ⟨fun z => ⟨(w.2.2 i hi').mpr z.1, z.2⟩, fun z => ⟨(w.2.2 i hi').mp z.1, z.2⟩⟩)
  rw [e1]
  obtain ⟨c, rfl⟩ : ∃ c, N = lo + ((hi - lo) + c) := ⟨N - hi, by omega⟩
  rw [cn_add, cn_add, cn_z (n := lo) (fun i hi' z => by omega), cn_z (n := c) (fun i hi' z => by omega), Nat.zero_add, Nat.add_zero]
  exact cn_cg (fun i hi' => ⟨fun z => ⟨⟨by omega, by omega⟩, z⟩, fun z => z.2⟩)
theorem fi_Wc (h : so_O T N o r) {lo hi k m : Nat} (w : fi_W T N o Q lo hi k m) : cn_c (fun q => fi_mt T N Q q k m) N = hi - lo := by
  have := fi_Wn h w (fun _ => True)
  rw [cn_all (fun _ _ => trivial)] at this
  rw [this]
  exact cn_cg (fun q _ => ⟨fun z => ⟨z, trivial⟩, fun z => z.1⟩)
end
end
section
/-! maxima, ranks beyond the marks, different substrings: pure -/
def df_m (f : Nat → Nat) : Nat → Nat
  | 0 => 0
  | n + 1 => if f n ≤ df_m f n then df_m f n else f n
theorem df_mS (f : Nat → Nat) (n : Nat) : df_m f (n + 1) = if f n ≤ df_m f n then df_m f n else f n := rfl
theorem df_mt {f : Nat → Nat} {n : Nat} (h : f n ≤ df_m f n) : df_m f (n + 1) = df_m f n := by rw [df_mS, if_pos h]
theorem df_mf {f : Nat → Nat} {n : Nat} (h : ¬ f n ≤ df_m f n) : df_m f (n + 1) = f n := by rw [df_mS, if_neg h]
theorem df_mi {f : Nat → Nat} {n t : Nat} : t ≤ df_m f n ↔ t = 0 ∨ ∃ i, i < n ∧ t ≤ f i := by
  induction n with
  | zero =>
    constructor
    · intro h; exact Or.inl (Nat.le_zero.mp h)
    · rintro (h | ⟨i, hi, _⟩)
      · omega
      · omega
  | succ n ih =>
    rw [df_mS]
    by_cases c : f n ≤ df_m f n
    · rw [if_pos c, ih]
      constructor
      · rintro (h | ⟨i, hi, h⟩)
        · exact Or.inl h
        · exact Or.inr ⟨i, by omega, h⟩
      · rintro (h | ⟨i, hi, h⟩)
        · exact Or.inl h
        · by_cases e : i = n
          · subst e; exact ih.mp (by omega)
          · exact Or.inr ⟨i, by omega, h⟩
    · rw [if_neg c]
      constructor
      · intro h; exact Or.inr ⟨n, by omega, h⟩
      · rintro (h | ⟨i, hi, h⟩)
        · omega
        · by_cases e : i = n
          · subst e; exact h
          · have := ih.mpr (Or.inr ⟨i, by omega, h⟩); omega
theorem df_mcg {f g : Nat → Nat} {n : Nat} (h : ∀ i, i < n → f i = g i) : df_m f n = df_m g n := by
  induction n with
  | zero => rfl
  | succ n ih => rw [df_mS, df_mS, ih (fun i hi => h i (by omega)), h n (by omega)]
/-- the first ones of the classes, by two orders: as many -/
theorem df_cls {E : Nat → Nat → Prop} {n : Nat} {u w : Nat → Nat} (hs : ∀ a b, E a b → E b a) (ht : ∀ a b c, E a b → E b c → E a c) (hu : ∀ a b, a < n → b < n → u a = u b → a = b) :
    cn_c (fun b => E b b ∧ ∀ a, a < n → u a < u b → ¬ E a b) n ≤ cn_c (fun b => E b b ∧ ∀ a, a < n → w a < w b → ¬ E a b) n := by
  refine cn_inj (R := fun b c => E b c) n _ ?_ ?_
  · rintro b hb ⟨h1, h2⟩
    obtain ⟨k, ⟨c, hc, ec, wc⟩, hk⟩ := pk_least (fun k => ∃ c, c < n ∧ E b c ∧ w c = k) ⟨w b, b, hb, h1, rfl⟩
    refine ⟨c, hc, ⟨ht c b c (hs b c ec) ec, fun a ha hw ea => ?_⟩, ec⟩
    exact hk (w a) (by omega) ⟨a, ha, ht b c a ec (hs a c ea), rfl⟩
  · rintro b b' c hb hb' ⟨h1, h2⟩ ⟨h1', h2'⟩ e e'
    have e2 : E b b' := ht b c b' e (hs b' c e')
    apply hu b b' hb hb'
    rcases Nat.lt_trichotomy (u b) (u b') with z | z | z
    · exact absurd e2 (h2' b hb z)
    · exact z
    · exact absurd (hs b b' e2) (h2 b' hb' z)
section
variable {T L o r : Nat → Nat} {D : Nat}
/-- the greatest number of symbols in common with a rest at a lesser place -/
def df_seen (T : Nat → Nat) (N b : Nat) : Nat := df_m (fun a => lc_l T N a b) b
/-- the symbols in common with the rest before it in the order -/
def df_sh (T : Nat → Nat) (N : Nat) (o : Nat → Nat) (k : Nat) : Nat := if k = 0 then 0 else lc_l T N (o (k - 1)) (o k)
theorem df_lle {N a b : Nat} : lc_l T N a b ≤ lc_l T N b b := lc_tr (by rw [lc_sy]; exact Nat.le_refl _) (Nat.le_refl _)
theorem df_seeni {N b t : Nat} : t + 1 ≤ df_seen T N b ↔ ∃ a, a < b ∧ t + 1 ≤ lc_l T N a b := by
  unfold df_seen
  rw [df_mi]
  constructor
  · rintro (h | h)
    · omega
    · exact h
  · intro h; exact Or.inr h
theorem df_seenle {N b : Nat} : df_seen T N b ≤ lc_l T N b b := by
  by_cases e : df_seen T N b = 0
  · omega
  · obtain ⟨t, ht⟩ : ∃ t, df_seen T N b = t + 1 := ⟨df_seen T N b - 1, by omega⟩
    obtain ⟨a, _, h⟩ := df_seeni.mp (show t + 1 ≤ df_seen T N b from by omega)
    have := df_lle (T := T) (N := N) (a := a) (b := b)
    omega
theorem df_shi {N : Nat} (hT : ∀ i, i < N → T i < 10) (hN : N ≤ 128) (h : so_O T N o r) {k t : Nat} (hk : k < N) : t + 1 ≤ df_sh T N o k ↔ ∃ j, j < k ∧ t + 1 ≤ lc_l T N (o j) (o k) := by
  unfold df_sh
  by_cases e : k = 0
  · rw [if_pos e]
    constructor
    · intro z; omega
    · rintro ⟨j, hj, _⟩; omega
  · rw [if_neg e]
    constructor
    · intro z; exact ⟨k - 1, by omega, z⟩
    · rintro ⟨j, hj, z⟩
      exact (lc_mid hT hN (so_le h (by omega) (by omega) (by omega)) (so_le h (by omega) hk (by omega)) z).2
theorem df_shle {N : Nat} {k : Nat} : df_sh T N o k ≤ lc_l T N (o k) (o k) := by
  unfold df_sh
  split
  · exact Nat.zero_le _
  · exact df_lle
theorem df_bc {n x y : Nat} (hx : x ≤ y) (hy : y ≤ n) : y - x = cn_c (fun t => t + 1 ≤ y ∧ ¬ t + 1 ≤ x) n := by
  rw [← cn_btw n x y hx hy]
  exact cn_cg (fun i _ => ⟨fun z => ⟨by omega, by omega⟩, fun z => ⟨by omega, by omega⟩⟩)
/-- the two sums -/
theorem df_sum {N : Nat} (hT : ∀ i, i < N → T i < 10) (hN : N ≤ 128) (h : so_O T N o r) : cn_s (fun k => lc_l T N (o k) (o k) - df_sh T N o k) N = cn_s (fun b => lc_l T N b b - df_seen T N b) N := by
  have e1 : cn_s (fun k => lc_l T N (o k) (o k) - df_sh T N o k) N = cn_s (fun k => cn_c (fun t => t + 1 ≤ lc_l T N (o k) (o k) ∧ ∀ a, a < N → r a < r (o k) → ¬ t + 1 ≤ lc_l T N a (o k)) N) N := by
    apply cn_scg
    intro k hk
    rw [df_bc df_shle (lc_leN _ _)]
    apply cn_cg
    intro t _
    constructor
    · rintro ⟨z1, z2⟩
      refine ⟨z1, fun a ha hr z => z2 ?_⟩
      rw [df_shi hT hN h hk]
      rw [h.2.1 k hk] at hr
      exact ⟨r a, hr, by rw [(h.2.2.1 a ha).2]; exact z⟩
    · rintro ⟨z1, z2⟩
      refine ⟨z1, fun z => ?_⟩
      rw [df_shi hT hN h hk] at z
      obtain ⟨j, hj, z⟩ := z
      exact z2 (o j) (h.1.1 j (by omega)) (by rw [h.2.1 k hk, h.2.1 j (by omega)]; exact hj) z
  have e2 : cn_s (fun b => lc_l T N b b - df_seen T N b) N = cn_s (fun b => cn_c (fun t => t + 1 ≤ lc_l T N b b ∧ ∀ a, a < N → a < b → ¬ t + 1 ≤ lc_l T N a b) N) N := by
    apply cn_scg
    intro b hb
    rw [df_bc df_seenle (lc_leN _ _)]
    apply cn_cg
    intro t _
    constructor
    · rintro ⟨z1, z2⟩
      exact ⟨z1, fun a ha hr z => z2 (df_seeni.mpr ⟨a, hr, z⟩)⟩
    · rintro ⟨z1, z2⟩
      refine ⟨z1, fun z => ?_⟩
      obtain ⟨a, ha, z⟩ := df_seeni.mp z
      exact z2 a (by omega) ha z
  rw [e1, e2]
  refine (cn_swap _ N N).trans (Eq.trans ?_ (cn_swap _ N N).symm)
  apply cn_scg
  intro t _
  rw [so_cn h (fun b => t + 1 ≤ lc_l T N b b ∧ ∀ a, a < N → r a < r b → ¬ t + 1 ≤ lc_l T N a b)]
  have hs : ∀ a b, t + 1 ≤ lc_l T N a b → t + 1 ≤ lc_l T N b a := fun a b z => by rw [lc_sy]; exact z
  have ht : ∀ a b c, t + 1 ≤ lc_l T N a b → t + 1 ≤ lc_l T N b c → t + 1 ≤ lc_l T N a c := fun a b c y z => lc_tr y z
  have hr : ∀ a b, a < N → b < N → r a = r b → a = b := fun a b ha hb z => by
    rw [← (h.2.2.1 a ha).2, ← (h.2.2.1 b hb).2, z]
  apply Nat.le_antisymm
  · exact df_cls (E := fun a b => t + 1 ≤ lc_l T N a b) (u := r) (w := fun a => a) hs ht hr
  · exact df_cls (E := fun a b => t + 1 ≤ lc_l T N a b) (u := fun a => a) (w := r) hs ht (fun a b _ _ z => z)
/-! marks come first -/
theorem df_ms (h : dt_ok T D L) {q a H : Nat} (hq : q < dt_s L D) (ha : a < dt_s L D) (z : T q < T a) (hH : 0 < H) : kv_v T (dt_s L D) H q < kv_v T (dt_s L D) H a := by
  apply kv_up (dt_T10 h) (show 1 ≤ H from hH)
  rw [kv_v1, kv_v1, kv_in hq, kv_in ha]
  omega
theorem df_rD (h : dt_ok T D L) (O : so_O T (dt_s L D) o r) {a : Nat} (ha : a < dt_s L D) : D ≤ r a ↔ 5 ≤ T a := by
  rw [← so_rc O ha]
  constructor
  · intro z
    by_cases m : 5 ≤ T a
    · exact m
    · exfalso
      have h1 := dt_mc h D (Nat.le_refl _)
      rw [cn_rem ha (show T a < 5 from by omega)] at h1
      have h2 : cn_c (fun q => kv_v T (dt_s L D) 128 q < kv_v T (dt_s L D) 128 a) (dt_s L D) ≤ cn_c (fun i => T i < 5 ∧ i ≠ a) (dt_s L D) := by
        apply cn_mo
        intro q hq y
        constructor
        · by_cases m2 : T q < 5
          · exact m2
          · have := df_ms h ha hq (show T a < T q from by omega) (show 0 < 128 from by omega)
            omega
        · intro e; subst e; omega
      omega
  · intro m
    refine Nat.le_trans (Nat.le_of_eq (dt_mc h D (Nat.le_refl _)).symm) (cn_mo ?_)
    intro q hq y
    exact df_ms h hq ha (by omega) (by omega)
/-- the rank among the symbols' rests -/
theorem df_rk (h : dt_ok T D L) (O : so_O T (dt_s L D) o r) {a : Nat} (ha : a < dt_s L D) (m : 5 ≤ T a) : cn_c (fun q => 5 ≤ T q ∧ kv_v T (dt_s L D) 128 q < kv_v T (dt_s L D) 128 a) (dt_s L D) = r a - D := by
  have e := cn_split (fun q => kv_v T (dt_s L D) 128 q < kv_v T (dt_s L D) 128 a) (fun q => T q < 5) (dt_s L D)
  rw [so_rc O ha] at e
  have e1 : cn_c (fun i => kv_v T (dt_s L D) 128 i < kv_v T (dt_s L D) 128 a ∧ T i < 5) (dt_s L D) = D := by
    refine Eq.trans (cn_cg ?_) (dt_mc h D (Nat.le_refl _))
    exact (fun q hq => ⟨fun z => z.2, fun z => ⟨df_ms h hq ha (by omega) (by omega), z⟩⟩)
  have e2 : cn_c (fun i => kv_v T (dt_s L D) 128 i < kv_v T (dt_s L D) 128 a ∧ ¬ T i < 5) (dt_s L D) = cn_c (fun q => 5 ≤ T q ∧ kv_v T (dt_s L D) 128 q < kv_v T (dt_s L D) 128 a) (dt_s L D) :=
    cn_cg (fun q hq => ⟨fun z => ⟨by omega, z.1⟩, fun z => ⟨z.2, by omega⟩⟩)
  omega
/-- the greatest number in common -/
theorem df_rep (h : dt_ok T D L) (O : so_O T (dt_s L D) o r) : df_m (fun j => df_sh T (dt_s L D) o (D + 1 + j)) (dt_s L D - (D + 1)) = df_m (fun b => df_seen T (dt_s L D) b) (dt_s L D) := by
  have hT := dt_T10 h
  have hN : dt_s L D ≤ 128 := by have := dt_N65 h; omega
  apply lc_ext
  intro k
  rw [df_mi, df_mi]
  by_cases k0 : k = 0
  · subst k0; exact ⟨fun _ => Or.inl rfl, fun _ => Or.inl rfl⟩
  · obtain ⟨t, rfl⟩ : ∃ t, k = t + 1 := ⟨k - 1, by omega⟩
    have key : ∀ a b, a < dt_s L D → b < dt_s L D → r a < r b → t + 1 ≤ lc_l T (dt_s L D) a b → ∃ i, i < dt_s L D - (D + 1) ∧ t + 1 ≤ df_sh T (dt_s L D) o (D + 1 + i) := by
      intro a b ha hb hr z
      have m : 5 ≤ T a := (lc_iff.mp z 0 (by omega)).2.2.1
      have h1 := (df_rD h O ha).mpr m
      have h2 := O.2.2.1 b hb
      have h3 := O.2.2.1 a ha
      refine ⟨r b - (D + 1), by omega, ?_⟩
      rw [show D + 1 + (r b - (D + 1)) = r b from by omega, df_shi hT hN O h2.1]
      exact ⟨r a, hr, by rw [h2.2, h3.2]; exact z⟩
    constructor
    · rintro (z | ⟨i, hi, z⟩)
      · omega
      · right
        rw [df_shi hT hN O (by omega)] at z
        obtain ⟨j, hj, z⟩ := z
        have ha := O.1.1 j (by omega)
        have hb := O.1.1 (D + 1 + i) (by omega)
        rcases Nat.lt_trichotomy (o j) (o (D + 1 + i)) with y | y | y
        · exact ⟨o (D + 1 + i), hb, df_seeni.mpr ⟨o j, y, z⟩⟩
        · have := O.1.2 j (D + 1 + i) (by omega) (by omega) y
          omega
        · rw [lc_sy] at z
          exact ⟨o j, ha, df_seeni.mpr ⟨o (D + 1 + i), y, z⟩⟩
    · rintro (z | ⟨b, hb, z⟩)
      · omega
      · right
        obtain ⟨a, ha, z⟩ := df_seeni.mp z
        rcases Nat.lt_trichotomy (r a) (r b) with y | y | y
        · exact key a b (by omega) hb y z
        · have h2 := (O.2.2.1 a (by omega)).2
          have h3 := (O.2.2.1 b hb).2
          rw [y, h3] at h2
          omega
        · rw [lc_sy] at z
          exact key b a hb (by omega) y z
/-- what two rests have in common is the least of what lies between them -/
theorem df_com {N : Nat} (hT : ∀ i, i < N → T i < 10) (hN : N ≤ 128) (h : so_O T N o r) {i t : Nat} : ∀ j, i < j → j < N → (t ≤ lc_l T N (o i) (o j) ↔ ∀ k, i < k → k ≤ j → t ≤ df_sh T N o k) := by
  intro j
  induction j with
  | zero => intro z; omega
  | succ j ih =>
    intro h1 h2
    have hsh : df_sh T N o (j + 1) = lc_l T N (o j) (o (j + 1)) := by
      unfold df_sh; rw [if_neg (by omega), Nat.add_sub_cancel]
    by_cases e : i = j
    · subst e
      constructor
      · intro z k hk1 hk2
        have e2 : k = i + 1 := by omega
        subst e2
        rw [hsh]; exact z
      · intro z
        have := z (i + 1) (by omega) (by omega)
        rw [hsh] at this; exact this
    · have ih' := ih (by omega) (by omega)
      constructor
      · intro z k hk1 hk2
        have h3 := lc_mid hT hN (so_le h (by omega) (by omega) (show i ≤ j from by omega)) (so_le h (by omega) h2 (by omega)) z
        by_cases e2 : k = j + 1
        · subst e2; rw [hsh]; exact h3.2
        · exact ih'.mp h3.1 k hk1 (by omega)
      · intro z
        have h3 := ih'.mpr (fun k hk1 hk2 => z k hk1 (by omega))
        have h4 := z (j + 1) (by omega) (by omega)
        rw [hsh] at h4
        exact lc_tr h3 h4
/-- what is in common with the rest before carries over to the next place -/
theorem df_kas {N : Nat} (hT : ∀ i, i < N → T i < 10) (hN : N ≤ 127) (h : so_O T N o r) {a : Nat} (ha : a + 1 < N) (r1 : r (a + 1) ≠ 0) (r0 : r a ≠ 0) : lc_l T N (o (r a - 1)) a - 1 ≤ lc_l T N (o (r (a + 1) - 1)) (a + 1) := by
  by_cases z : lc_l T N (o (r a - 1)) a ≤ 1
  · omega
  · have ha' : a < N := by omega
    have hra := h.2.2.1 a ha'
    have hrb := h.2.2.1 (a + 1) ha
    have hj : r a - 1 < N := by omega
    have hjn := h.1.1 _ hj
    have c := lc_iff.mp (Nat.le_refl (lc_l T N (o (r a - 1)) a))
    have c0 : lc_C T N (o (r a - 1)) a := c 0 (by omega)
    have c1 : lc_C T N (o (r a - 1) + 1) (a + 1) := c 1 (by omega)
    have hlt : kv_v T N 128 (o (r a - 1)) < kv_v T N 128 a := by
      have := (so_lt h hj hra.1).mpr (by omega)
      rw [hra.2] at this; exact this
    rw [show (128 : Nat) = 127 + 1 from rfl, kv_stp hT, kv_in c0.1, kv_in c0.2.1, c0.2.2.2] at hlt
    have h1 : kv_v T N 127 (o (r a - 1) + 1) < kv_v T N 127 (a + 1) := by
      rcases hlt with y | y
      · omega
      · exact y.2
    have h2 : kv_v T N 128 (o (r a - 1) + 1) < kv_v T N 128 (a + 1) := kv_up hT (by omega) h1
    have h3 : r (o (r a - 1) + 1) < r (a + 1) := (h.2.2.2 _ _ c1.1 ha).mpr h2
    have hrc := h.2.2.1 _ c1.1
    have h4 := so_le h hrc.1 (show r (a + 1) - 1 < N from by omega) (by omega)
    rw [hrc.2] at h4
    have h5 := so_le h (show r (a + 1) - 1 < N from by omega) hrb.1 (by omega)
    rw [hrb.2] at h5
    have h6 : lc_l T N (o (r a - 1)) a - 1 ≤ lc_l T N (o (r a - 1) + 1) (a + 1) := by
      rw [lc_iff]
      intro j hj2
      have := c (j + 1) (by omega)
      rw [show o (r a - 1) + (j + 1) = o (r a - 1) + 1 + j from by omega, show a + (j + 1) = a + 1 + j from by omega] at this
      exact this
    exact (lc_mid hT (show N ≤ 128 from by omega) h4 h5 h6).2
end
end
section
/-! X: what its state holds; the methods that only read the documents -/
def xa_T (D : Nat) (L T : Nat → Nat) (A : Nat) (Q : Nat → Nat) : SX → Prop
  | (f_docs, f_size, f_asked, f_low, f_high, f_foundCount, f_built, a_text, a_starts, a_query, a_order, a_rank, a_second, a_column, a_smaller, a_counted, a_sample, a_shared, a_found) => f_docs = nI D ∧ f_size = nI (dt_s L D) ∧ f_asked = nI A ∧ rp_A a_text T (dt_s L D) ∧ (∀ d, d < D → a_starts d = nI (dt_s L d)) ∧ rp_A a_query Q A
def xa_X (D : Nat) (L T o r : Nat → Nat) : SX → Prop
  | (f_docs, f_size, f_asked, f_low, f_high, f_foundCount, f_built, a_text, a_starts, a_query, a_order, a_rank, a_second, a_column, a_smaller, a_counted, a_sample, a_shared, a_found) => so_O T (dt_s L D) o r ∧ rp_A a_order o (dt_s L D) ∧ rp_A a_rank r (dt_s L D) ∧ rp_A a_column (fi_col T (dt_s L D) o) (dt_s L D) ∧ rp_A a_smaller (fun s => cn_c (fun q => T q < s) (dt_s L D)) 11 ∧ (∀ s b, s < 10 → 8 * b < dt_s L D → a_counted (10 * b + s) = nI (cn_c (fun i => fi_col T (dt_s L D) o i = s) (8 * b))) ∧ (∀ i, i < dt_s L D → a_sample i = if o i % 4 = 0 then nI (o i) else -1) ∧ rp_A a_shared (df_sh T (dt_s L D) o) (dt_s L D)
def xa_B (D : Nat) (L T : Nat → Nat) : SX → Prop
  | (f_docs, f_size, f_asked, f_low, f_high, f_foundCount, f_built, a_text, a_starts, a_query, a_order, a_rank, a_second, a_column, a_smaller, a_counted, a_sample, a_shared, a_found) => f_built = 0 ∨ (f_built = 1 ∧ ∃ o r, xa_X D L T o r (f_docs, f_size, f_asked, f_low, f_high, f_foundCount, f_built, a_text, a_starts, a_query, a_order, a_rank, a_second, a_column, a_smaller, a_counted, a_sample, a_shared, a_found))
section
variable {f_docs f_size f_asked f_low f_high f_foundCount f_built : Int32} {a_text a_starts a_query a_order a_rank a_second a_column a_smaller a_counted a_sample a_shared a_found : Nat → Int32}
variable {D A : Nat} {L T Q o r : Nat → Nat}
theorem xb_sym {v : Int32} {post : Int32 → Prop} (h1 : ∀ c, c < 5 → v = nI c → post 1) (h0 : (¬ ∃ c, c < 5 ∧ v = nI c) → post 0) : wpX_isSymbol post v := by
  unfold wpX_isSymbol
  refine br_c (fun z => h0 ?_) (fun z => ?_)
  · rintro ⟨c, hc, rfl⟩
    exact nI_pos (by omega) z
  · obtain ⟨j, hj, rfl⟩ := nI_of z
    refine pk_lt 4 j (fun y => h0 ?_) (fun y => h1 j (by omega) rfl)
    rintro ⟨c, hc, e⟩
    rw [nI_eq hj (by omega)] at e
    omega
theorem xb_isd {v : Int32} {post : Int32 → Prop} (hf : f_docs = nI D) (hD : D ≤ 5) (h1 : ∀ d, d < D → v = nI d → post 1) (h0 : (¬ ∃ d, d < D ∧ v = nI d) → post 0) : wpX_isDocument post (f_docs, f_size, f_asked, f_low, f_high, f_foundCount, f_built, a_text, a_starts, a_query, a_order, a_rank, a_second, a_column, a_smaller, a_counted, a_sample, a_shared, a_found) v := by
  unfold wpX_isDocument
  dsimp only
  refine br_c (fun z => h0 ?_) (fun z => ?_)
  · rintro ⟨c, hc, rfl⟩
    exact nI_pos (by omega) z
  · obtain ⟨j, hj, rfl⟩ := nI_of z
    refine pk_le D j (fun y => h0 ?_) (fun y => h1 j (by omega) rfl) hf
    rintro ⟨c, hc, e⟩
    rw [nI_eq hj (by omega)] at e
    omega
theorem xb_len (h : xa_T D L T A Q (f_docs, f_size, f_asked, f_low, f_high, f_foundCount, f_built, a_text, a_starts, a_query, a_order, a_rank, a_second, a_column, a_smaller, a_counted, a_sample, a_shared, a_found)) (ok : dt_ok T D L) {d : Nat} (hd : d < D) {post : Int32 → Prop} (hp : post (nI (L d))) : wpX_lengthOf post (f_docs, f_size, f_asked, f_low, f_high, f_foundCount, f_built, a_text, a_starts, a_query, a_order, a_rank, a_second, a_column, a_smaller, a_counted, a_sample, a_shared, a_found) (nI d) := by
  obtain ⟨rfl, rfl, h3, h4, h5, h6⟩ := h
  have hb := ok.1
  have hN := dt_N65 ok
  have hl := dt_lt (L := L) hd
  have hin : vp_in (nI d) 6 := vp_in_nI (by omega) (by omega)
  unfold wpX_lengthOf
  dsimp only
  refine pk_eq d (D - 1) (fun e => ?_) (fun e => ?_) rfl (ga_s1 (by omega))
  · unfold wX_lengthOf_25
    refine ⟨hin, ?_⟩
    rw [nI_clamp (by omega), h5 d hd, pk_sub (by omega), ga_s1 (by omega)]
    have e2 := dt_Np ok
    rw [← e] at e2
    rw [show dt_s L D - dt_s L d - 1 = L d from by omega]
    exact hp
  · refine ⟨pk_in (d + 1) 6 (by omega) (nI_1 d), ?_⟩
    unfold wX_lengthOf_25
    refine ⟨hin, ?_⟩
    rw [nI_1, nI_clamp (by omega), nI_clamp (by omega), h5 d hd, h5 (d + 1) (by omega), dt_S, pk_sub (by omega), ga_s1 (by omega)]
    rw [show dt_s L d + L d + 1 - dt_s L d - 1 = L d from by omega]
    exact hp
theorem xb_shr {n : Nat} (h : n < 2 ^ 31) : nI n >>> ((6 : Int32) &&& 31) = nI (n / 64) := pk_shrN h _ 6 (by decide)
theorem xb_and {n : Nat} (h : n < 2 ^ 31) : nI n &&& 63 = nI (n % 64) := pk_andN (by omega) 6 (by decide)
theorem xb_tp (h : xa_T D L T A Q (f_docs, f_size, f_asked, f_low, f_high, f_foundCount, f_built, a_text, a_starts, a_query, a_order, a_rank, a_second, a_column, a_smaller, a_counted, a_sample, a_shared, a_found)) (ok : dt_ok T D L) (v : Int32) {post : Int32 → Prop} (h0 : (¬ ∃ d p, d < D ∧ p < L d ∧ v = nI (64 * d + p)) → post (-1)) (h1 : ∀ d p, d < D → p < L d → v = nI (64 * d + p) → post (nI (dt_s L d + p))) : wpX_textPlace post (f_docs, f_size, f_asked, f_low, f_high, f_foundCount, f_built, a_text, a_starts, a_query, a_order, a_rank, a_second, a_column, a_smaller, a_counted, a_sample, a_shared, a_found) v := by
  have hb := ok.1
  have hN := dt_N65 ok
  have hh := h
  obtain ⟨e1, e2, h3, h4, h5, h6⟩ := hh
  unfold wpX_textPlace
  dsimp only
  refine nm_e (nm_e ?_)
  refine br_c (fun z => h0 ?_) (fun z => ?_)
  · rintro ⟨d, p, hd, hp, rfl⟩
    have := dt_L60 ok hd
    exact nI_pos (by omega) z
  · obtain ⟨n, hn, rfl⟩ := nI_of z
    have hneg : ∀ d p, d < D → p < L d → nI n = nI (64 * d + p) → d = n / 64 ∧ p = n % 64 := by
      intro d p hd hp e
      have := dt_L60 ok hd
      rw [nI_eq hn (by omega)] at e
      omega
    refine pk_le D (n / 64) (fun y => h0 ?_) (fun y => ?_) e1 (xb_shr hn)
    · rintro ⟨d, p, hd, hp, e⟩
      have := hneg d p hd hp e
      omega
    · rw [xb_shr hn, xb_and hn]
      refine xb_len h ok y ?_
      have h60 := dt_L60 ok y
      refine pk_le (L (n / 64)) (n % 64) (fun w => h0 ?_) (fun w => ?_)
      · rintro ⟨d, p, hd, hp, e⟩
        have := hneg d p hd hp e
        rw [this.1, this.2] at hp
        omega
      · refine ⟨vp_in_nI (by omega) (by omega), ?_⟩
        rw [nI_clamp (by omega), h5 _ y, nI_add]
        exact h1 (n / 64) (n % 64) y w (by rw [Nat.div_add_mod])
theorem xb_dof7 (h : xa_T D L T A Q (f_docs, f_size, f_asked, f_low, f_high, f_foundCount, f_built, a_text, a_starts, a_query, a_order, a_rank, a_second, a_column, a_smaller, a_counted, a_sample, a_shared, a_found)) (ok : dt_ok T D L) {d p : Nat} (hp : p ≤ L d) {post : Int32 → Prop} (hd : d < D) (k : post (nI d)) : ∀ n x : Nat, x < n → d ≤ x → x < D → wX_documentOf_7 post (nI (dt_s L d + p)) f_docs f_size f_asked f_low f_high f_foundCount f_built a_text a_starts a_query a_order a_rank a_second a_column a_smaller a_counted a_sample a_shared a_found n (nI x) := by
  have hb := ok.1
  have hN := dt_N65 ok
  obtain ⟨e1, e2, h3, h4, h5, h6⟩ := h
  intro n
  induction n with
  | zero => intro x hx; omega
  | succ n ih =>
    intro x hx hdx hxD
    have hq := dt_in (L := L) hd hp
    refine pk_le x 0 (fun z => ?_) (fun z => ?_)
    · have e : x = d := by omega
      rw [e]; exact k
    · have hs := dt_mn (L := L) (show x ≤ D from by omega)
      refine ⟨vp_in_nI (by omega) (by omega), ?_⟩
      refine pk_le (dt_s L x) (dt_s L d + p) (fun y => ?_) (fun y => ?_) (by rw [nI_clamp (by omega)]; exact h5 x hxD)
      · have e : x = d := by
          by_cases e : x = d
          · exact e
          · have := dt_lt (L := L) (show d < x from by omega); omega
        rw [e]; exact k
      · refine nm_r (ga_m1 z) ?_
        have : x ≠ d := by intro e; subst e; omega
        exact ih (x - 1) (by omega) (by omega) (by omega)
theorem xb_dof (h : xa_T D L T A Q (f_docs, f_size, f_asked, f_low, f_high, f_foundCount, f_built, a_text, a_starts, a_query, a_order, a_rank, a_second, a_column, a_smaller, a_counted, a_sample, a_shared, a_found)) (ok : dt_ok T D L) {d p : Nat} (hd : d < D) (hp : p ≤ L d) {post : Int32 → Prop} (k : post (nI d)) : wpX_documentOf post (f_docs, f_size, f_asked, f_low, f_high, f_foundCount, f_built, a_text, a_starts, a_query, a_order, a_rank, a_second, a_column, a_smaller, a_counted, a_sample, a_shared, a_found) (nI (dt_s L d + p)) := by
  unfold wpX_documentOf
  dsimp only
  have hh := h
  obtain ⟨e1, e2, h3, h4, h5, h6⟩ := hh
  refine nm_r (e' := nI (D - 1)) (by rw [e1]; exact ga_s1 (by omega)) ⟨D + 1, ?_⟩
  exact xb_dof7 h ok hp hd k (D + 1) (D - 1) (by omega) (by omega) (by omega)
theorem xb_num (h : xa_T D L T A Q (f_docs, f_size, f_asked, f_low, f_high, f_foundCount, f_built, a_text, a_starts, a_query, a_order, a_rank, a_second, a_column, a_smaller, a_counted, a_sample, a_shared, a_found)) (ok : dt_ok T D L) {d p : Nat} (hd : d < D) (hp : p ≤ L d) {post : Int32 → Prop} (k : post (nI (64 * d + p))) : wpX_numberOf post (f_docs, f_size, f_asked, f_low, f_high, f_foundCount, f_built, a_text, a_starts, a_query, a_order, a_rank, a_second, a_column, a_smaller, a_counted, a_sample, a_shared, a_found) (nI (dt_s L d + p)) := by
  unfold wpX_numberOf
  dsimp only
  have hb := ok.1
  have hN := dt_N65 ok
  have hq := dt_in (L := L) hd hp
  refine xb_dof h ok hd hp ?_
  obtain ⟨e1, e2, h3, h4, h5, h6⟩ := h
  refine ⟨vp_in_nI (by omega) (by omega), ?_⟩
  rw [nI_clamp (by omega), h5 d hd, ga_64, nI_add, pk_sub (by omega), show 64 * d + (dt_s L d + p) - dt_s L d = 64 * d + p from by omega]
  exact k
end
end
section
/-! X: sortBy -/
section
variable {f_docs f_size f_asked f_low f_high f_foundCount f_built : Int32} {a_text a_starts a_query a_order a_rank a_second a_column a_smaller a_counted a_sample a_shared a_found : Nat → Int32}
variable {N h : Nat} {T o r : Nat → Nat}
theorem xs_ne1 : ¬ (1 : Int32) = 0 := by decide
theorem xs_mm : (-1 : Int32) ≤ -1 := by decide
theorem xs_mn {a : Nat} (h : a < 2 ^ 31) : (-1 : Int32) ≤ nI a := Int32.le_of_lt (ga_mlt a h)
theorem xs_cb (hs : f_size = nI N) (hN : N ≤ 65) (hr : rp_A a_rank r N) (hrb : ∀ a, a < N → r a < 100) (hT : ∀ i, i < N → T i < 10) (h0 : 0 < h) (hh : h ≤ 64) (I : so_I T N h r) {a b : Nat} (ha : a < N) (hb : b < N) {post : Int32 → Prop}
    (k1 : kv_v T N (h + h) a < kv_v T N (h + h) b → post 1) (k0 : ¬ kv_v T N (h + h) a < kv_v T N (h + h) b → post 0) : wpX_comesBefore post (f_docs, f_size, f_asked, f_low, f_high, f_foundCount, f_built, a_text, a_starts, a_query, a_order, a_rank, a_second, a_column, a_smaller, a_counted, a_sample, a_shared, a_found) (nI a) (nI b) (nI h) := by
  rw [so_cmp hT h0 I ha hb] at k1 k0
  have b1 := hrb a ha
  have b2 := hrb b hb
  unfold wpX_comesBefore
  dsimp only
  refine ⟨vp_in_nI (by omega) (by omega), vp_in_nI (by omega) (by omega), ?_⟩
  refine pk_eq (r a) (r b) (fun e => ?_) (fun e => ?_) (rp_at hr ha (by omega)) (rp_at hr hb (by omega))
  · refine pk_le N (a + h) (fun y => ?_) (fun y => ?_) hs (nI_add a h)
    · unfold wX_comesBefore_58
      refine pk_le N (b + h) (fun w => ?_) (fun w => ?_) hs (nI_add b h)
      · unfold wX_comesBefore_82
        exact br_t xs_mm (k0 (by omega))
      · have b3 := hrb (b + h) w
        refine ⟨pk_in (b + h) 65 (by omega) (nI_add b h), ?_⟩
        unfold wX_comesBefore_82
        rw [nI_add, rp_at hr w (by omega)]
        exact br_f (ga_mle _ (by omega)) (k1 (by omega))
    · have b4 := hrb (a + h) y
      refine ⟨pk_in (a + h) 65 (by omega) (nI_add a h), ?_⟩
      rw [nI_add, rp_at hr y (by omega)]
      unfold wX_comesBefore_58
      refine pk_le N (b + h) (fun w => ?_) (fun w => ?_) hs (nI_add b h)
      · unfold wX_comesBefore_82
        exact br_t (xs_mn (by omega)) (k0 (by omega))
      · have b3 := hrb (b + h) w
        refine ⟨pk_in (b + h) 65 (by omega) (nI_add b h), ?_⟩
        unfold wX_comesBefore_82
        rw [nI_add, rp_at hr w (by omega)]
        exact pk_le (r (b + h)) (r (a + h)) (fun v => k0 (by omega)) (fun v => k1 (by omega))
  · refine ⟨vp_in_nI (by omega) (by omega), vp_in_nI (by omega) (by omega), ?_⟩
    exact pk_le (r b) (r a) (fun v => k0 (by omega)) (fun v => k1 (by omega)) (rp_at hr hb (by omega)) (rp_at hr ha (by omega))
theorem xs_ins {post : SX → Prop} {J2 : Int32 → (Nat → Int32) → (Nat → Int32) → (Nat → Int32) → (Nat → Int32) → (Nat → Int32) → (Nat → Int32) → (Nat → Int32) → (Nat → Int32) → (Nat → Int32) → (Nat → Int32) → (Nat → Int32) → (Nat → Int32) →  Prop} (hs : f_size = nI N) (hN : N ≤ 65) (hr : rp_A a_rank r N) (hrb : ∀ a, a < N → r a < 100) (hT : ∀ i, i < N → T i < 10) (h0 : 0 < h) (hh : h ≤ 64) (I : so_I T N h r)
    (hP : pm_P N o) {i : Nat} (hi : i < N) {x2 : Int32}
    (k : ∀ (m : Nat) (b : Nat → Int32), m ≤ i → rp_A b (so_in o i m) N → (∀ j, m ≤ j → j < i → kv_v T N (h + h) (o i) < kv_v T N (h + h) (o j)) → (m = 0 ∨ ¬ kv_v T N (h + h) (o i) < kv_v T N (h + h) (o (m - 1))) → J2 (x2 + 1) a_text a_starts a_query b a_rank a_second a_column a_smaller a_counted a_sample a_shared a_found) :
    ∀ (n m : Nat) (a_order : Nat → Int32), m < n → m ≤ i → rp_A a_order (so_sh o i m) N → (∀ j, m ≤ j → j < i → kv_v T N (h + h) (o i) < kv_v T N (h + h) (o j)) → wX_sortBy_20 post J2 (nI h) x2 (nI (o i)) f_docs f_size f_asked f_low f_high f_foundCount f_built n (nI m) a_text a_starts a_query a_order a_rank a_second a_column a_smaller a_counted a_sample a_shared a_found := by
  intro n
  induction n with
  | zero => intro m _ z; omega
  | succ n ih =>
    intro m a_order hmn hmi hrep hlt
    have hend : rp_A (upd a_order (nI m).toNatClampNeg (nI (o i))) (so_in o i m) N := by
      rw [nI_clamp (by omega)]
      exact rp_cg (rp_up hrep) (fun j _ => so_inu j)
    refine pk_le m 0 (fun z => ?_) (fun z => ?_)
    · exact ⟨vp_in_nI (by omega) (by omega), nm_e (nm_e (k m _ hmi hend hlt (Or.inl (by omega))))⟩
    · rw [ga_s1 z, rp_at hrep (show m - 1 < N from by omega) (by omega), so_shk (show m - 1 ≤ m from by omega)]
      refine ⟨vp_in_nI (by omega) (by omega), ?_⟩
      refine xs_cb hs hN hr hrb hT h0 hh I (hP.1 i hi) (hP.1 (m - 1) (by omega)) (fun y => ?_) (fun y => ?_)
      · refine br_f xs_ne1 ⟨vp_in_nI (by omega) (by omega), vp_in_nI (by omega) (by omega), nm_e (nm_r (ga_m1 z) ?_)⟩
        refine ih (m - 1) _ (by omega) (by omega) ?_ ?_
        · rw [nI_clamp (by omega)]
          refine rp_cg (rp_up hrep) (fun j _ => ?_)
          obtain ⟨m', rfl⟩ : ∃ m', m = m' + 1 := ⟨m - 1, by omega⟩
          exact so_shn (by omega) j
        · intro j hj1 hj2
          by_cases e : j = m - 1
          · rw [e]; exact y
          · exact hlt j (by omega) hj2
      · exact br_t rfl ⟨vp_in_nI (by omega) (by omega), nm_e (nm_e (k m _ hmi hend hlt (Or.inr y)))⟩
theorem xs_s2 {post : SX → Prop} (hs : f_size = nI N) (hN : N ≤ 65) (hr : rp_A a_rank r N) (hrb : ∀ a, a < N → r a < 100) (hT : ∀ i, i < N → T i < 10) (h0 : 0 < h) (hh : h ≤ 64) (I : so_I T N h r)
    (k : ∀ (o' : Nat → Nat) (b : Nat → Int32), pm_P N o' → so_S (kv_v T N (h + h)) o' N → rp_A b o' N → ∃ n83, wX_sortBy_83 post (nI h) f_docs f_size f_asked f_low f_high f_foundCount f_built n83 0 0 a_text a_starts a_query b a_rank a_second a_column a_smaller a_counted a_sample a_shared a_found) :
    ∀ (n i : Nat) (o : Nat → Nat) (a_order : Nat → Int32), N - i < n → i ≤ N → pm_P N o → so_S (kv_v T N (h + h)) o i → rp_A a_order o N → wX_sortBy_2 post (nI h) f_docs f_size f_asked f_low f_high f_foundCount f_built n (nI i) a_text a_starts a_query a_order a_rank a_second a_column a_smaller a_counted a_sample a_shared a_found := by
  intro n
  induction n with
  | zero => intro i _ _ z; omega
  | succ n ih =>
    intro i o a_order hin hi hP hS hrep
    refine pk_le N i (fun z => ?_) (fun z => ?_) hs
    · have e : i = N := by omega
      subst e
      exact k o a_order hP hS hrep
    · refine ⟨vp_in_nI (by omega) (by omega), nm_r (rp_at hrep z (by omega)) ⟨i + 1, ?_⟩⟩
      refine xs_ins hs hN hr hrb hT h0 hh I hP z (fun m b hm hb h1 h2 => ?_) (i + 1) i a_order (by omega) (by omega) (rp_cg hrep (fun j _ => (so_sh0 o i j).symm)) (fun j a b => by omega)
      rw [nI_1]
      exact ih (i + 1) (so_in o i m) b (by omega) (by omega) (so_pm hP z hm) (so_srt hS hm h1 h2) hb
theorem xs_120 {post : SX → Prop} {J : Int32 → Int32 → (Nat → Int32) → (Nat → Int32) → (Nat → Int32) → (Nat → Int32) → (Nat → Int32) → (Nat → Int32) → (Nat → Int32) → (Nat → Int32) → (Nat → Int32) → (Nat → Int32) → (Nat → Int32) → (Nat → Int32) →  Prop} (hN : N ≤ 65) (ho : rp_A a_order o N) (hP : pm_P N o) {i : Nat} (hi : i < N) {x1 x2 : Int32} (k : J x2 (nI (i + 1)) a_text a_starts a_query a_order a_rank (upd a_second (o i) x2) a_column a_smaller a_counted a_sample a_shared a_found) : wX_sortBy_120 post J x1 x2 (nI i) f_docs f_size f_asked f_low f_high f_foundCount f_built a_text a_starts a_query a_order a_rank a_second a_column a_smaller a_counted a_sample a_shared a_found := by
  unfold wX_sortBy_120
  have := hP.1 i hi
  rw [rp_at ho hi (by omega)]
  refine ⟨vp_in_nI (by omega) (by omega), vp_in_nI (by omega) (by omega), nm_e (nm_r (nI_1 i) ?_)⟩
  rw [nI_clamp (by omega)]
  exact k
theorem xs_83 {post : SX → Prop} (hs : f_size = nI N) (hN : N ≤ 65) (hr : rp_A a_rank r N) (hrb : ∀ a, a < N → r a < 100) (hT : ∀ i, i < N → T i < 10) (h0 : 0 < h) (hh : h ≤ 64) (I : so_I T N h r) (hP : pm_P N o) (ho : rp_A a_order o N)
    (k : ∀ (b : Nat → Int32), (∀ j, j < N → b (o j) = nI (so_rk (kv_v T N (h + h)) o j)) → ∃ n140, wX_sortBy_140 post f_docs f_size f_asked f_low f_high f_foundCount f_built n140 0 a_text a_starts a_query a_order a_rank b a_column a_smaller a_counted a_sample a_shared a_found) :
    ∀ (n i : Nat) (a_second : Nat → Int32), N - i < n → i ≤ N → (∀ j, j < i → a_second (o j) = nI (so_rk (kv_v T N (h + h)) o j)) → wX_sortBy_83 post (nI h) f_docs f_size f_asked f_low f_high f_foundCount f_built n (nI (so_rk (kv_v T N (h + h)) o (i - 1))) (nI i) a_text a_starts a_query a_order a_rank a_second a_column a_smaller a_counted a_sample a_shared a_found := by
  intro n
  induction n with
  | zero => intro i _ z; omega
  | succ n ih =>
    intro i a_second hin hi hsec
    refine pk_le N i (fun z => ?_) (fun z => ?_) hs
    · have e : i = N := by omega
      subst e
      exact k a_second hsec
    · have hnext : wX_sortBy_83 post (nI h) f_docs f_size f_asked f_low f_high f_foundCount f_built n (nI (so_rk (kv_v T N (h + h)) o i)) (nI (i + 1)) a_text a_starts a_query a_order a_rank (upd a_second (o i) (nI (so_rk (kv_v T N (h + h)) o i))) a_column a_smaller a_counted a_sample a_shared a_found := by
        refine ih (i + 1) _ (by omega) (by omega) (fun j hj => ?_)
        by_cases e : j = i
        · rw [e, pk_us]
        · rw [pk_un (fun y => e (hP.2 j i (by omega) z y))]
          exact hsec j (by omega)
      refine pk_le i 0 (fun y => ?_) (fun y => ?_)
      · have e : i = 0 := by omega
        subst e
        exact xs_120 hN ho hP z hnext
      · rw [ga_s1 y, rp_at ho z (by omega), rp_at ho (show i - 1 < N from by omega) (by omega)]
        refine ⟨vp_in_nI (by omega) (by omega), vp_in_nI (by omega) (by omega), ?_⟩
        have hrk : so_rk (kv_v T N (h + h)) o i = so_rk (kv_v T N (h + h)) o (i - 1) + (if kv_v T N (h + h) (o (i - 1)) < kv_v T N (h + h) (o i) then 1 else 0) := by
          obtain ⟨i', rfl⟩ : ∃ i', i = i' + 1 := ⟨i - 1, by omega⟩
          exact so_rkS _ _ _
        refine xs_cb hs hN hr hrb hT h0 hh I (hP.1 (i - 1) (by omega)) (hP.1 i z) (fun w => ?_) (fun w => ?_)
        · refine br_f xs_ne1 (nm_r (e' := nI (so_rk (kv_v T N (h + h)) o i)) (by rw [nI_1, hrk, if_pos w]) ?_)
          exact xs_120 hN ho hP z hnext
        · rw [if_neg w, Nat.add_zero] at hrk
          rw [hrk] at hnext
          exact br_t rfl (xs_120 hN ho hP z hnext)
theorem xs_140 {post : SX → Prop} (hs : f_size = nI N) (hN : N ≤ 65) (k : ∀ b : Nat → Int32, (∀ j, j < N → b j = a_second j) → post (f_docs, f_size, f_asked, f_low, f_high, f_foundCount, f_built, a_text, a_starts, a_query, a_order, b, a_second, a_column, a_smaller, a_counted, a_sample, a_shared, a_found)) :
    ∀ (n i : Nat) (a_rank : Nat → Int32), N - i < n → i ≤ N → (∀ j, j < i → a_rank j = a_second j) → wX_sortBy_140 post f_docs f_size f_asked f_low f_high f_foundCount f_built n (nI i) a_text a_starts a_query a_order a_rank a_second a_column a_smaller a_counted a_sample a_shared a_found := by
  intro n
  induction n with
  | zero => intro i _ z; omega
  | succ n ih =>
    intro i a_rank hin hi hsec
    refine pk_le N i (fun z => ?_) (fun z => ?_) hs
    · have e : i = N := by omega
      subst e
      exact k a_rank hsec
    · refine ⟨vp_in_nI (by omega) (by omega), vp_in_nI (by omega) (by omega), nm_e (nm_r (nI_1 i) ?_)⟩
      refine ih (i + 1) _ (by omega) (by omega) (fun j hj => ?_)
      rw [nI_clamp (by omega)]
      by_cases e : j = i
      · rw [e, pk_us]
      · rw [pk_un e]; exact hsec j (by omega)
theorem xs_sort {post : SX → Prop} (hs : f_size = nI N) (hN : N ≤ 65) (hN1 : 1 ≤ N) (hr : rp_A a_rank r N) (hrb : ∀ a, a < N → r a < 100) (hT : ∀ i, i < N → T i < 10) (h0 : 0 < h) (hh : h ≤ 64) (I : so_I T N h r) (hP : pm_P N o) (ho : rp_A a_order o N)
    (k : ∀ (o' r' : Nat → Nat) (b c d : Nat → Int32), pm_P N o' → so_S (kv_v T N (h + h)) o' N → rp_A b o' N → rp_A c r' N → (∀ a, a < N → r' a < 100) → (∀ i, i < N → r' (o' i) = so_rk (kv_v T N (h + h)) o' i) → post (f_docs, f_size, f_asked, f_low, f_high, f_foundCount, f_built, a_text, a_starts, a_query, b, c, d, a_column, a_smaller, a_counted, a_sample, a_shared, a_found)) : wpX_sortBy post (f_docs, f_size, f_asked, f_low, f_high, f_foundCount, f_built, a_text, a_starts, a_query, a_order, a_rank, a_second, a_column, a_smaller, a_counted, a_sample, a_shared, a_found) (nI h) := by
  unfold wpX_sortBy
  dsimp only
  refine ⟨N + 1, ?_⟩
  refine xs_s2 hs hN hr hrb hT h0 hh I ?_ (N + 1) 1 o a_order (by omega) hN1 hP (fun a b h1 h2 => by omega) ho
  intro o' b hP' hS' hb
  refine ⟨N + 1, ?_⟩
  refine xs_83 hs hN hr hrb hT h0 hh I hP' hb ?_ (N + 1) 0 a_second (by omega) (by omega) (fun j hj => by omega)
  intro d hd
  refine ⟨N + 1, ?_⟩
  refine xs_140 hs hN ?_ (N + 1) 0 a_rank (by omega) (by omega) (fun j hj => by omega)
  intro c hc
  have key : ∀ i, i < N → c (o' i) = nI (so_rk (kv_v T N (h + h)) o' i) := fun i hi => by
    rw [hc _ (hP'.1 i hi), hd i hi]
  refine k o' (fun a => (c a).toNatClampNeg) b c d hP' hS' hb ?_ ?_ ?_
  · intro a ha
    obtain ⟨i, hi, rfl⟩ := pm_sur hP' ha
    have := so_rkle (kv_v T N (h + h)) o' i
    show c (o' i) = nI (c (o' i)).toNatClampNeg
    rw [key i hi, nI_clamp (by omega)]
  · intro a ha
    obtain ⟨i, hi, rfl⟩ := pm_sur hP' ha
    have := so_rkle (kv_v T N (h + h)) o' i
    show (c (o' i)).toNatClampNeg < 100
    rw [key i hi, nI_clamp (by omega)]
    omega
  · intro i hi
    have := so_rkle (kv_v T N (h + h)) o' i
    show (c (o' i)).toNatClampNeg = _
    rw [key i hi, nI_clamp (by omega)]
end
end
section
/-! X: fillColumn -/
section
variable {f_docs f_size f_asked f_low f_high f_foundCount f_built : Int32} {a_text a_starts a_query a_order a_rank a_second a_column a_smaller a_counted a_sample a_shared a_found : Nat → Int32}
variable {N : Nat} {T o r : Nat → Nat}
theorem xc_2 {post : SX → Prop} (k : ∀ b : Nat → Int32, (∀ s, s < 11 → b s = 0) → ∃ n23, wX_fillColumn_23 post f_docs f_size f_asked f_low f_high f_foundCount f_built n23 0 a_text a_starts a_query a_order a_rank a_second a_column b a_counted a_sample a_shared a_found) :
    ∀ (n s : Nat) (a_smaller : Nat → Int32), 11 - s < n → s ≤ 11 → (∀ t, t < s → a_smaller t = 0) → wX_fillColumn_2 post f_docs f_size f_asked f_low f_high f_foundCount f_built n (nI s) a_text a_starts a_query a_order a_rank a_second a_column a_smaller a_counted a_sample a_shared a_found := by
  intro n
  induction n with
  | zero => intro s _ z; omega
  | succ n ih =>
    intro s a_smaller h1 h2 h3
    refine pk_lt 10 s (fun z => k a_smaller (fun t ht => h3 t (by omega))) (fun z => ?_)
    refine ⟨vp_in_nI (by omega) (by omega), nm_e (nm_r (nI_1 s) (ih (s + 1) _ (by omega) (by omega) (fun t ht => ?_)))⟩
    rw [nI_clamp (by omega)]
    by_cases e : t = s
    · rw [e, pk_us]
    · rw [pk_un e]; exact h3 t (by omega)
theorem xc_23 {post : SX → Prop} (hs : f_size = nI N) (hN : N ≤ 65) (ht : rp_A a_text T N) (hT : ∀ i, i < N → T i < 10)
    (k : ∀ b : Nat → Int32, rp_A b (fun s => cn_c (fun j => T j + 1 = s) N) 11 → ∃ n56, wX_fillColumn_56 post f_docs f_size f_asked f_low f_high f_foundCount f_built n56 1 a_text a_starts a_query a_order a_rank a_second a_column b a_counted a_sample a_shared a_found) :
    ∀ (n i : Nat) (a_smaller : Nat → Int32), N - i < n → i ≤ N → rp_A a_smaller (fun s => cn_c (fun j => T j + 1 = s) i) 11 → wX_fillColumn_23 post f_docs f_size f_asked f_low f_high f_foundCount f_built n (nI i) a_text a_starts a_query a_order a_rank a_second a_column a_smaller a_counted a_sample a_shared a_found := by
  intro n
  induction n with
  | zero => intro s _ z; omega
  | succ n ih =>
    intro i a_smaller h1 h2 h3
    refine pk_le N i (fun z => ?_) (fun z => ?_) hs
    · have e : i = N := by omega
      subst e
      exact k a_smaller h3
    · have hb := hT i z
      rw [rp_at ht z (by omega), nI_1]
      refine ⟨vp_in_nI (by omega) (by omega), vp_in_nI (by omega) (by omega), vp_in_nI (by omega) (by omega), nm_e (nm_r (nI_1 i) ?_)⟩
      refine ih (i + 1) _ (by omega) (by omega) ?_
      rw [rp_at h3 (show T i + 1 < 11 from by omega) (by omega), nI_1, nI_clamp (by omega)]
      refine rp_cg (rp_up h3) (fun s hs' => ?_)
      by_cases e : s = T i + 1
      · rw [e, rp_us]
        exact (cn_t (p := fun j => T j + 1 = T i + 1) rfl).symm
      · rw [rp_un e]
        exact (cn_f (p := fun j => T j + 1 = s) (fun y => e y.symm)).symm
theorem xc_56 {post : SX → Prop} (k : ∀ b : Nat → Int32, rp_A b (fun s => cn_c (fun q => T q < s) N) 11 → ∃ n87, wX_fillColumn_87 post f_docs f_size f_asked f_low f_high f_foundCount f_built n87 0 a_text a_starts a_query a_order a_rank a_second a_column b a_counted a_sample a_shared a_found) :
    ∀ (n s : Nat) (a_smaller : Nat → Int32), 11 - s < n → 1 ≤ s → s ≤ 11 → rp_A a_smaller (fun t => if t < s then cn_c (fun q => T q < t) N else cn_c (fun q => T q + 1 = t) N) 11 → wX_fillColumn_56 post f_docs f_size f_asked f_low f_high f_foundCount f_built n (nI s) a_text a_starts a_query a_order a_rank a_second a_column a_smaller a_counted a_sample a_shared a_found := by
  intro n
  induction n with
  | zero => intro s _ z; omega
  | succ n ih =>
    intro s a_smaller h1 h1' h2 h3
    refine pk_lt 10 s (fun z => k a_smaller (rp_cg h3 (fun t ht => if_pos (by omega)))) (fun z => ?_)
    rw [ga_s1 (show 0 < s from h1'), rp_at h3 (show s < 11 from by omega) (by omega), rp_at h3 (show s - 1 < 11 from by omega) (by omega), nI_add]
    refine ⟨vp_in_nI (by omega) (by omega), vp_in_nI (by omega) (by omega), vp_in_nI (by omega) (by omega), nm_e (nm_r (nI_1 s) (ih (s + 1) _ (by omega) (by omega) (by omega) ?_))⟩
    rw [nI_clamp (by omega)]
    refine rp_cg (rp_up h3) (fun t ht => ?_)
    by_cases e : t = s
    · subst e
      rw [rp_us]
      rw [if_neg (Nat.lt_irrefl t), if_pos (show t - 1 < t from by omega), if_pos (show t < t + 1 from by omega), ← cn_or]
      · exact cn_cg (fun q _ => ⟨fun y => by omega, fun y => by omega⟩)
      · intro q _ y w; omega
    · rw [rp_un e]
      by_cases e2 : t < s
      · rw [if_pos e2, if_pos (by omega)]
      · rw [if_neg e2, if_neg (by omega)]
theorem xc_121 {post : SX → Prop} {J : Int32 → (Nat → Int32) → (Nat → Int32) → (Nat → Int32) → (Nat → Int32) → (Nat → Int32) → (Nat → Int32) → (Nat → Int32) → (Nat → Int32) → (Nat → Int32) → (Nat → Int32) → (Nat → Int32) → (Nat → Int32) →  Prop} (hN : N ≤ 65) (ht : rp_A a_text T N) (ho : rp_A a_order o N) (hP : pm_P N o) {i z : Nat} (hi : i < N) (hz : z < N)
    (k : J (nI (i + 1)) a_text a_starts a_query a_order a_rank a_second (upd a_column i (nI (T z))) a_smaller a_counted (upd a_sample i (if o i % 4 = 0 then nI (o i) else -1)) a_shared a_found) : wX_fillColumn_121 post J (nI i) (nI z) f_docs f_size f_asked f_low f_high f_foundCount f_built a_text a_starts a_query a_order a_rank a_second a_column a_smaller a_counted a_sample a_shared a_found := by
  unfold wX_fillColumn_121
  have hb := hP.1 i hi
  have hin : vp_in (nI i) 65 := vp_in_nI (by omega) (by omega)
  refine ⟨vp_in_nI (by omega) (by omega), hin, nm_e ⟨hin, by decide, ?_⟩⟩
  rw [rp_at ho hi (by omega), rp_at ht hz (by omega), nI_clamp (show i < 2 ^ 31 from by omega)]
  refine pk_eq (o i % 4) 0 (fun y => ?_) (fun y => ?_) (ga_r4 (by omega))
  · refine ⟨hin, hin, nm_e (nm_r (nI_1 i) ?_)⟩
    rw [if_pos y] at k
    exact k
  · refine ⟨hin, nm_e (nm_r (nI_1 i) ?_)⟩
    rw [if_neg y] at k
    exact k
theorem xc_87 {post : SX → Prop} (hs : f_size = nI N) (hN : N ≤ 65) (hN1 : 1 ≤ N) (ht : rp_A a_text T N) (ho : rp_A a_order o N) (hP : pm_P N o)
    (k : ∀ b c : Nat → Int32, rp_A b (fi_col T N o) N → (∀ i, i < N → c i = if o i % 4 = 0 then nI (o i) else -1) → ∃ n169, wX_fillColumn_169 post f_docs f_size f_asked f_low f_high f_foundCount f_built n169 0 a_text a_starts a_query a_order a_rank a_second b a_smaller a_counted c a_shared a_found) :
    ∀ (n i : Nat) (a_column a_sample : Nat → Int32), N - i < n → i ≤ N → rp_A a_column (fi_col T N o) i → (∀ j, j < i → a_sample j = if o j % 4 = 0 then nI (o j) else -1) → wX_fillColumn_87 post f_docs f_size f_asked f_low f_high f_foundCount f_built n (nI i) a_text a_starts a_query a_order a_rank a_second a_column a_smaller a_counted a_sample a_shared a_found := by
  intro n
  induction n with
  | zero => intro s _ _ z; omega
  | succ n ih =>
    intro i a_column a_sample h1 h2 h3 h4
    refine pk_le N i (fun z => ?_) (fun z => ?_) hs
    · have e : i = N := by omega
      subst e
      exact k a_column a_sample h3 h4
    · have hb := hP.1 i z
      have hin : vp_in (nI i) 65 := vp_in_nI (by omega) (by omega)
      have step : ∀ w, fi_col T N o i = T w → wX_fillColumn_87 post f_docs f_size f_asked f_low f_high f_foundCount f_built n (nI (i + 1)) a_text a_starts a_query a_order a_rank a_second (upd a_column i (nI (T w))) a_smaller a_counted (upd a_sample i (if o i % 4 = 0 then nI (o i) else -1)) a_shared a_found := by
        intro w hw
        refine ih (i + 1) _ _ (by omega) (by omega) (fun j hj => ?_) (fun j hj => ?_)
        · by_cases e : j = i
          · rw [e, pk_us, hw]
          · rw [pk_un e]; exact h3 j (by omega)
        · by_cases e : j = i
          · rw [e, pk_us]
          · rw [pk_un e]; exact h4 j (by omega)
      refine ⟨hin, ?_⟩
      refine pk_eq (o i) 0 (fun y => ?_) (fun y => ?_) (rp_at ho z (by omega))
      · rw [hs, ga_s1 hN1, ← hs]
        refine xc_121 hN ht ho hP z (show N - 1 < N from by omega) (step (N - 1) ?_)
        unfold fi_col; rw [if_pos y]
      · refine ⟨hin, ?_⟩
        rw [rp_at ho z (by omega), ga_s1 (by omega)]
        refine xc_121 hN ht ho hP z (show o i - 1 < N from by omega) (step (o i - 1) ?_)
        unfold fi_col; rw [if_neg y]
theorem xc_209 {post : SX → Prop} {J : Int32 → (Nat → Int32) → (Nat → Int32) → (Nat → Int32) → (Nat → Int32) → (Nat → Int32) → (Nat → Int32) → (Nat → Int32) → (Nat → Int32) → (Nat → Int32) → (Nat → Int32) → (Nat → Int32) → (Nat → Int32) →  Prop} {J2 : Int32 → Int32 → (Nat → Int32) → (Nat → Int32) → (Nat → Int32) → (Nat → Int32) → (Nat → Int32) → (Nat → Int32) → (Nat → Int32) → (Nat → Int32) → (Nat → Int32) → (Nat → Int32) → (Nat → Int32) → (Nat → Int32) →  Prop} (hN : N ≤ 65) (hc : rp_A a_column (fi_col T N o) N) (hcb : ∀ i, i < N → fi_col T N o i < 10) {s i : Nat} (hs10 : s < 10) (hi : i < N)
    (k : J2 (nI (cn_c (fun i => fi_col T N o i = s) (i + 1))) (nI (i + 1)) a_text a_starts a_query a_order a_rank a_second a_column a_smaller a_counted a_sample a_shared a_found) : wX_fillColumn_209 post J J2 (nI s) (nI (cn_c (fun i => fi_col T N o i = s) i)) (nI i) f_docs f_size f_asked f_low f_high f_foundCount f_built a_text a_starts a_query a_order a_rank a_second a_column a_smaller a_counted a_sample a_shared a_found := by
  unfold wX_fillColumn_209
  have hb := hcb i hi
  refine ⟨vp_in_nI (by omega) (by omega), ?_⟩
  refine pk_eq (fi_col T N o i) s (fun y => ?_) (fun y => ?_) (rp_at hc hi (by omega))
  · rw [cn_t (p := fun i => fi_col T N o i = s) y] at k
    exact nm_r (nI_1 _) (nm_r (nI_1 _) k)
  · rw [cn_f (p := fun i => fi_col T N o i = s) y] at k
    exact nm_r (ga_p0 _) (nm_r (nI_1 _) k)
def xc_D (N : Nat) (T o : Nat → Nat) (s i : Nat) (a_counted : Nat → Int32) : Prop := ∀ s' b, s' < 10 → 8 * b < N → (s' < s ∨ (s' = s ∧ 8 * b < i)) → a_counted (10 * b + s') = nI (cn_c (fun i => fi_col T N o i = s') (8 * b))
theorem xc_179 {post : SX → Prop} {J : Int32 → (Nat → Int32) → (Nat → Int32) → (Nat → Int32) → (Nat → Int32) → (Nat → Int32) → (Nat → Int32) → (Nat → Int32) → (Nat → Int32) → (Nat → Int32) → (Nat → Int32) → (Nat → Int32) → (Nat → Int32) →  Prop} (hs : f_size = nI N) (hN : N ≤ 65) (hc : rp_A a_column (fi_col T N o) N) (hcb : ∀ i, i < N → fi_col T N o i < 10) {s : Nat} (hs10 : s < 10)
    (k : ∀ b : Nat → Int32, xc_D N T o s N b → J (nI (s + 1)) a_text a_starts a_query a_order a_rank a_second a_column a_smaller b a_sample a_shared a_found) :
    ∀ (n i : Nat) (a_counted : Nat → Int32), N - i < n → i ≤ N → xc_D N T o s i a_counted → wX_fillColumn_179 post J (nI s) f_docs f_size f_asked f_low f_high f_foundCount f_built n (nI (cn_c (fun i => fi_col T N o i = s) i)) (nI i) a_text a_starts a_query a_order a_rank a_second a_column a_smaller a_counted a_sample a_shared a_found := by
  intro n
  induction n with
  | zero => intro s _ z; omega
  | succ n ih =>
    intro i a_counted h1 h2 h3
    refine pk_le N i (fun z => ?_) (fun z => ?_) hs
    · have e : i = N := by omega
      subst e
      exact nm_r (nI_1 s) (k a_counted h3)
    · refine ⟨by decide, ?_⟩
      refine pk_eq (i % 8) 0 (fun y => ?_) (fun y => ?_) (ga_r8 (by omega))
      · have e1 : (10 : Int32) * (nI i / 8) + nI s = nI (10 * (i / 8) + s) := by
          rw [ga_d8 (by omega), ga_10, nI_add]
        rw [e1]
        refine ⟨by decide, vp_in_nI (by omega) (by omega), nm_e ?_⟩
        refine xc_209 hN hc hcb hs10 z (ih (i + 1) _ (by omega) (by omega) ?_)
        rw [nI_clamp (by omega)]
        intro s' b hs' hb h4
        by_cases e : 10 * b + s' = 10 * (i / 8) + s
        · have e2 : s' = s := by omega
          have e3 : 8 * b = i := by omega
          rw [e, pk_us, e2, e3]
        · rw [pk_un e]
          refine h3 s' b hs' hb ?_
          by_cases e2 : s' < s
          · exact Or.inl e2
          · refine Or.inr ⟨by omega, ?_⟩
            by_cases e3 : 8 * b = i
            · exfalso; apply e; omega
            · omega
      · refine xc_209 hN hc hcb hs10 z (ih (i + 1) _ (by omega) (by omega) ?_)
        intro s' b hs' hb h4
        refine h3 s' b hs' hb ?_
        by_cases e2 : s' < s
        · exact Or.inl e2
        · refine Or.inr ⟨by omega, ?_⟩
          by_cases e3 : 8 * b = i
          · exfalso; apply y; omega
          · omega
theorem xc_169 {post : SX → Prop} (hs : f_size = nI N) (hN : N ≤ 65) (hc : rp_A a_column (fi_col T N o) N) (hcb : ∀ i, i < N → fi_col T N o i < 10)
    (k : ∀ b : Nat → Int32, (∀ s b', s < 10 → 8 * b' < N → b (10 * b' + s) = nI (cn_c (fun i => fi_col T N o i = s) (8 * b'))) → post (f_docs, f_size, f_asked, f_low, f_high, f_foundCount, f_built, a_text, a_starts, a_query, a_order, a_rank, a_second, a_column, a_smaller, b, a_sample, a_shared, a_found)) :
    ∀ (n s : Nat) (a_counted : Nat → Int32), 10 - s < n → s ≤ 10 → xc_D N T o s 0 a_counted → wX_fillColumn_169 post f_docs f_size f_asked f_low f_high f_foundCount f_built n (nI s) a_text a_starts a_query a_order a_rank a_second a_column a_smaller a_counted a_sample a_shared a_found := by
  intro n
  induction n with
  | zero => intro s _ z; omega
  | succ n ih =>
    intro s a_counted h1 h2 h3
    refine pk_le 10 s (fun z => k a_counted (fun s' b' hs' hb' => h3 s' b' hs' hb' (Or.inl (by omega)))) (fun z => ?_)
    refine ⟨N + 1, ?_⟩
    refine xc_179 hs hN hc hcb z (fun b hb => ih (s + 1) b (by omega) (by omega) ?_) (N + 1) 0 a_counted (by omega) (by omega) h3
    intro s' b' hs' hb' h4
    exact hb s' b' hs' hb' (by omega)
theorem xc_fill {post : SX → Prop} (hs : f_size = nI N) (hN : N ≤ 65) (hN1 : 1 ≤ N) (ht : rp_A a_text T N) (hT : ∀ i, i < N → T i < 10) (ho : rp_A a_order o N) (hP : pm_P N o)
    (k : ∀ b1 b2 b3 b4 : Nat → Int32, rp_A b1 (fi_col T N o) N → rp_A b2 (fun s => cn_c (fun q => T q < s) N) 11 → (∀ s b', s < 10 → 8 * b' < N → b3 (10 * b' + s) = nI (cn_c (fun i => fi_col T N o i = s) (8 * b'))) → (∀ i, i < N → b4 i = if o i % 4 = 0 then nI (o i) else -1) → post (f_docs, f_size, f_asked, f_low, f_high, f_foundCount, f_built, a_text, a_starts, a_query, a_order, a_rank, a_second, b1, b2, b3, b4, a_shared, a_found)) : wpX_fillColumn post (f_docs, f_size, f_asked, f_low, f_high, f_foundCount, f_built, a_text, a_starts, a_query, a_order, a_rank, a_second, a_column, a_smaller, a_counted, a_sample, a_shared, a_found) := by
  have hcb : ∀ i, i < N → fi_col T N o i < 10 := by
    intro i hi
    have hb := hP.1 i hi
    unfold fi_col
    split
    · exact hT _ (by omega)
    · exact hT _ (by omega)
  unfold wpX_fillColumn
  dsimp only
  refine ⟨12, xc_2 (fun b hb => ⟨N + 1, ?_⟩) 12 0 a_smaller (by omega) (by omega) (fun t ht => by omega)⟩
  refine xc_23 hs hN ht hT (fun b hb => ⟨12, ?_⟩) (N + 1) 0 b (by omega) (by omega) (fun s hs' => hb s hs')
  refine xc_56 (T := T) (N := N) (fun b hb => ⟨N + 1, ?_⟩) 12 1 b (by omega) (by omega) (by omega) ?_
  · refine xc_87 hs hN hN1 ht ho hP (fun b1 c hb1 hc => ⟨11, ?_⟩) (N + 1) 0 _ _ (by omega) (by omega) (fun j hj => by omega) (fun j hj => by omega)
    refine xc_169 hs hN hb1 hcb (fun b3 hb3 => ?_) 11 0 a_counted (by omega) (by omega) (fun s' b' _ _ h4 => by omega)
    exact k b1 b b3 c hb1 hb hb3 hc
  · refine rp_cg hb (fun t ht' => ?_)
    by_cases e : t < 1
    · rw [if_pos e]
      have e0 : t = 0 := by omega
      subst e0
      rw [cn_z (fun q _ y => by omega), cn_z (fun q _ y => by omega)]
    · rw [if_neg e]
end
end
section
/-! X: fillShared, build -/
section
variable {f_docs f_size f_asked f_low f_high f_foundCount f_built : Int32} {a_text a_starts a_query a_order a_rank a_second a_column a_smaller a_counted a_sample a_shared a_found : Nat → Int32}
variable {N : Nat} {T o r : Nat → Nat}
theorem xd_104 {post : SX → Prop} {J : Int32 → Int32 → (Nat → Int32) → (Nat → Int32) → (Nat → Int32) → (Nat → Int32) → (Nat → Int32) → (Nat → Int32) → (Nat → Int32) → (Nat → Int32) → (Nat → Int32) → (Nat → Int32) → (Nat → Int32) → (Nat → Int32) →  Prop} (hN : N ≤ 65) (hr : rp_A a_rank r N) (hrb : ∀ a, a < N → r a < N) {a l : Nat} (ha : a < N) (hl : l ≤ N)
    (k : J (nI (l - 1)) (nI (a + 1)) a_text a_starts a_query a_order a_rank a_second a_column a_smaller a_counted a_sample (upd a_shared (r a) (nI l)) a_found) : wX_fillShared_104 post J (nI l) (nI a) f_docs f_size f_asked f_low f_high f_foundCount f_built a_text a_starts a_query a_order a_rank a_second a_column a_smaller a_counted a_sample a_shared a_found := by
  unfold wX_fillShared_104
  have hb := hrb a ha
  rw [rp_at hr ha (by omega), nI_clamp (show r a < 2 ^ 31 from by omega)]
  refine ⟨vp_in_nI (by omega) (by omega), vp_in_nI (by omega) (by omega), nm_e ?_⟩
  refine pk_le l 0 (fun z => ?_) (fun z => ?_)
  · refine nm_r (nI_1 a) ?_
    have e : l = 0 := by omega
    subst e
    exact k
  · exact nm_r (ga_s1 z) (nm_r (nI_1 a) k)
theorem xd_47 {post : SX → Prop} {J : Int32 → Int32 → (Nat → Int32) → (Nat → Int32) → (Nat → Int32) → (Nat → Int32) → (Nat → Int32) → (Nat → Int32) → (Nat → Int32) → (Nat → Int32) → (Nat → Int32) → (Nat → Int32) → (Nat → Int32) → (Nat → Int32) →  Prop} (hs : f_size = nI N) (hN : N ≤ 65) (ht : rp_A a_text T N) (hT : ∀ i, i < N → T i < 10) {a b : Nat} (ha : a < N) (hb : b < N)
    (k : wX_fillShared_104 post J (nI (lc_l T N b a)) (nI a) f_docs f_size f_asked f_low f_high f_foundCount f_built a_text a_starts a_query a_order a_rank a_second a_column a_smaller a_counted a_sample a_shared a_found) :
    ∀ (n l : Nat), lc_l T N b a - l < n → l ≤ lc_l T N b a → wX_fillShared_47 post J (nI a) (nI b) f_docs f_size f_asked f_low f_high f_foundCount f_built a_text a_starts a_query a_order a_rank a_second a_column a_smaller a_counted a_sample a_shared a_found n (nI l) := by
  intro n
  induction n with
  | zero => intro l z; omega
  | succ n ih =>
    intro l h1 h2
    have hl := lc_leN (T := T) (N := N) b a
    have c : l < lc_l T N b a → lc_C T N (b + l) (a + l) := fun z => lc_iff.mp (Nat.le_refl _) l z
    have out : ¬ lc_C T N (b + l) (a + l) → wX_fillShared_104 post J (nI l) (nI a) f_docs f_size f_asked f_low f_high f_foundCount f_built a_text a_starts a_query a_order a_rank a_second a_column a_smaller a_counted a_sample a_shared a_found := by
      intro z
      have e : l = lc_l T N b a := by
        by_cases e : l < lc_l T N b a
        · exact absurd (c e) z
        · omega
      rw [e]; exact k
    refine pk_le N (a + l) (fun z => out (fun y => ?_)) (fun z => ?_) hs (nI_add a l)
    · have := y.2.1; omega
    refine pk_le N (b + l) (fun z2 => out (fun y => ?_)) (fun z2 => ?_) hs (nI_add b l)
    · have := y.1; omega
    have t1 := hT _ z
    have t2 := hT _ z2
    rw [nI_add, nI_add, rp_at ht z (by omega), rp_at ht z2 (by omega)]
    refine ⟨vp_in_nI (by omega) (by omega), ?_⟩
    refine pk_lt (T (a + l)) 5 (fun z3 => out (fun y => ?_)) (fun z3 => ?_)
    · have h3 := y.2.2; omega
    refine ⟨vp_in_nI (by omega) (by omega), vp_in_nI (by omega) (by omega), ?_⟩
    refine pk_eq (T (a + l)) (T (b + l)) (fun z4 => ?_) (fun z4 => out (fun y => ?_))
    · refine nm_r (nI_1 l) (ih (l + 1) ?_ ?_)
      · have : l + 1 ≤ lc_l T N b a := by
          rw [lc_iff]
          intro j hj
          by_cases e : j = l
          · subst e; exact ⟨z2, z, by omega, z4.symm⟩
          · exact lc_iff.mp h2 j (by omega)
        omega
      · rw [lc_iff]
        intro j hj
        by_cases e : j = l
        · subst e; exact ⟨z2, z, by omega, z4.symm⟩
        · exact lc_iff.mp h2 j (by omega)
    · have h3 := y.2.2.2; omega
theorem xd_4 {post : SX → Prop} (hs : f_size = nI N) (hN : N ≤ 65) (ht : rp_A a_text T N) (hT : ∀ i, i < N → T i < 10) (O : so_O T N o r) (ho : rp_A a_order o N) (hr : rp_A a_rank r N)
    (k : ∀ b : Nat → Int32, rp_A b (df_sh T N o) N → post (f_docs, f_size, f_asked, f_low, f_high, f_foundCount, f_built, a_text, a_starts, a_query, a_order, a_rank, a_second, a_column, a_smaller, a_counted, a_sample, b, a_found)) :
    ∀ (n l a : Nat) (a_shared : Nat → Int32), N - a < n → a ≤ N → l ≤ N → (∀ q, q < a → a_shared (r q) = nI (df_sh T N o (r q))) → (a < N → r a ≠ 0 → l ≤ lc_l T N (o (r a - 1)) a) → wX_fillShared_4 post f_docs f_size f_asked f_low f_high f_foundCount f_built n (nI l) (nI a) a_text a_starts a_query a_order a_rank a_second a_column a_smaller a_counted a_sample a_shared a_found := by
  intro n
  induction n with
  | zero => intro l a _ z; omega
  | succ n ih =>
    intro l a a_shared h1 h2 h3 h4 h5
    refine pk_le N a (fun z => ?_) (fun z => ?_) hs
    · have e : a = N := by omega
      subst e
      refine k a_shared (fun i hi => ?_)
      have := h4 (o i) (O.1.1 i hi)
      rw [O.2.1 i hi] at this
      exact this
    · have hra := O.2.2.1 a z
      have inj : ∀ q, q < N → r q = r a → q = a := fun q hq e => by
        rw [← (O.2.2.1 q hq).2, e, hra.2]
      refine ⟨vp_in_nI (by omega) (by omega), ?_⟩
      refine pk_eq (r a) 0 (fun y => ?_) (fun y => ?_) (rp_at hr z (by omega))
      · refine nm_e (nm_r (nI_1 a) (ih 0 (a + 1) _ (by omega) (by omega) (by omega) (fun q hq => ?_) (fun _ _ => Nat.zero_le _)))
        by_cases e : q = a
        · rw [e, y, pk_us]
          unfold df_sh
          rw [if_pos rfl]; rfl
        · rw [pk_un (fun w => e (inj q (by omega) (by omega)))]
          exact h4 q (by omega)
      · rw [rp_at hr z (by omega), ga_s1 (by omega)]
        refine ⟨vp_in_nI (by omega) (by omega), vp_in_nI (by omega) (by omega), nm_r (rp_at ho (show r a - 1 < N from by omega) (by omega)) ⟨N + 1, ?_⟩⟩
        have hl := lc_leN (T := T) (N := N) (o (r a - 1)) a
        refine xd_47 hs hN ht hT z (O.1.1 _ (by omega)) ?_ (N + 1) l (by omega) (h5 z y)
        refine xd_104 hN hr (fun q hq => (O.2.2.1 q hq).1) z hl (ih _ (a + 1) _ (by omega) (by omega) (by omega) (fun q hq => ?_) (fun w1 w2 => ?_))
        · by_cases e : q = a
          · rw [e, pk_us]
            unfold df_sh
            rw [if_neg y, hra.2]
          · rw [pk_un (fun w => e (inj q (by omega) w))]
            exact h4 q (by omega)
        · exact df_kas hT (by omega) O w1 w2 y
theorem xd_fill {post : SX → Prop} (hs : f_size = nI N) (hN : N ≤ 65) (ht : rp_A a_text T N) (hT : ∀ i, i < N → T i < 10) (O : so_O T N o r) (ho : rp_A a_order o N) (hr : rp_A a_rank r N)
    (k : ∀ b : Nat → Int32, rp_A b (df_sh T N o) N → post (f_docs, f_size, f_asked, f_low, f_high, f_foundCount, f_built, a_text, a_starts, a_query, a_order, a_rank, a_second, a_column, a_smaller, a_counted, a_sample, b, a_found)) : wpX_fillShared post (f_docs, f_size, f_asked, f_low, f_high, f_foundCount, f_built, a_text, a_starts, a_query, a_order, a_rank, a_second, a_column, a_smaller, a_counted, a_sample, a_shared, a_found) := by
  unfold wpX_fillShared
  dsimp only
  exact ⟨N + 1, xd_4 hs hN ht hT O ho hr k (N + 1) 0 0 a_shared (by omega) (by omega) (by omega) (fun q hq => by omega) (fun _ _ => Nat.zero_le _)⟩
theorem xd_50 {post : SX → Prop} (hs : f_size = nI N) (hN : N ≤ 65) (hN1 : 1 ≤ N) (ht : rp_A a_text T N) (hT : ∀ i, i < N → T i < 10)
    (k : ∀ (o r : Nat → Nat) (b1 b2 b3 b4 b5 b6 b7 b8 : Nat → Int32), so_O T N o r → rp_A b1 o N → rp_A b2 r N → rp_A b4 (fi_col T N o) N → rp_A b5 (fun s => cn_c (fun q => T q < s) N) 11 → (∀ s b', s < 10 → 8 * b' < N → b6 (10 * b' + s) = nI (cn_c (fun i => fi_col T N o i = s) (8 * b'))) → (∀ i, i < N → b7 i = if o i % 4 = 0 then nI (o i) else -1) → rp_A b8 (df_sh T N o) N →
      post (f_docs, f_size, f_asked, f_low, f_high, f_foundCount, f_built, a_text, a_starts, a_query, b1, b2, b3, b4, b5, b6, b7, b8, a_found)) :
    ∀ (e n h : Nat) (o r : Nat → Nat) (a_order a_rank a_second : Nat → Int32), e < n → h * 2 ^ e = 128 → pm_P N o → rp_A a_order o N → rp_A a_rank r N → (∀ a, a < N → r a < 100) → so_I T N h r → (h = 128 → so_O T N o r) → wX_build_50 post n (nI h) f_docs f_size f_asked f_low f_high f_foundCount f_built a_text a_starts a_query a_order a_rank a_second a_column a_smaller a_counted a_sample a_shared a_found := by
  intro e
  induction e with
  | zero =>
    intro n h o r a_order a_rank a_second hn hh hP ho hr hrb I hO
    obtain ⟨n, rfl⟩ : ∃ m, n = m + 1 := ⟨n - 1, by omega⟩
    have e1 : h = 128 := by omega
    subst e1
    have O := hO rfl
    refine pk_lt 64 128 (fun _ => ?_) (fun z => by omega)
    refine xc_fill hs hN hN1 ht hT ho hP (fun b1 b2 b3 b4 h1 h2 h3 h4 => ?_)
    refine xd_fill hs hN ht hT O ho hr (fun b h5 => ?_)
    exact k o r a_order a_rank a_second b1 b2 b3 b4 b O ho hr h1 h2 h3 h4 h5
  | succ e ih =>
    intro n h o r a_order a_rank a_second hn hh hP ho hr hrb I hO
    obtain ⟨n, rfl⟩ : ∃ m, n = m + 1 := ⟨n - 1, by omega⟩
    rw [Nat.pow_succ] at hh
    have hp : 0 < 2 ^ e := Nat.two_pow_pos e
    have hh2 : (2 * h) * 2 ^ e = 128 := by rw [← hh, Nat.mul_comm 2 h, Nat.mul_assoc, Nat.mul_comm 2]
    have h64 : 2 * h ≤ 128 := by
      have := Nat.le_mul_of_pos_right (2 * h) hp
      omega
    have h0 : 0 < h := by
      by_cases z : h = 0
      · subst z; omega
      · omega
    refine pk_lt 64 h (fun z => by omega) (fun z => ?_)
    refine xs_sort hs hN hN1 hr hrb hT h0 z I hP ho (fun o' r' b c d hP' hS' hb hc hcb hrk => ?_)
    refine nm_r (ga_2 h) (ih n (2 * h) o' r' b c d (by omega) hh2 hP' hb hc hcb ?_ ?_)
    · rw [Nat.two_mul]; exact so_In hP' hS' hrk
    · intro z2
      have e2 : h + h = 128 := by omega
      rw [e2] at hS' hrk
      exact so_end hT (by omega) hP' hS' hrk
theorem xd_15 {post : SX → Prop} (hs : f_size = nI N) (hN : N ≤ 65) (ht : rp_A a_text T N)
    (k : ∀ b c : Nat → Int32, rp_A b (fun i => i) N → rp_A c T N → ∃ n50, wX_build_50 post n50 1 f_docs f_size f_asked f_low f_high f_foundCount f_built a_text a_starts a_query b c a_second a_column a_smaller a_counted a_sample a_shared a_found) :
    ∀ (n i : Nat) (a_order a_rank : Nat → Int32), N - i < n → i ≤ N → rp_A a_order (fun i => i) i → rp_A a_rank T i → wX_build_15 post f_docs f_size f_asked f_low f_high f_foundCount f_built n (nI i) a_text a_starts a_query a_order a_rank a_second a_column a_smaller a_counted a_sample a_shared a_found := by
  intro n
  induction n with
  | zero => intro i _ _ z; omega
  | succ n ih =>
    intro i a_order a_rank h1 h2 h3 h4
    refine pk_le N i (fun z => ?_) (fun z => ?_) hs
    · have e : i = N := by omega
      subst e
      exact k a_order a_rank h3 h4
    · have hin : vp_in (nI i) 65 := vp_in_nI (by omega) (by omega)
      rw [rp_at ht z (by omega), nI_clamp (by omega)]
      refine ⟨hin, nm_e ⟨hin, hin, nm_e (nm_r (nI_1 i) (ih (i + 1) _ _ (by omega) (by omega) (fun j hj => ?_) (fun j hj => ?_)))⟩⟩
      · by_cases e : j = i
        · rw [e, pk_us]
        · rw [pk_un e]; exact h3 j (by omega)
      · by_cases e : j = i
        · rw [e, pk_us]
        · rw [pk_un e]; exact h4 j (by omega)
end
section
variable {f_docs f_size f_asked f_low f_high f_foundCount f_built : Int32} {a_text a_starts a_query a_order a_rank a_second a_column a_smaller a_counted a_sample a_shared a_found : Nat → Int32}
variable {D A : Nat} {L T Q : Nat → Nat}
theorem xb_build {post : SX → Prop} (h : xa_T D L T A Q (f_docs, f_size, f_asked, f_low, f_high, f_foundCount, f_built, a_text, a_starts, a_query, a_order, a_rank, a_second, a_column, a_smaller, a_counted, a_sample, a_shared, a_found)) (hB : xa_B D L T (f_docs, f_size, f_asked, f_low, f_high, f_foundCount, f_built, a_text, a_starts, a_query, a_order, a_rank, a_second, a_column, a_smaller, a_counted, a_sample, a_shared, a_found)) (ok : dt_ok T D L)
    (k : ∀ (o r : Nat → Nat) (b1 b2 b3 b4 b5 b6 b7 b8 : Nat → Int32), xa_X D L T o r (f_docs, f_size, f_asked, f_low, f_high, f_foundCount, 1, a_text, a_starts, a_query, b1, b2, b3, b4, b5, b6, b7, b8, a_found) → post (f_docs, f_size, f_asked, f_low, f_high, f_foundCount, 1, a_text, a_starts, a_query, b1, b2, b3, b4, b5, b6, b7, b8, a_found)) : wpX_build post (f_docs, f_size, f_asked, f_low, f_high, f_foundCount, f_built, a_text, a_starts, a_query, a_order, a_rank, a_second, a_column, a_smaller, a_counted, a_sample, a_shared, a_found) := by
  unfold wpX_build
  dsimp only
  have hN := dt_N65 ok
  have hN1 := dt_N1 ok
  have hT := dt_T10 ok
  obtain ⟨e1, e2, h3, h4, h5, h6⟩ := h
  rcases hB with z | ⟨z, o, r, hX⟩
  · refine br_t z ⟨dt_s L D + 1, ?_⟩
    refine xd_15 e2 hN h4 (fun b c hb hc => ⟨8, ?_⟩) (dt_s L D + 1) 0 a_order a_rank (by omega) (by omega) (fun j hj => by omega) (fun j hj => by omega)
    refine xd_50 e2 hN hN1 h4 hT ?_ 7 8 1 (fun i => i) T b c a_second (by omega) (by decide) ⟨fun i hi => hi, fun i j _ _ e => e⟩ hb hc (fun a ha => by have := hT a ha; omega) (so_I1 T _) (fun z => by omega)
    intro o r b1 b2 b3 b4 b5 b6 b7 b8 O g1 g2 g4 g5 g6 g7 g8
    exact k o r b1 b2 b3 b4 b5 b6 b7 b8 ⟨O, g1, g2, g4, g5, g6, g7, g8⟩
  · refine br_f (by rw [z]; exact xs_ne1) ?_
    subst z
    exact k o r a_order a_rank a_second a_column a_smaller a_counted a_sample a_shared hX
end
end
section
/-! X: occurs, extend, search -/
section
variable {f_docs f_size f_asked f_low f_high f_foundCount f_built : Int32} {a_text a_starts a_query a_order a_rank a_second a_column a_smaller a_counted a_sample a_shared a_found : Nat → Int32}
variable {D A : Nat} {L T Q o r : Nat → Nat}
theorem xe_colb (ok : dt_ok T D L) (X : xa_X D L T o r (f_docs, f_size, f_asked, f_low, f_high, f_foundCount, f_built, a_text, a_starts, a_query, a_order, a_rank, a_second, a_column, a_smaller, a_counted, a_sample, a_shared, a_found)) : ∀ i, i < dt_s L D → fi_col T (dt_s L D) o i < 10 := by
  intro i hi
  have hb := X.1.1.1 i hi
  have hT := dt_T10 ok
  unfold fi_col
  split
  · exact hT _ (by omega)
  · exact hT _ (by omega)
theorem xe_42 {post : Int32 → Prop} (ok : dt_ok T D L) (X : xa_X D L T o r (f_docs, f_size, f_asked, f_low, f_high, f_foundCount, f_built, a_text, a_starts, a_query, a_order, a_rank, a_second, a_column, a_smaller, a_counted, a_sample, a_shared, a_found)) {s x : Nat} (hs : s < 10) (hx : x ≤ dt_s L D) (k : post (nI (cn_c (fun i => fi_col T (dt_s L D) o i = s) x))) :
    ∀ n i : Nat, x - i < n → i ≤ x → wX_occurs_42 post (nI s) (nI x) f_docs f_size f_asked f_low f_high f_foundCount f_built a_text a_starts a_query a_order a_rank a_second a_column a_smaller a_counted a_sample a_shared a_found n (nI (cn_c (fun i => fi_col T (dt_s L D) o i = s) i)) (nI i) := by
  have hN := dt_N65 ok
  have hcb := xe_colb ok X
  obtain ⟨O, ho, hr, hc, hsm, hcd, hsa, hsh⟩ := X
  intro n
  induction n with
  | zero => intro i z; omega
  | succ n ih =>
    intro i h1 h2
    refine pk_le x i (fun z => ?_) (fun z => ?_)
    · have e : i = x := by omega
      rw [e]; exact k
    · have hb := hcb i (by omega)
      refine ⟨vp_in_nI (by omega) (by omega), ?_⟩
      have ih' := ih (i + 1) (by omega) (by omega)
      refine pk_eq (fi_col T (dt_s L D) o i) s (fun y => ?_) (fun y => ?_) (rp_at hc (show i < dt_s L D from by omega) (by omega))
      · rw [cn_t (p := fun i => fi_col T (dt_s L D) o i = s) y] at ih'
        exact nm_r (nI_1 _) (nm_r (nI_1 _) ih')
      · rw [cn_f (p := fun i => fi_col T (dt_s L D) o i = s) y] at ih'
        exact nm_r (ga_p0 _) (nm_r (nI_1 _) ih')
theorem xe_23 {post : Int32 → Prop} (ok : dt_ok T D L) (X : xa_X D L T o r (f_docs, f_size, f_asked, f_low, f_high, f_foundCount, f_built, a_text, a_starts, a_query, a_order, a_rank, a_second, a_column, a_smaller, a_counted, a_sample, a_shared, a_found)) {s x b : Nat} (hs : s < 10) (hx : x ≤ dt_s L D) (hb : 8 * b < dt_s L D) (hbx : 8 * b ≤ x) (k : post (nI (cn_c (fun i => fi_col T (dt_s L D) o i = s) x))) : wX_occurs_23 post (nI s) (nI x) (nI b) f_docs f_size f_asked f_low f_high f_foundCount f_built a_text a_starts a_query a_order a_rank a_second a_column a_smaller a_counted a_sample a_shared a_found := by
  have hN := dt_N65 ok
  unfold wX_occurs_23
  rw [ga_10, nI_add, ga_8]
  refine ⟨vp_in_nI (by omega) (by omega), ?_⟩
  rw [nI_clamp (by omega)]
  refine nm_r (X.2.2.2.2.2.1 s b hs hb) (nm_e ⟨x + 1, ?_⟩)
  exact xe_42 ok X hs hx k (x + 1) (8 * b) (by omega) hbx
theorem xb_occ {post : Int32 → Prop} (h : xa_T D L T A Q (f_docs, f_size, f_asked, f_low, f_high, f_foundCount, f_built, a_text, a_starts, a_query, a_order, a_rank, a_second, a_column, a_smaller, a_counted, a_sample, a_shared, a_found)) (ok : dt_ok T D L) (X : xa_X D L T o r (f_docs, f_size, f_asked, f_low, f_high, f_foundCount, f_built, a_text, a_starts, a_query, a_order, a_rank, a_second, a_column, a_smaller, a_counted, a_sample, a_shared, a_found)) {s x : Nat} (hs : s < 10) (hx : x ≤ dt_s L D) (k : post (nI (cn_c (fun i => fi_col T (dt_s L D) o i = s) x))) : wpX_occurs post (f_docs, f_size, f_asked, f_low, f_high, f_foundCount, f_built, a_text, a_starts, a_query, a_order, a_rank, a_second, a_column, a_smaller, a_counted, a_sample, a_shared, a_found) (nI s) (nI x) := by
  have hN := dt_N65 ok
  have hN1 := dt_N1 ok
  unfold wpX_occurs
  dsimp only
  refine ⟨by decide, nm_r (ga_d8 (by omega)) ?_⟩
  refine pk_eq x (dt_s L D) (fun z => ?_) (fun z => ?_) rfl h.2.1
  · refine ⟨by decide, ?_⟩
    refine pk_eq (x % 8) 0 (fun y => ?_) (fun y => ?_) (ga_r8 (by omega))
    · refine nm_r (ga_m1 (by omega)) ?_
      exact xe_23 ok X hs hx (by omega) (by omega) k
    · exact xe_23 ok X hs hx (by omega) (by omega) k
  · exact xe_23 ok X hs hx (by omega) (by omega) k
theorem xb_ext {post : SX → Prop} (h : xa_T D L T A Q (f_docs, f_size, f_asked, f_low, f_high, f_foundCount, f_built, a_text, a_starts, a_query, a_order, a_rank, a_second, a_column, a_smaller, a_counted, a_sample, a_shared, a_found)) (ok : dt_ok T D L) (X : xa_X D L T o r (f_docs, f_size, f_asked, f_low, f_high, f_foundCount, f_built, a_text, a_starts, a_query, a_order, a_rank, a_second, a_column, a_smaller, a_counted, a_sample, a_shared, a_found)) {lo hi c : Nat} (hc : c < 5) (hlo : f_low = nI lo) (hhi : f_high = nI hi) (hl : lo ≤ dt_s L D) (hh : hi ≤ dt_s L D)
    (k1 : lo < hi → post (f_docs, f_size, f_asked, nI (cn_c (fun q => T q < c + 5) (dt_s L D) + cn_c (fun i => fi_col T (dt_s L D) o i = c + 5) lo), nI (cn_c (fun q => T q < c + 5) (dt_s L D) + cn_c (fun i => fi_col T (dt_s L D) o i = c + 5) hi), f_foundCount, f_built, a_text, a_starts, a_query, a_order, a_rank, a_second, a_column, a_smaller, a_counted, a_sample, a_shared, a_found)) (k0 : hi ≤ lo → post (f_docs, f_size, f_asked, f_low, f_high, f_foundCount, f_built, a_text, a_starts, a_query, a_order, a_rank, a_second, a_column, a_smaller, a_counted, a_sample, a_shared, a_found)) : wpX_extend post (f_docs, f_size, f_asked, f_low, f_high, f_foundCount, f_built, a_text, a_starts, a_query, a_order, a_rank, a_second, a_column, a_smaller, a_counted, a_sample, a_shared, a_found) (nI c) := by
  have hN := dt_N65 ok
  unfold wpX_extend
  dsimp only
  refine nm_r (ga_p5 c) ?_
  refine pk_lt lo hi (fun z => ?_) k0 hlo hhi
  subst hlo hhi
  refine xb_occ h ok X (by omega) hl ?_
  refine xb_occ h ok X (by omega) hh ?_
  have hin : vp_in (nI (c + 5)) 11 := vp_in_nI (by omega) (by omega)
  have hsm := rp_at X.2.2.2.2.1 (show c + 5 < 11 from by omega) (by omega)
  rw [hsm, nI_add, nI_add]
  exact ⟨hin, nm_e ⟨hin, nm_e (k1 z)⟩⟩
theorem xe_s8 {post : SX → Prop} {m : Nat} (h : xa_T D L T A Q (f_docs, f_size, f_asked, f_low, f_high, f_foundCount, f_built, a_text, a_starts, a_query, a_order, a_rank, a_second, a_column, a_smaller, a_counted, a_sample, a_shared, a_found)) (ok : dt_ok T D L) (X : xa_X D L T o r (f_docs, f_size, f_asked, f_low, f_high, f_foundCount, f_built, a_text, a_starts, a_query, a_order, a_rank, a_second, a_column, a_smaller, a_counted, a_sample, a_shared, a_found)) (hm : m ≤ A) (hA : A ≤ 8) (hQ : ∀ i, i < A → Q i < 5)
    (k : ∀ lo hi, fi_W T (dt_s L D) o Q lo hi 0 m → post (f_docs, f_size, f_asked, nI lo, nI hi, f_foundCount, f_built, a_text, a_starts, a_query, a_order, a_rank, a_second, a_column, a_smaller, a_counted, a_sample, a_shared, a_found)) :
    ∀ n i lo hi : Nat, i < n → i ≤ m → fi_W T (dt_s L D) o Q lo hi i m → wX_search_8 post 0 n (nI i + (-1)) f_docs f_size f_asked (nI lo) (nI hi) f_foundCount f_built a_text a_starts a_query a_order a_rank a_second a_column a_smaller a_counted a_sample a_shared a_found := by
  have hN := dt_N65 ok
  have hN1 := dt_N1 ok
  have hT := dt_T10 ok
  have hl : T (dt_s L D - 1) < 5 := by rw [dt_last ok]; have := ok.1; omega
  intro n
  induction n with
  | zero => intro i _ _ z; omega
  | succ n ih =>
    intro i lo hi h1 h2 w
    by_cases e : i = 0
    · subst e
      exact br_t (by decide) (k lo hi w)
    · rw [ga_m1 (by omega)]
      refine br_f (nI_pos (by omega)) ⟨vp_in_nI (by omega) (by omega), ?_⟩
      rw [rp_at h.2.2.2.2.2 (show i - 1 < A from by omega) (by omega)]
      have hi1 : i - 1 + 1 = i := by omega
      have w' : fi_W T (dt_s L D) o Q lo hi (i - 1 + 1) m := by rw [hi1]; exact w
      refine xb_ext (show xa_T D L T A Q (f_docs, f_size, f_asked, nI lo, nI hi, f_foundCount, f_built, a_text, a_starts, a_query, a_order, a_rank, a_second, a_column, a_smaller, a_counted, a_sample, a_shared, a_found) from h) ok X (hQ (i - 1) (by omega)) rfl rfl (Nat.le_trans w.1 w.2.1) w.2.1 (fun z => ?_) (fun z => ?_)
      · refine nm_e (ih (i - 1) _ _ (by omega) (by omega) ?_)
        exact fi_Wx X.1 hT hl (by omega) (by omega) w' z
      · refine nm_e (ih (i - 1) _ _ (by omega) (by omega) ?_)
        exact fi_We X.1 (by omega) (by omega) w' z
theorem xb_start {post : SX → Prop} (h : xa_T D L T A Q (f_docs, f_size, f_asked, f_low, f_high, f_foundCount, f_built, a_text, a_starts, a_query, a_order, a_rank, a_second, a_column, a_smaller, a_counted, a_sample, a_shared, a_found)) (hB : xa_B D L T (f_docs, f_size, f_asked, f_low, f_high, f_foundCount, f_built, a_text, a_starts, a_query, a_order, a_rank, a_second, a_column, a_smaller, a_counted, a_sample, a_shared, a_found)) (ok : dt_ok T D L)
    (k : ∀ (o r : Nat → Nat) (b1 b2 b3 b4 b5 b6 b7 b8 : Nat → Int32), xa_X D L T o r (f_docs, f_size, f_asked, f_low, f_high, f_foundCount, 1, a_text, a_starts, a_query, b1, b2, b3, b4, b5, b6, b7, b8, a_found) → post (f_docs, f_size, f_asked, nI 0, nI (dt_s L D), f_foundCount, 1, a_text, a_starts, a_query, b1, b2, b3, b4, b5, b6, b7, b8, a_found)) : wpX_startSearch post (f_docs, f_size, f_asked, f_low, f_high, f_foundCount, f_built, a_text, a_starts, a_query, a_order, a_rank, a_second, a_column, a_smaller, a_counted, a_sample, a_shared, a_found) := by
  unfold wpX_startSearch
  dsimp only
  refine xb_build h hB ok (fun o r b1 b2 b3 b4 b5 b6 b7 b8 hX => ?_)
  have := k o r b1 b2 b3 b4 b5 b6 b7 b8 hX
  have e2 := h.2.1
  dsimp only
  rw [e2]
  rw [e2] at this
  exact this
theorem xb_search {post : SX → Prop} {m : Nat} (h : xa_T D L T A Q (f_docs, f_size, f_asked, f_low, f_high, f_foundCount, f_built, a_text, a_starts, a_query, a_order, a_rank, a_second, a_column, a_smaller, a_counted, a_sample, a_shared, a_found)) (hB : xa_B D L T (f_docs, f_size, f_asked, f_low, f_high, f_foundCount, f_built, a_text, a_starts, a_query, a_order, a_rank, a_second, a_column, a_smaller, a_counted, a_sample, a_shared, a_found)) (ok : dt_ok T D L) (hm : m ≤ A) (hA : A ≤ 8) (hQ : ∀ i, i < A → Q i < 5)
    (k : ∀ (o r : Nat → Nat) (b1 b2 b3 b4 b5 b6 b7 b8 : Nat → Int32) (lo hi : Nat), xa_X D L T o r (f_docs, f_size, f_asked, f_low, f_high, f_foundCount, 1, a_text, a_starts, a_query, b1, b2, b3, b4, b5, b6, b7, b8, a_found) → fi_W T (dt_s L D) o Q lo hi 0 m → post (f_docs, f_size, f_asked, nI lo, nI hi, f_foundCount, 1, a_text, a_starts, a_query, b1, b2, b3, b4, b5, b6, b7, b8, a_found)) : wpX_search post (f_docs, f_size, f_asked, f_low, f_high, f_foundCount, f_built, a_text, a_starts, a_query, a_order, a_rank, a_second, a_column, a_smaller, a_counted, a_sample, a_shared, a_found) 0 (nI m) := by
  unfold wpX_search
  dsimp only
  refine xb_start h hB ok (fun o r b1 b2 b3 b4 b5 b6 b7 b8 hX => ?_)
  refine nm_r (e' := nI m + (-1)) (Int32.sub_eq_add_neg _ _) ⟨m + 1, ?_⟩
  exact xe_s8 (post := post) (o := o) (r := r) (show xa_T D L T A Q (f_docs, f_size, f_asked, f_low, f_high, f_foundCount, 1, a_text, a_starts, a_query, b1, b2, b3, b4, b5, b6, b7, b8, a_found) from h) ok hX hm hA hQ (fun lo hi w => k o r b1 b2 b3 b4 b5 b6 b7 b8 lo hi hX w) (m + 1) m 0 (dt_s L D) (by omega) (by omega) (fi_W0 m)
end
end
section
/-! the places found, in order: pure -/
theorem so_srts {V o : Nat → Nat} {i k : Nat} (h : ∀ a b, a < b → b < i → V (o a) < V (o b)) (hk : k ≤ i) (h1 : ∀ j, k ≤ j → j < i → V (o i) < V (o j)) (h2 : k = 0 ∨ V (o (k - 1)) < V (o i)) : ∀ a b, a < b → b < i + 1 → V (so_in o i k a) < V (so_in o i k b) := by
  have h3 : ∀ j, j < k → V (o j) < V (o i) := by
    intro j hj
    rcases h2 with z | z
    · omega
    · by_cases e : j = k - 1
      · rw [e]; exact z
      · have := h j (k - 1) (by omega) (by omega); omega
  intro a b hab hb
  unfold so_in
  by_cases ea : a = k
  · subst ea
    rw [so_ck, so_cm hab (by omega)]
    exact h1 (b - 1) (by omega) (by omega)
  · by_cases za : k < a ∧ a ≤ i
    · rw [so_cm za.1 za.2, so_cm (by omega) (by omega)]
      exact h (a - 1) (b - 1) (by omega) (by omega)
    · rw [so_co ea za]
      by_cases eb : b = k
      · subst eb; rw [so_ck]; exact h3 a hab
      · by_cases zb : k < b ∧ b ≤ i
        · rw [so_cm zb.1 zb.2]
          by_cases e2 : b - 1 = a
          · exfalso; omega
          · exact h a (b - 1) (by omega) (by omega)
        · rw [so_co eb zb]
          exact h a b hab (by omega)
def fo_F (o f : Nat → Nat) (lo x fc : Nat) : Prop := fc = x - lo ∧ (∀ p : Nat → Prop, cn_c (fun i => p (f i)) fc = cn_c (fun j => p (o (lo + j))) (x - lo)) ∧ (∀ a b, a < b → b < fc → f a < f b)
theorem fo_0 (o f : Nat → Nat) (lo : Nat) : fo_F o f lo lo 0 := by
  refine ⟨by omega, fun p => ?_, fun a b _ z => by omega⟩
  rw [Nat.sub_self]; rfl
theorem fo_mem {o f : Nat → Nat} {lo x fc : Nat} (h : fo_F o f lo x fc) {i : Nat} (hi : i < fc) : ∃ j, j < x - lo ∧ f i = o (lo + j) := by
  by_cases e : ∃ j, j < x - lo ∧ f i = o (lo + j)
  · exact e
  · exfalso
    have h1 := h.2.1 (fun q => q = f i)
    rw [cn_z (n := x - lo) (fun j hj z => e ⟨j, hj, z.symm⟩)] at h1
    have h2 : 0 < cn_c (fun k => f k = f i) fc := cn_ex.mpr ⟨i, hi, rfl⟩
    omega
theorem fo_put {o f : Nat → Nat} {N lo x fc m : Nat} (P : pm_P N o) (h : fo_F o f lo x fc) (hlx : lo ≤ x) (hx : x < N) (hm : m ≤ fc) (h1 : ∀ j, m ≤ j → j < fc → o x < rp_u f fc (o x) j) (h2 : m = 0 ∨ ¬ o x < rp_u f fc (o x) (m - 1)) : fo_F o (so_in (rp_u f fc (o x)) fc m) lo (x + 1) (fc + 1) := by
  have e0 := h.1
  refine ⟨by omega, fun p => ?_, ?_⟩
  · have e1 : cn_c (fun i => p (so_in (rp_u f fc (o x)) fc m i)) (fc + 1) = cn_c (fun i => p (rp_u f fc (o x) i)) (fc + 1) :=
      pm_cn (so_pm (o := fun i => i) (n := fc + 1) ⟨fun i hi => hi, fun i j _ _ e => e⟩ (by omega) hm) (fun i => p (rp_u f fc (o x) i))
    rw [e1, cn_S, cn_cg (q := fun i => p (f i)) (fun i hi => by rw [rp_un (by omega)]), h.2.1 p, rp_us, show x + 1 - lo = (x - lo) + 1 from by omega, cn_S, show lo + (x - lo) = x from by omega]
  · have hne : ∀ j, j < fc → f j ≠ o x := by
      intro j hj e
      obtain ⟨j', hj', e'⟩ := fo_mem h hj
      have := P.2 (lo + j') x (by omega) hx (e'.symm.trans e)
      omega
    refine so_srts (V := fun q => q) (fun a b hab hb => ?_) hm (fun j hj1 hj2 => ?_) ?_
    · rw [rp_un (by omega), rp_un (by omega)]; exact h.2.2 a b hab hb
    · show rp_u f fc (o x) fc < _
      rw [rp_us]; exact h1 j hj1 hj2
    · rcases h2 with z | z
      · exact Or.inl z
      · by_cases e : m = 0
        · exact Or.inl e
        · refine Or.inr ?_
          show rp_u f fc (o x) (m - 1) < rp_u f fc (o x) fc
          rw [rp_us]
          rw [rp_un (show m - 1 ≠ fc from by omega)] at z ⊢
          have := hne (m - 1) (by omega)
          omega
/-! X: put, locate -/
section
variable {f_docs f_size f_asked f_low f_high f_foundCount f_built : Int32} {a_text a_starts a_query a_order a_rank a_second a_column a_smaller a_counted a_sample a_shared a_found : Nat → Int32}
variable {D A : Nat} {L T Q o r : Nat → Nat}
theorem xf_41 {post : SX → Prop} {g : Nat → Nat} {fc m : Nat} (hfc : fc < 65) (hc : f_foundCount = nI fc) (hm : m ≤ fc) (hrep : ∀ j, j < fc + 1 → j ≠ m → a_found j = nI (so_sh g fc m j))
    (k : ∀ b : Nat → Int32, rp_A b (so_in g fc m) (fc + 1) → post (f_docs, f_size, f_asked, f_low, f_high, nI (fc + 1), f_built, a_text, a_starts, a_query, a_order, a_rank, a_second, a_column, a_smaller, a_counted, a_sample, a_shared, b)) : wX_put_41 post (nI (g fc)) (nI m) f_docs f_size f_asked f_low f_high f_foundCount f_built a_text a_starts a_query a_order a_rank a_second a_column a_smaller a_counted a_sample a_shared a_found := by
  unfold wX_put_41
  refine ⟨vp_in_nI (by omega) (by omega), nm_e (nm_r (e' := nI (fc + 1)) (by rw [hc, nI_1]) (k _ (fun j hj => ?_)))⟩
  rw [nI_clamp (by omega), ← so_inu]
  by_cases e : j = m
  · rw [e, pk_us, rp_us]
  · rw [pk_un e, rp_un e]; exact hrep j hj e
theorem xf_5 {post : SX → Prop} {g : Nat → Nat} {fc : Nat} (hfc : fc < 65) (hc : f_foundCount = nI fc) (hg : ∀ j, j ≤ fc → g j < 100)
    (k : ∀ (m : Nat) (b : Nat → Int32), m ≤ fc → rp_A b (so_in g fc m) (fc + 1) → (∀ j, m ≤ j → j < fc → g fc < g j) → (m = 0 ∨ ¬ g fc < g (m - 1)) → post (f_docs, f_size, f_asked, f_low, f_high, nI (fc + 1), f_built, a_text, a_starts, a_query, a_order, a_rank, a_second, a_column, a_smaller, a_counted, a_sample, a_shared, b)) :
    ∀ (n m : Nat) (a_found : Nat → Int32), m < n → m ≤ fc → (∀ j, j < fc + 1 → j ≠ m → a_found j = nI (so_sh g fc m j)) → (∀ j, m ≤ j → j < fc → g fc < g j) → wX_put_5 post (nI (g fc)) f_docs f_size f_asked f_low f_high f_foundCount f_built n (nI m) a_text a_starts a_query a_order a_rank a_second a_column a_smaller a_counted a_sample a_shared a_found := by
  intro n
  induction n with
  | zero => intro m _ z; omega
  | succ n ih =>
    intro m a_found h1 h2 h3 h4
    refine pk_le m 0 (fun z => ?_) (fun z => ?_)
    · exact xf_41 hfc hc h2 h3 (fun b hb => k m b h2 hb h4 (Or.inl (by omega)))
    · have e1 : a_found (nI (m - 1)).toNatClampNeg = nI (g (m - 1)) := by
        rw [nI_clamp (by omega), h3 (m - 1) (by omega) (by omega), so_shk (by omega)]
      rw [ga_s1 z, e1]
      have hb1 := hg (m - 1) (by omega)
      have hb2 := hg fc (by omega)
      refine ⟨vp_in_nI (by omega) (by omega), ?_⟩
      refine pk_le (g (m - 1)) (g fc) (fun y => ?_) (fun y => ?_)
      · exact xf_41 hfc hc h2 h3 (fun b hb => k m b h2 hb h4 (Or.inr (by omega)))
      · refine ⟨vp_in_nI (by omega) (by omega), vp_in_nI (by omega) (by omega), nm_e (nm_r (ga_m1 z) (ih (m - 1) _ (by omega) (by omega) (fun j hj1 hj2 => ?_) (fun j hj1 hj2 => ?_)))⟩
        · obtain ⟨m', rfl⟩ : ∃ m', m = m' + 1 := ⟨m - 1, by omega⟩
          rw [nI_clamp (by omega), Nat.add_sub_cancel, ← so_shn (by omega)]
          by_cases e : j = m' + 1
          · rw [e, pk_us, rp_us]
          · rw [pk_un e, rp_un e]; exact h3 j hj1 e
        · by_cases e : j = m - 1
          · rw [e]; exact y
          · exact h4 j (by omega) hj2
theorem xf_put {post : SX → Prop} {f : Nat → Nat} {lo x fc N : Nat} (P : pm_P N o) (hN : N ≤ 65) (F : fo_F o f lo x fc) (hlx : lo ≤ x) (hx : x < N) (hc : f_foundCount = nI fc) (hf : rp_A a_found f fc)
    (k : ∀ (f' : Nat → Nat) (b : Nat → Int32), fo_F o f' lo (x + 1) (fc + 1) → rp_A b f' (fc + 1) → post (f_docs, f_size, f_asked, f_low, f_high, nI (fc + 1), f_built, a_text, a_starts, a_query, a_order, a_rank, a_second, a_column, a_smaller, a_counted, a_sample, a_shared, b)) : wpX_put post (f_docs, f_size, f_asked, f_low, f_high, f_foundCount, f_built, a_text, a_starts, a_query, a_order, a_rank, a_second, a_column, a_smaller, a_counted, a_sample, a_shared, a_found) (nI (o x)) := by
  have e0 := F.1
  have hox := P.1 x hx
  unfold wpX_put
  dsimp only
  refine ⟨fc + 1, ?_⟩
  have e1 : nI (o x) = nI (rp_u f fc (o x) fc) := by rw [rp_us]
  rw [e1, hc]
  rw [← hc]
  have e2 : wX_put_5 post (nI (rp_u f fc (o x) fc)) f_docs f_size f_asked f_low f_high f_foundCount f_built (fc + 1) (nI fc) a_text a_starts a_query a_order a_rank a_second a_column a_smaller a_counted a_sample a_shared a_found := by
    refine xf_5 (g := rp_u f fc (o x)) (by omega) hc (fun j hj => ?_) (fun m b hm hb h1 h2 => ?_) (fc + 1) fc a_found (by omega) (by omega) (fun j hj1 hj2 => ?_) (fun j a b => by omega)
    · by_cases e : j = fc
      · rw [e, rp_us]; omega
      · rw [rp_un e]
        obtain ⟨j', hj', e'⟩ := fo_mem F (show j < fc from by omega)
        rw [e']
        have := P.1 (lo + j') (by omega)
        omega
    · rw [rp_us] at h1 h2
      exact k _ b (fo_put P F hlx hx hm h1 h2) hb
    · rw [so_sh0, rp_un hj2]
      exact hf j (by omega)
  rw [hc] at e2 ⊢
  exact e2
theorem xf_31 {post : SX → Prop} {J : Int32 → Int32 → Int32 → Int32 → Int32 → Int32 → Int32 → Int32 → (Nat → Int32) → (Nat → Int32) → (Nat → Int32) → (Nat → Int32) → (Nat → Int32) → (Nat → Int32) → (Nat → Int32) → (Nat → Int32) → (Nat → Int32) → (Nat → Int32) → (Nat → Int32) → (Nat → Int32) →  Prop} {x1 : Int32} (h : xa_T D L T A Q (f_docs, f_size, f_asked, f_low, f_high, f_foundCount, f_built, a_text, a_starts, a_query, a_order, a_rank, a_second, a_column, a_smaller, a_counted, a_sample, a_shared, a_found)) (ok : dt_ok T D L) (X : xa_X D L T o r (f_docs, f_size, f_asked, f_low, f_high, f_foundCount, f_built, a_text, a_starts, a_query, a_order, a_rank, a_second, a_column, a_smaller, a_counted, a_sample, a_shared, a_found)) {v : Nat} (hv : v < dt_s L D)
    (k : ∀ t c, t < dt_s L D → o t % 4 = 0 → o t + c = v → wX_locate_80 post J x1 (nI t) (nI c) f_docs f_size f_asked f_low f_high f_foundCount f_built a_text a_starts a_query a_order a_rank a_second a_column a_smaller a_counted a_sample a_shared a_found) :
    ∀ n t c : Nat, o t < n → t < dt_s L D → o t + c = v → wX_locate_31 post J x1 f_docs f_size f_asked f_low f_high f_foundCount f_built a_text a_starts a_query a_order a_rank a_second a_column a_smaller a_counted a_sample a_shared a_found n (nI t) (nI c) := by
  have hN := dt_N65 ok
  have hT := dt_T10 ok
  have hcb := xe_colb ok X
  intro n
  induction n with
  | zero => intro t c z; omega
  | succ n ih =>
    intro t c h1 h2 h3
    have hsa := X.2.2.2.2.2.2.1 t h2
    have hin : vp_in (nI t) 65 := vp_in_nI (by omega) (by omega)
    refine ⟨hin, ?_⟩
    rw [nI_clamp (show t < 2 ^ 31 from by omega), hsa]
    by_cases e : o t % 4 = 0
    · rw [if_pos e]
      exact br_t (nI_pos' (by omega)) (k t c h2 e h3)
    · rw [if_neg e]
      refine br_f ga_m1le ?_
      refine pk_le 65 c (fun z => by omega) (fun z => ?_)
      have hot := X.1.1.1 t h2
      have hcol : fi_col T (dt_s L D) o t = T (o t - 1) := by
        unfold fi_col; rw [if_neg (by intro y; omega)]
      have hc10 := hT (o t - 1) (by omega)
      refine ⟨hin, nm_r (e' := nI (T (o t - 1))) (by rw [X.2.2.2.1 t h2, hcol]) ?_⟩
      refine xb_occ h ok X hc10 (by omega) ?_
      have hsm := rp_at X.2.2.2.2.1 (show T (o t - 1) < 11 from by omega) (by omega)
      refine ⟨vp_in_nI (by omega) (by omega), ?_⟩
      have hne : T (o t - 1) ≠ T (dt_s L D - 1) := by
        intro y
        have hl := dt_last ok
        have hok := ok.1
        have := dt_mu ok (show o t - 1 < dt_s L D from by omega) (show dt_s L D - 1 < dt_s L D from by omega) (by omega) y
        omega
      have hlf := fi_lf X.1 hT (show dt_s L D ≤ 127 from by omega) h2 (show o t = (o t - 1) + 1 from by omega) hne
      rw [hsm, nI_add, hlf]
      have hr := X.1.2.2.1 (o t - 1) (by omega)
      refine nm_e (nm_r (nI_1 c) (ih (r (o t - 1)) (c + 1) ?_ hr.1 ?_))
      · rw [hr.2]; omega
      · rw [hr.2]; omega
theorem xf_19 {post : SX → Prop} {lo hi : Nat} (h : xa_T D L T A Q (f_docs, f_size, f_asked, f_low, f_high, f_foundCount, f_built, a_text, a_starts, a_query, a_order, a_rank, a_second, a_column, a_smaller, a_counted, a_sample, a_shared, a_found)) (ok : dt_ok T D L) (X : xa_X D L T o r (f_docs, f_size, f_asked, f_low, f_high, f_foundCount, f_built, a_text, a_starts, a_query, a_order, a_rank, a_second, a_column, a_smaller, a_counted, a_sample, a_shared, a_found)) (hh : f_high = nI hi) (hhi : hi ≤ dt_s L D)
    (k : ∀ (f : Nat → Nat) (fc : Nat) (b : Nat → Int32), fo_F o f lo hi fc → rp_A b f fc → post (f_docs, f_size, f_asked, f_low, f_high, nI fc, f_built, a_text, a_starts, a_query, a_order, a_rank, a_second, a_column, a_smaller, a_counted, a_sample, a_shared, b)) :
    ∀ (n x : Nat) (f : Nat → Nat) (fc : Nat) (a_found : Nat → Int32), hi - x < n → lo ≤ x → x ≤ hi → fo_F o f lo x fc → rp_A a_found f fc → wX_locate_19 post n (nI x) f_docs f_size f_asked f_low f_high (nI fc) f_built a_text a_starts a_query a_order a_rank a_second a_column a_smaller a_counted a_sample a_shared a_found := by
  have hN := dt_N65 ok
  intro n
  induction n with
  | zero => intro x _ _ _ z; omega
  | succ n ih =>
    intro x f fc a_found h1 h2 h3 F hf
    refine pk_le hi x (fun z => ?_) (fun z => ?_) hh
    · have e : x = hi := by omega
      subst e
      exact k f fc a_found F hf
    · have hx : x < dt_s L D := by omega
      refine ⟨o x + 1, ?_⟩
      refine xf_31 (show xa_T D L T A Q (f_docs, f_size, f_asked, f_low, f_high, nI fc, f_built, a_text, a_starts, a_query, a_order, a_rank, a_second, a_column, a_smaller, a_counted, a_sample, a_shared, a_found) from h) ok X (X.1.1.1 x hx) (fun t c ht h4 h5 => ?_) (o x + 1) x 0 (by omega) hx (by omega)
      unfold wX_locate_80
      refine ⟨vp_in_nI (by omega) (by omega), ?_⟩
      rw [nI_clamp (by omega), X.2.2.2.2.2.2.1 t ht, if_pos h4, nI_add, h5]
      refine xf_put X.1.1 hN F h2 hx rfl hf (fun f' b F' hf' => ?_)
      exact nm_r (nI_1 x) (ih (x + 1) f' (fc + 1) b (by omega) (by omega) (by omega) F' hf')
theorem xb_loc {post : SX → Prop} (h : xa_T D L T A Q (f_docs, f_size, f_asked, f_low, f_high, f_foundCount, f_built, a_text, a_starts, a_query, a_order, a_rank, a_second, a_column, a_smaller, a_counted, a_sample, a_shared, a_found)) (hB : xa_B D L T (f_docs, f_size, f_asked, f_low, f_high, f_foundCount, f_built, a_text, a_starts, a_query, a_order, a_rank, a_second, a_column, a_smaller, a_counted, a_sample, a_shared, a_found)) (ok : dt_ok T D L) (hA : A ≤ 8) (hQ : ∀ i, i < A → Q i < 5)
    (k : ∀ (o r : Nat → Nat) (b1 b2 b3 b4 b5 b6 b7 b8 : Nat → Int32) (lo hi : Nat) (f : Nat → Nat) (fc : Nat) (b : Nat → Int32), xa_X D L T o r (f_docs, f_size, f_asked, f_low, f_high, f_foundCount, 1, a_text, a_starts, a_query, b1, b2, b3, b4, b5, b6, b7, b8, a_found) → fi_W T (dt_s L D) o Q lo hi 0 A → fo_F o f lo hi fc → rp_A b f fc → post (f_docs, f_size, f_asked, nI lo, nI hi, nI fc, 1, a_text, a_starts, a_query, b1, b2, b3, b4, b5, b6, b7, b8, b)) : wpX_locate post (f_docs, f_size, f_asked, f_low, f_high, f_foundCount, f_built, a_text, a_starts, a_query, a_order, a_rank, a_second, a_column, a_smaller, a_counted, a_sample, a_shared, a_found) := by
  unfold wpX_locate
  dsimp only
  have e3 := h.2.2.1
  have key : wpX_search (fun u => match u with | (f_docsz, f_sizez, f_askedz, f_lowz, f_highz, f_foundCountz, f_builtz, a_textz, a_startsz, a_queryz, a_orderz, a_rankz, a_secondz, a_columnz, a_smallerz, a_countedz, a_samplez, a_sharedz, a_foundz) => ∃ n19 : Nat, wX_locate_19 post n19 f_lowz f_docsz f_sizez f_askedz f_lowz f_highz 0 f_builtz a_textz a_startsz a_queryz a_orderz a_rankz a_secondz a_columnz a_smallerz a_countedz a_samplez a_sharedz a_foundz) (f_docs, f_size, f_asked, f_low, f_high, f_foundCount, f_built, a_text, a_starts, a_query, a_order, a_rank, a_second, a_column, a_smaller, a_counted, a_sample, a_shared, a_found) 0 (nI A) := by
    refine xb_search h hB ok (Nat.le_refl A) hA hQ (fun o r b1 b2 b3 b4 b5 b6 b7 b8 lo hi hX w => ?_)
    refine ⟨hi + 1, ?_⟩
    refine xf_19 (D := D) (A := A) (L := L) (T := T) (Q := Q) (o := o) (r := r) (lo := lo) (hi := hi) (show xa_T D L T A Q (f_docs, f_size, f_asked, nI lo, nI hi, f_foundCount, 1, a_text, a_starts, a_query, b1, b2, b3, b4, b5, b6, b7, b8, a_found) from h) ok hX rfl w.2.1 (fun f fc b F hf => k o r b1 b2 b3 b4 b5 b6 b7 b8 lo hi f fc b hX w F hf) (hi + 1) lo (fun _ => 0) 0 a_found (by omega) (Nat.le_refl _) w.1 (fo_0 o _ lo) (fun j hj => by omega)
  rw [← e3] at key
  exact key
end
end
section
/-! Y: what its state holds; bad, badPlace, stands, countOf -/
def ya_T (D : Nat) (L T : Nat → Nat) (A : Nat) (Q : Nat → Nat) : SY → Prop
  | (f_docs, f_total, f_asked, a_text, a_size, a_pattern) => f_docs = nI D ∧ f_total = nI (dt_s L D - D) ∧ f_asked = nI A ∧ (∀ d, d < D → a_size d = nI (L d)) ∧ (∀ d p, d < D → p < L d → a_text (60 * d + p) = nI (T (dt_s L d + p) - 5)) ∧ rp_A a_pattern Q A
theorem fi_mk {T L Q : Nat → Nat} {D f t d : Nat} (ok : dt_ok T D L) (h : f < t) (hd : d < D) : ¬ fi_mt T (dt_s L D) Q (dt_s L d + L d) f t := by
  intro z
  have h1 := (z 0 h).2
  rw [Nat.add_zero, ok.2.1 d hd] at h1
  have := ok.1
  omega
section
variable {f_docs f_total f_asked : Int32} {a_text a_size a_pattern : Nat → Int32}
variable {D A : Nat} {L T Q : Nat → Nat}
theorem yb_bad {v : Int32} {post : Int32 → Prop} (h : ya_T D L T A Q (f_docs, f_total, f_asked, a_text, a_size, a_pattern)) (hD : D ≤ 5) (h1 : ∀ d, d < D → v = nI d → post 0) (h0 : (¬ ∃ d, d < D ∧ v = nI d) → post 1) : wpY_bad post (f_docs, f_total, f_asked, a_text, a_size, a_pattern) v := by
  unfold wpY_bad
  dsimp only
  refine br_c (fun z => h0 ?_) (fun z => ?_)
  · rintro ⟨c, hc, rfl⟩
    exact nI_pos (by omega) z
  · obtain ⟨j, hj, rfl⟩ := nI_of z
    refine pk_le D j (fun y => h0 ?_) (fun y => ?_) h.1
    · rintro ⟨c, hc, e⟩
      rw [nI_eq hj (by omega)] at e
      omega
    · exact pk_le j 4 (fun _ => h1 j y rfl) (fun w => by omega)
theorem yb_sym {v : Int32} {post : Int32 → Prop} (h1 : ∀ c, c < 5 → v = nI c → post 0) (h0 : (¬ ∃ c, c < 5 ∧ v = nI c) → post 1) : wpY_badSymbol post (f_docs, f_total, f_asked, a_text, a_size, a_pattern) v := by
  unfold wpY_badSymbol
  dsimp only
  refine br_c (fun z => h0 ?_) (fun z => ?_)
  · rintro ⟨c, hc, rfl⟩
    exact nI_pos (by omega) z
  · obtain ⟨j, hj, rfl⟩ := nI_of z
    refine pk_le j 4 (fun y => h1 j (by omega) rfl) (fun y => h0 ?_)
    rintro ⟨c, hc, e⟩
    rw [nI_eq hj (by omega)] at e
    omega
theorem yb_bp {v : Int32} {post : Int32 → Prop} (h : ya_T D L T A Q (f_docs, f_total, f_asked, a_text, a_size, a_pattern)) (ok : dt_ok T D L) (h1 : ∀ d p, d < D → p < L d → v = nI (64 * d + p) → post 0) (h0 : (¬ ∃ d p, d < D ∧ p < L d ∧ v = nI (64 * d + p)) → post 1) : wpY_badPlace post (f_docs, f_total, f_asked, a_text, a_size, a_pattern) v := by
  have hb := ok.1
  have hN := dt_N65 ok
  unfold wpY_badPlace
  dsimp only
  refine br_c (fun z => h0 ?_) (fun z => ⟨by decide, ?_⟩)
  · rintro ⟨d, p, hd, hp, rfl⟩
    have := dt_L60 ok hd
    exact nI_pos (by omega) z
  · obtain ⟨n, hn, rfl⟩ := nI_of z
    have hneg : ∀ d p, d < D → p < L d → nI n = nI (64 * d + p) → d = n / 64 ∧ p = n % 64 := by
      intro d p hd hp e
      have := dt_L60 ok hd
      rw [nI_eq hn (by omega)] at e
      omega
    rw [ga_d64 hn]
    refine yb_bad h hb.2.1 (fun d hd e => ?_) (fun y => ?_)
    · rw [nI_eq (by omega) (by omega)] at e
      have h60 := dt_L60 ok hd
      refine br_t rfl ⟨by decide, by decide, vp_in_nI (by omega) (by omega), ?_⟩
      rw [← ga_d64 hn, ga_r64 hn, ga_d64 hn, nI_clamp (by omega), e, h.2.2.2.1 d hd]
      refine pk_lt (n % 64) (L d) (fun w => ?_) (fun w => h0 ?_)
      · exact h1 d (n % 64) hd w (by rw [← e, Nat.div_add_mod])
      · rintro ⟨d', p, hd', hp, e'⟩
        have h3 := hneg d' p hd' hp e'
        have e4 : d' = d := by omega
        subst e4
        omega
    · refine br_f xs_ne1 (h0 ?_)
      rintro ⟨d, p, hd, hp, e'⟩
      have h3 := hneg d p hd hp e'
      exact y ⟨d, hd, by rw [h3.1]⟩
theorem ya_at (h : ya_T D L T A Q (f_docs, f_total, f_asked, a_text, a_size, a_pattern)) {d p : Nat} (hd : d < D) (hp : p < L d) (hb : 60 * d + p < 2 ^ 31) : a_text (nI (60 * d + p)).toNatClampNeg = nI (T (dt_s L d + p) - 5) := by
  rw [nI_clamp hb]; exact h.2.2.2.2.1 d p hd hp
theorem yb_st20 {post : Int32 → Prop} (h : ya_T D L T A Q (f_docs, f_total, f_asked, a_text, a_size, a_pattern)) (ok : dt_ok T D L) (hA : A ≤ 8) (hQ : ∀ i, i < A → Q i < 5) {d p f t : Nat} (hd : d < D) (ht : t ≤ A) (hfit : p + (t - f) ≤ L d)
    (h1 : fi_mt T (dt_s L D) Q (dt_s L d + p) f t → post 1) (h0 : ¬ fi_mt T (dt_s L D) Q (dt_s L d + p) f t → post 0) :
    ∀ n i : Nat, t - i < n → f ≤ i → i ≤ t → fi_mt T (dt_s L D) Q (dt_s L d + p) f i → wY_stands_20 post (nI d) (nI p) (nI f) (nI t) f_docs f_total f_asked a_text a_size a_pattern n (nI i) := by
  have hb := ok.1
  have hN := dt_N65 ok
  have h60 := dt_L60 ok hd
  intro n
  induction n with
  | zero => intro i z; omega
  | succ n ih =>
    intro i g1 g2 g3 g4
    refine pk_le t i (fun z => ?_) (fun z => ?_)
    · have e : i = t := by omega
      rw [e] at g4; exact h1 g4
    · refine pk_le 8 i (fun y => by omega) (fun y => ?_)
      have hsy := ok.2.2 d (p + (i - f)) hd (by omega)
      have hq := hQ i (by omega)
      have hin := dt_in (L := L) hd (show p + (i - f) ≤ L d from by omega)
      have ei : (60 : Int32) * nI d + nI p + nI i - nI f = nI (60 * d + (p + (i - f))) := by
        rw [ga_60, nI_add, nI_add, pk_sub (by omega)]
        exact congrArg nI (by omega)
      rw [ei, ya_at h hd (show p + (i - f) < L d from by omega) (by omega), rp_at h.2.2.2.2.2 (show i < A from by omega) (by omega)]
      refine ⟨vp_in_nI (by omega) (by omega), vp_in_nI (by omega) (by omega), ?_⟩
      refine pk_eq (T (dt_s L d + (p + (i - f))) - 5) (Q i) (fun w => ?_) (fun w => h0 (fun z2 => ?_))
      · refine nm_r (nI_1 i) (ih (i + 1) (by omega) (by omega) (by omega) (fun j hj => ?_))
        by_cases e : f + j = i
        · have ej : j = i - f := by omega
          subst ej
          rw [e, Nat.add_assoc]
          exact ⟨hin, by omega⟩
        · exact g4 j (by omega)
      · have h3 := (z2 (i - f) (by omega)).2
        rw [Nat.add_assoc, show f + (i - f) = i from by omega] at h3
        omega
theorem yb_st {post : Int32 → Prop} (h : ya_T D L T A Q (f_docs, f_total, f_asked, a_text, a_size, a_pattern)) (ok : dt_ok T D L) (hA : A ≤ 8) (hQ : ∀ i, i < A → Q i < 5) {d p f t : Nat} (hd : d < D) (hp : p ≤ L d) (hf : f ≤ t) (ht : t ≤ A)
    (h1 : fi_mt T (dt_s L D) Q (dt_s L d + p) f t → post 1) (h0 : ¬ fi_mt T (dt_s L D) Q (dt_s L d + p) f t → post 0) : wpY_stands post (f_docs, f_total, f_asked, a_text, a_size, a_pattern) (nI d) (nI p) (nI f) (nI t) := by
  have hb := ok.1
  have h60 := dt_L60 ok hd
  unfold wpY_stands
  dsimp only
  refine ⟨vp_in_nI (by omega) (by omega), ?_⟩
  rw [nI_add, pk_sub (by omega), nI_clamp (by omega), h.2.2.2.1 d hd]
  refine pk_le (p + t - f) (L d) (fun z => ⟨t + 1, ?_⟩) (fun z => h0 (fun y => ?_))
  · exact yb_st20 h ok hA hQ hd ht (by omega) h1 h0 (t + 1) f (by omega) (by omega) hf (fi_mtE (Nat.le_refl _))
  · have h3 := (y (L d - p) (by omega)).2
    rw [Nat.add_assoc, show p + (L d - p) = L d from by omega, ok.2.1 d hd] at h3
    omega
theorem yb_stx {post : Int32 → Prop} (h : ya_T D L T A Q (f_docs, f_total, f_asked, a_text, a_size, a_pattern)) (ok : dt_ok T D L) (hA : A ≤ 8) (hQ : ∀ i, i < A → Q i < 5) {x y : Int32} (d p f t : Nat) (hx : x = nI f) (hy : y = nI t) (hd : d < D) (hp : p ≤ L d) (hf : f ≤ t) (ht : t ≤ A)
    (h1 : fi_mt T (dt_s L D) Q (dt_s L d + p) f t → post 1) (h0 : ¬ fi_mt T (dt_s L D) Q (dt_s L d + p) f t → post 0) : wpY_stands post (f_docs, f_total, f_asked, a_text, a_size, a_pattern) (nI d) (nI p) x y := by
  subst hx hy
  exact yb_st h ok hA hQ hd hp hf ht h1 h0
theorem yb_co4 {post : Int32 → Prop} (h : ya_T D L T A Q (f_docs, f_total, f_asked, a_text, a_size, a_pattern)) (ok : dt_ok T D L) (hA : A ≤ 8) (hQ : ∀ i, i < A → Q i < 5) {d : Nat} (hd : d < D)
    (k : post (nI (cn_c (fun p => fi_mt T (dt_s L D) Q (dt_s L d + p) 0 A) (L d)))) :
    ∀ n p : Nat, L d - p < n → p ≤ L d → wY_countOf_4 post (nI d) f_docs f_total f_asked a_text a_size a_pattern n (nI (cn_c (fun p => fi_mt T (dt_s L D) Q (dt_s L d + p) 0 A) p)) (nI p) := by
  have hb := ok.1
  have h60 := dt_L60 ok hd
  intro n
  induction n with
  | zero => intro p z; omega
  | succ n ih =>
    intro p g1 g2
    refine ⟨vp_in_nI (by omega) (by omega), ?_⟩
    refine pk_le (L d) p (fun z => ?_) (fun z => ?_) (by rw [nI_clamp (by omega)]; exact h.2.2.2.1 d hd)
    · have e : p = L d := by omega
      rw [e]; exact k
    · have ih' := ih (p + 1) (by omega) (by omega)
      refine yb_stx h ok hA hQ d p 0 A rfl h.2.2.1 hd g2 (Nat.zero_le A) (Nat.le_refl A) (fun y => ?_) (fun y => ?_)
      · rw [cn_t (p := fun p => fi_mt T (dt_s L D) Q (dt_s L d + p) 0 A) y] at ih'
        exact br_f xs_ne1 (nm_r (nI_1 _) (nm_r (nI_1 _) ih'))
      · rw [cn_f (p := fun p => fi_mt T (dt_s L D) Q (dt_s L d + p) 0 A) y] at ih'
        exact br_t rfl (nm_r (nI_1 _) ih')
theorem yb_cof {post : Int32 → Prop} (h : ya_T D L T A Q (f_docs, f_total, f_asked, a_text, a_size, a_pattern)) (ok : dt_ok T D L) (hA : A ≤ 8) (hQ : ∀ i, i < A → Q i < 5) {d : Nat} (hd : d < D)
    (k : post (nI (cn_c (fun p => fi_mt T (dt_s L D) Q (dt_s L d + p) 0 A) (L d)))) : wpY_countOf post (f_docs, f_total, f_asked, a_text, a_size, a_pattern) (nI d) := by
  unfold wpY_countOf
  dsimp only
  exact ⟨L d + 1, yb_co4 h ok hA hQ hd k (L d + 1) 0 (by omega) (by omega)⟩
theorem yb_c13 {post : Int32 → Prop} (h : ya_T D L T A Q (f_docs, f_total, f_asked, a_text, a_size, a_pattern)) (ok : dt_ok T D L) (hA : A ≤ 8) (hA0 : 0 < A) (hQ : ∀ i, i < A → Q i < 5)
    (k : post (nI (cn_c (fun q => fi_mt T (dt_s L D) Q q 0 A) (dt_s L D)))) :
    ∀ n d : Nat, D - d < n → d ≤ D → wY_count_13 post f_docs f_total f_asked a_text a_size a_pattern n (nI (cn_c (fun q => fi_mt T (dt_s L D) Q q 0 A) (dt_s L d))) (nI d) := by
  have hb := ok.1
  intro n
  induction n with
  | zero => intro p z; omega
  | succ n ih =>
    intro d g1 g2
    refine pk_le D d (fun z => ?_) (fun z => ?_) h.1
    · have e : d = D := by omega
      rw [e]; exact k
    · have ih' := ih (d + 1) (by omega) (by omega)
      refine yb_cof h ok hA hQ z ?_
      rw [dt_ca, cn_b0 (fi_mk ok hA0 z), Nat.add_zero] at ih'
      exact nm_r (nI_add _ _) (nm_r (nI_1 _) ih')
theorem yb_count {post : Int32 → Prop} (h : ya_T D L T A Q (f_docs, f_total, f_asked, a_text, a_size, a_pattern)) (ok : dt_ok T D L) (hA : A ≤ 8) (hQ : ∀ i, i < A → Q i < 5)
    (k0 : A = 0 → post (-1)) (k : 0 < A → post (nI (cn_c (fun q => fi_mt T (dt_s L D) Q q 0 A) (dt_s L D)))) : wpY_count post (f_docs, f_total, f_asked, a_text, a_size, a_pattern) := by
  unfold wpY_count
  dsimp only
  refine pk_eq A 0 k0 (fun z => ⟨D + 1, ?_⟩) h.2.2.1
  exact yb_c13 h ok hA (by omega) hQ (k (by omega)) (D + 1) 0 (by omega) (by omega)
theorem yb_cin {post : Int32 → Prop} (h : ya_T D L T A Q (f_docs, f_total, f_asked, a_text, a_size, a_pattern)) (ok : dt_ok T D L) (hA : A ≤ 8) (hQ : ∀ i, i < A → Q i < 5) {v : Int32}
    (k0 : A = 0 → post (-1)) (k1 : 0 < A → (¬ ∃ d, d < D ∧ v = nI d) → post (-2)) (k : 0 < A → ∀ d, d < D → v = nI d → post (nI (cn_c (fun p => fi_mt T (dt_s L D) Q (dt_s L d + p) 0 A) (L d)))) : wpY_countIn post (f_docs, f_total, f_asked, a_text, a_size, a_pattern) v := by
  unfold wpY_countIn
  dsimp only
  refine pk_eq A 0 k0 (fun z => ?_) h.2.2.1
  refine yb_bad h ok.1.2.1 (fun d hd e => ?_) (fun y => ?_)
  · subst e
    exact br_t rfl (yb_cof h ok hA hQ hd (k (Nat.pos_of_ne_zero z) d hd rfl))
  · exact br_f xs_ne1 (k1 (Nat.pos_of_ne_zero z) y)
theorem yb_s13 {post : Int32 → Prop} (h : ya_T D L T A Q (f_docs, f_total, f_asked, a_text, a_size, a_pattern)) (ok : dt_ok T D L) (hA : A ≤ 8) (hQ : ∀ i, i < A → Q i < 5)
    (k : post (nI (cn_c (fun d => ∃ p, p < L d ∧ fi_mt T (dt_s L D) Q (dt_s L d + p) 0 A) D))) :
    ∀ n d : Nat, D - d < n → d ≤ D → wY_spread_13 post f_docs f_total f_asked a_text a_size a_pattern n (nI (cn_c (fun d => ∃ p, p < L d ∧ fi_mt T (dt_s L D) Q (dt_s L d + p) 0 A) d)) (nI d) := by
  have hb := ok.1
  intro n
  induction n with
  | zero => intro p z; omega
  | succ n ih =>
    intro d g1 g2
    refine pk_le D d (fun z => ?_) (fun z => ?_) h.1
    · have e : d = D := by omega
      rw [e]; exact k
    · have ih' := ih (d + 1) (by omega) (by omega)
      have h60 := dt_L60 ok z
      have hcl := cn_le (fun p => fi_mt T (dt_s L D) Q (dt_s L d + p) 0 A) (L d)
      refine yb_cof h ok hA hQ z ?_
      refine pk_le (cn_c (fun p => fi_mt T (dt_s L D) Q (dt_s L d + p) 0 A) (L d)) 0 (fun y => ?_) (fun y => ?_)
      · rw [cn_f (p := fun d => ∃ p, p < L d ∧ fi_mt T (dt_s L D) Q (dt_s L d + p) 0 A) (fun w => by have := cn_ex.mpr w; omega)] at ih'
        exact nm_r (nI_1 _) ih'
      · rw [cn_t (p := fun d => ∃ p, p < L d ∧ fi_mt T (dt_s L D) Q (dt_s L d + p) 0 A) (cn_ex.mp y)] at ih'
        exact nm_r (nI_1 _) (nm_r (nI_1 _) ih')
theorem yb_spread {post : Int32 → Prop} (h : ya_T D L T A Q (f_docs, f_total, f_asked, a_text, a_size, a_pattern)) (ok : dt_ok T D L) (hA : A ≤ 8) (hQ : ∀ i, i < A → Q i < 5)
    (k0 : A = 0 → post (-1)) (k : 0 < A → post (nI (cn_c (fun d => ∃ p, p < L d ∧ fi_mt T (dt_s L D) Q (dt_s L d + p) 0 A) D))) : wpY_spread post (f_docs, f_total, f_asked, a_text, a_size, a_pattern) := by
  unfold wpY_spread
  dsimp only
  refine pk_eq A 0 k0 (fun z => ⟨D + 1, ?_⟩) h.2.2.1
  exact yb_s13 h ok hA hQ (k (by omega)) (D + 1) 0 (by omega) (by omega)
end
end
section
/-! Y: occurrence, occurs, led, the longest ones, extensions -/
section
variable {f_docs f_total f_asked : Int32} {a_text a_size a_pattern : Nat → Int32}
variable {D A : Nat} {L T Q : Nat → Nat}
theorem yc_o29 {post : Int32 → Prop} {J : Int32 → Int32 → Prop} (h : ya_T D L T A Q (f_docs, f_total, f_asked, a_text, a_size, a_pattern)) (ok : dt_ok T D L) (hA : A ≤ 8) (hA0 : 0 < A) (hQ : ∀ i, i < A → Q i < 5) {v : Int32} {d : Nat} (hd : d < D)
    (hit : ∀ p, p < L d → fi_mt T (dt_s L D) Q (dt_s L d + p) 0 A → nI (cn_c (fun q => fi_mt T (dt_s L D) Q q 0 A) (dt_s L d + p)) = v → post (nI (64 * d + p)))
    (k : (∀ q, q < dt_s L (d + 1) → fi_mt T (dt_s L D) Q q 0 A → nI (cn_c (fun q => fi_mt T (dt_s L D) Q q 0 A) q) ≠ v) → J (nI (cn_c (fun q => fi_mt T (dt_s L D) Q q 0 A) (dt_s L (d + 1)))) (nI (d + 1))) :
    ∀ n p : Nat, L d - p < n → p ≤ L d → (∀ q, q < dt_s L d + p → fi_mt T (dt_s L D) Q q 0 A → nI (cn_c (fun q => fi_mt T (dt_s L D) Q q 0 A) q) ≠ v) → wY_occurrence_29 post J v (nI d) f_docs f_total f_asked a_text a_size a_pattern n (nI (cn_c (fun q => fi_mt T (dt_s L D) Q q 0 A) (dt_s L d + p))) (nI p) := by
  have hb := ok.1
  have h60 := dt_L60 ok hd
  intro n
  induction n with
  | zero => intro p z; omega
  | succ n ih =>
    intro p g1 g2 g3
    refine ⟨vp_in_nI (by omega) (by omega), ?_⟩
    refine pk_le (L d) p (fun z => ?_) (fun z => ?_) (by rw [nI_clamp (by omega)]; exact h.2.2.2.1 d hd)
    · have e : p = L d := by omega
      subst e
      have hmk := fi_mk (Q := Q) ok hA0 hd
      have k' := k (fun q hq hm => by
        by_cases e2 : q = dt_s L d + L d
        · rw [e2] at hm; exact absurd hm hmk
        · rw [dt_S] at hq; exact g3 q (by omega) hm)
      rw [dt_S, cn_f (p := fun q => fi_mt T (dt_s L D) Q q 0 A) hmk] at k'
      exact nm_r (nI_1 _) k'
    · refine yb_stx h ok hA hQ d p 0 A rfl h.2.2.1 hd g2 (Nat.zero_le A) (Nat.le_refl A) (fun y => ?_) (fun y => ?_)
      · refine br_f xs_ne1 (br_c (fun e => ?_) (fun e => ?_))
        · rw [ga_64, nI_add]
          exact hit p z y e
        · have ih' : wY_occurrence_29 post J v (nI d) f_docs f_total f_asked a_text a_size a_pattern n (nI (cn_c (fun q => fi_mt T (dt_s L D) Q q 0 A) (dt_s L d + p + 1))) (nI (p + 1)) := ih (p + 1) (by omega) (by omega) (fun q hq hm => by
            by_cases e2 : q = dt_s L d + p
            · rw [e2]; exact e
            · exact g3 q (by omega) hm)
          rw [cn_t (p := fun q => fi_mt T (dt_s L D) Q q 0 A) y] at ih'
          exact nm_r (nI_1 _) (nm_r (nI_1 _) ih')
      · have ih' : wY_occurrence_29 post J v (nI d) f_docs f_total f_asked a_text a_size a_pattern n (nI (cn_c (fun q => fi_mt T (dt_s L D) Q q 0 A) (dt_s L d + p + 1))) (nI (p + 1)) := ih (p + 1) (by omega) (by omega) (fun q hq hm => by
          by_cases e2 : q = dt_s L d + p
          · rw [e2] at hm; exact absurd hm y
          · exact g3 q (by omega) hm)
        rw [cn_f (p := fun q => fi_mt T (dt_s L D) Q q 0 A) y] at ih'
        exact br_t rfl (nm_r (nI_1 _) ih')
theorem yc_o13 {post : Int32 → Prop} (h : ya_T D L T A Q (f_docs, f_total, f_asked, a_text, a_size, a_pattern)) (ok : dt_ok T D L) (hA : A ≤ 8) (hA0 : 0 < A) (hQ : ∀ i, i < A → Q i < 5) {v : Int32}
    (hit : ∀ d p, d < D → p < L d → fi_mt T (dt_s L D) Q (dt_s L d + p) 0 A → nI (cn_c (fun q => fi_mt T (dt_s L D) Q q 0 A) (dt_s L d + p)) = v → post (nI (64 * d + p)))
    (k : (∀ q, q < dt_s L D → fi_mt T (dt_s L D) Q q 0 A → nI (cn_c (fun q => fi_mt T (dt_s L D) Q q 0 A) q) ≠ v) → post (-2)) :
    ∀ n d : Nat, D - d < n → d ≤ D → (∀ q, q < dt_s L d → fi_mt T (dt_s L D) Q q 0 A → nI (cn_c (fun q => fi_mt T (dt_s L D) Q q 0 A) q) ≠ v) → wY_occurrence_13 post v f_docs f_total f_asked a_text a_size a_pattern n (nI (cn_c (fun q => fi_mt T (dt_s L D) Q q 0 A) (dt_s L d))) (nI d) := by
  have hb := ok.1
  intro n
  induction n with
  | zero => intro d z; omega
  | succ n ih =>
    intro d g1 g2 g3
    refine pk_le D d (fun z => ?_) (fun z => ?_) h.1
    · have e : d = D := by omega
      subst e
      exact k g3
    · refine pk_le 5 d (fun y => by omega) (fun y => ⟨L d + 1, ?_⟩)
      exact yc_o29 h ok hA hA0 hQ z (fun p => hit d p z) (fun g => ih (d + 1) (by omega) (by omega) g) (L d + 1) 0 (by omega) (by omega) g3
theorem yb_occu {post : Int32 → Prop} (h : ya_T D L T A Q (f_docs, f_total, f_asked, a_text, a_size, a_pattern)) (ok : dt_ok T D L) (hA : A ≤ 8) (hQ : ∀ i, i < A → Q i < 5) {v : Int32} (k0 : A = 0 → post (-1))
    (hit : 0 < A → ∀ d p, d < D → p < L d → fi_mt T (dt_s L D) Q (dt_s L d + p) 0 A → nI (cn_c (fun q => fi_mt T (dt_s L D) Q q 0 A) (dt_s L d + p)) = v → post (nI (64 * d + p)))
    (k : 0 < A → (∀ q, q < dt_s L D → fi_mt T (dt_s L D) Q q 0 A → nI (cn_c (fun q => fi_mt T (dt_s L D) Q q 0 A) q) ≠ v) → post (-2)) : wpY_occurrence post (f_docs, f_total, f_asked, a_text, a_size, a_pattern) v := by
  unfold wpY_occurrence
  dsimp only
  refine pk_eq A 0 k0 (fun z => ⟨D + 1, ?_⟩) h.2.2.1
  have hA0 := Nat.pos_of_ne_zero z
  exact yc_o13 h ok hA hA0 hQ (hit hA0) (k hA0) (D + 1) 0 (by omega) (by omega) (fun q hq => by rw [dt_0] at hq; omega)
theorem yc_u18 {post : Int32 → Prop} {J : Int32 → Prop} (h : ya_T D L T A Q (f_docs, f_total, f_asked, a_text, a_size, a_pattern)) (ok : dt_ok T D L) (hA : A ≤ 8) (hQ : ∀ i, i < A → Q i < 5) {x1 x2 : Int32} {f t d : Nat} (hx1 : x1 = nI f) (hx2 : x2 = nI t) (hft : f < t) (ht : t ≤ A) (hd : d < D)
    (hit : ∀ q, q < dt_s L D → fi_mt T (dt_s L D) Q q f t → post 1)
    (k : (∀ q, q < dt_s L (d + 1) → ¬ fi_mt T (dt_s L D) Q q f t) → J (nI (d + 1))) :
    ∀ n p : Nat, L d - p < n → p ≤ L d → (∀ q, q < dt_s L d + p → ¬ fi_mt T (dt_s L D) Q q f t) → wY_occurs_18 post J x1 x2 (nI d) f_docs f_total f_asked a_text a_size a_pattern n (nI p) := by
  have hb := ok.1
  have h60 := dt_L60 ok hd
  intro n
  induction n with
  | zero => intro p z; omega
  | succ n ih =>
    intro p g1 g2 g3
    refine ⟨vp_in_nI (by omega) (by omega), ?_⟩
    refine pk_le (L d) p (fun z => ?_) (fun z => ?_) (by rw [nI_clamp (by omega)]; exact h.2.2.2.1 d hd)
    · have e : p = L d := by omega
      subst e
      refine nm_r (nI_1 _) (k (fun q hq => ?_))
      by_cases e2 : q = dt_s L d + L d
      · rw [e2]; exact fi_mk ok hft hd
      · rw [dt_S] at hq; exact g3 q (by omega)
    · refine yb_stx h ok hA hQ d p f t hx1 hx2 hd g2 (by omega) ht (fun y => ?_) (fun y => ?_)
      · exact br_f xs_ne1 (hit _ (dt_in hd g2) y)
      · refine br_t rfl (nm_r (nI_1 _) (ih (p + 1) (by omega) (by omega) (fun q hq => ?_)))
        by_cases e2 : q = dt_s L d + p
        · rw [e2]; exact y
        · exact g3 q (by omega)
theorem yc_u2 {post : Int32 → Prop} (h : ya_T D L T A Q (f_docs, f_total, f_asked, a_text, a_size, a_pattern)) (ok : dt_ok T D L) (hA : A ≤ 8) (hQ : ∀ i, i < A → Q i < 5) {x1 x2 : Int32} {f t : Nat} (hx1 : x1 = nI f) (hx2 : x2 = nI t) (hft : f < t) (ht : t ≤ A)
    (hit : ∀ q, q < dt_s L D → fi_mt T (dt_s L D) Q q f t → post 1)
    (k : (∀ q, q < dt_s L D → ¬ fi_mt T (dt_s L D) Q q f t) → post 0) :
    ∀ n d : Nat, D - d < n → d ≤ D → (∀ q, q < dt_s L d → ¬ fi_mt T (dt_s L D) Q q f t) → wY_occurs_2 post x1 x2 f_docs f_total f_asked a_text a_size a_pattern n (nI d) := by
  have hb := ok.1
  intro n
  induction n with
  | zero => intro d z; omega
  | succ n ih =>
    intro d g1 g2 g3
    refine pk_le D d (fun z => ?_) (fun z => ?_) h.1
    · have e : d = D := by omega
      subst e
      exact k g3
    · refine pk_le 5 d (fun y => by omega) (fun y => ⟨L d + 1, ?_⟩)
      exact yc_u18 h ok hA hQ hx1 hx2 hft ht z hit (fun g => ih (d + 1) (by omega) (by omega) g) (L d + 1) 0 (by omega) (by omega) g3
theorem yb_occs {post : Int32 → Prop} (h : ya_T D L T A Q (f_docs, f_total, f_asked, a_text, a_size, a_pattern)) (ok : dt_ok T D L) (hA : A ≤ 8) (hQ : ∀ i, i < A → Q i < 5) {x1 x2 : Int32} {f t : Nat} (hx1 : x1 = nI f) (hx2 : x2 = nI t) (hft : f < t) (ht : t ≤ A)
    (hit : (∃ q, q < dt_s L D ∧ fi_mt T (dt_s L D) Q q f t) → post 1)
    (k : (¬ ∃ q, q < dt_s L D ∧ fi_mt T (dt_s L D) Q q f t) → post 0) : wpY_occurs post (f_docs, f_total, f_asked, a_text, a_size, a_pattern) x1 x2 := by
  unfold wpY_occurs
  dsimp only
  exact ⟨D + 1, yc_u2 h ok hA hQ hx1 hx2 hft ht (fun q hq hm => hit ⟨q, hq, hm⟩) (fun g => k (fun ⟨q, hq, hm⟩ => g q hq hm)) (D + 1) 0 (by omega) (by omega) (fun q hq => by rw [dt_0] at hq; omega)⟩
/-- the answer of the longest ones: k is the greatest with 'oc k' -/
def yc_L (oc : Nat → Prop) (A k : Nat) : Prop := k ≤ A ∧ (k = 0 ∨ oc k) ∧ ∀ j, k < j → j ≤ A → ¬ oc j
theorem yc_Lu {oc : Nat → Prop} {A k k' : Nat} (h : yc_L oc A k) (h' : yc_L oc A k') : k = k' := by
  rcases Nat.lt_trichotomy k k' with z | z | z
  · exact absurd (h'.2.1.resolve_left (by omega)) (h.2.2 k' z h'.1)
  · exact z
  · exact absurd (h.2.1.resolve_left (by omega)) (h'.2.2 k z h.1)
theorem yc_e5 {post : Int32 → Prop} (h : ya_T D L T A Q (f_docs, f_total, f_asked, a_text, a_size, a_pattern)) (ok : dt_ok T D L) (hA : A ≤ 8) (hQ : ∀ i, i < A → Q i < 5)
    (k : ∀ j, yc_L (fun j => ∃ q, q < dt_s L D ∧ fi_mt T (dt_s L D) Q q (A - j) A) A j → post (nI j)) :
    ∀ n x : Nat, x < n → x ≤ A → (∀ j, x < j → j ≤ A → ¬ ∃ q, q < dt_s L D ∧ fi_mt T (dt_s L D) Q q (A - j) A) → wY_longestEnd_5 post f_docs f_total f_asked a_text a_size a_pattern n (nI x) := by
  intro n
  induction n with
  | zero => intro x z; omega
  | succ n ih =>
    intro x g1 g2 g3
    refine pk_le x 0 (fun z => ?_) (fun z => ?_)
    · have e : x = 0 := Nat.le_zero.mp z
      subst e
      exact k 0 ⟨Nat.zero_le _, Or.inl rfl, g3⟩
    · have hlt : A - x < A := Nat.sub_lt (Nat.lt_of_lt_of_le z g2) z
      refine yb_occs h ok hA hQ (f := A - x) (t := A) (by rw [h.2.2.1, pk_sub g2]) h.2.2.1 hlt (Nat.le_refl A) (fun y => ?_) (fun y => ?_)
      · exact br_f xs_ne1 (k x ⟨g2, Or.inr y, g3⟩)
      · have g4 : x - 1 < n := by clear g3 y; omega
        have g5 : x - 1 ≤ A := by clear g3 y; omega
        refine br_t rfl (nm_r (ga_m1 z) (ih (x - 1) g4 g5 (fun j hj1 hj2 => ?_)))
        by_cases e : j = x
        · rw [e]; exact y
        · have g6 : x < j := by clear g3 y; omega
          exact g3 j g6 hj2
theorem yb_lend {post : Int32 → Prop} (h : ya_T D L T A Q (f_docs, f_total, f_asked, a_text, a_size, a_pattern)) (ok : dt_ok T D L) (hA : A ≤ 8) (hQ : ∀ i, i < A → Q i < 5)
    (k : ∀ j, yc_L (fun j => ∃ q, q < dt_s L D ∧ fi_mt T (dt_s L D) Q q (A - j) A) A j → post (nI j)) : wpY_longestEnd post (f_docs, f_total, f_asked, a_text, a_size, a_pattern) := by
  unfold wpY_longestEnd
  dsimp only
  refine ⟨A + 1, ?_⟩
  have := yc_e5 h ok hA hQ k (A + 1) A (by omega) (by omega) (fun j h1 h2 => by omega)
  rw [h.2.2.1] at this ⊢
  exact this
theorem yc_b5 {post : Int32 → Prop} (h : ya_T D L T A Q (f_docs, f_total, f_asked, a_text, a_size, a_pattern)) (ok : dt_ok T D L) (hA : A ≤ 8) (hQ : ∀ i, i < A → Q i < 5)
    (k : ∀ j, yc_L (fun j => ∃ q, q < dt_s L D ∧ fi_mt T (dt_s L D) Q q 0 j) A j → post (nI j)) :
    ∀ n x : Nat, x < n → x ≤ A → (∀ j, x < j → j ≤ A → ¬ ∃ q, q < dt_s L D ∧ fi_mt T (dt_s L D) Q q 0 j) → wY_longestBegin_5 post f_docs f_total f_asked a_text a_size a_pattern n (nI x) := by
  intro n
  induction n with
  | zero => intro x z; omega
  | succ n ih =>
    intro x g1 g2 g3
    refine pk_le x 0 (fun z => ?_) (fun z => ?_)
    · have e : x = 0 := Nat.le_zero.mp z
      subst e
      exact k 0 ⟨Nat.zero_le _, Or.inl rfl, g3⟩
    · refine yb_occs h ok hA hQ (f := 0) (t := x) rfl rfl z g2 (fun y => ?_) (fun y => ?_)
      · exact br_f xs_ne1 (k x ⟨g2, Or.inr y, g3⟩)
      · have g4 : x - 1 < n := by clear g3 y; omega
        have g5 : x - 1 ≤ A := by clear g3 y; omega
        refine br_t rfl (nm_r (ga_m1 z) (ih (x - 1) g4 g5 (fun j hj1 hj2 => ?_)))
        by_cases e : j = x
        · rw [e]; exact y
        · have g6 : x < j := by clear g3 y; omega
          exact g3 j g6 hj2
theorem yb_lbeg {post : Int32 → Prop} (h : ya_T D L T A Q (f_docs, f_total, f_asked, a_text, a_size, a_pattern)) (ok : dt_ok T D L) (hA : A ≤ 8) (hQ : ∀ i, i < A → Q i < 5)
    (k : ∀ j, yc_L (fun j => ∃ q, q < dt_s L D ∧ fi_mt T (dt_s L D) Q q 0 j) A j → post (nI j)) : wpY_longestBegin post (f_docs, f_total, f_asked, a_text, a_size, a_pattern) := by
  unfold wpY_longestBegin
  dsimp only
  refine ⟨A + 1, ?_⟩
  have := yc_b5 h ok hA hQ k (A + 1) A (by omega) (by omega) (fun j h1 h2 => by omega)
  rw [h.2.2.1] at this ⊢
  exact this
theorem yc_l17 {post : Int32 → Prop} {J : Int32 → Prop} (h : ya_T D L T A Q (f_docs, f_total, f_asked, a_text, a_size, a_pattern)) (ok : dt_ok T D L) (hA : A ≤ 8) (hQ : ∀ i, i < A → Q i < 5) {s d : Nat} (hs : s < 5) (hd : d < D)
    (hit : ∀ q, q < dt_s L D → T q = s + 5 → fi_mt T (dt_s L D) Q (q + 1) 0 A → post 1)
    (k : (∀ q, q < dt_s L (d + 1) → T q = s + 5 → ¬ fi_mt T (dt_s L D) Q (q + 1) 0 A) → J (nI (d + 1))) :
    ∀ n p : Nat, L d - p < n → p ≤ L d → (∀ q, q < dt_s L d + p → T q = s + 5 → ¬ fi_mt T (dt_s L D) Q (q + 1) 0 A) → wY_led_17 post J (nI s) (nI d) f_docs f_total f_asked a_text a_size a_pattern n (nI p) := by
  have hb := ok.1
  have h60 := dt_L60 ok hd
  intro n
  induction n with
  | zero => intro p z; omega
  | succ n ih =>
    intro p g1 g2 g3
    refine ⟨vp_in_nI (by omega) (by omega), ?_⟩
    refine pk_le (L d) p (fun z => ?_) (fun z => ?_) (by rw [nI_clamp (by omega)]; exact h.2.2.2.1 d hd)
    · have e : p = L d := by omega
      subst e
      refine nm_r (nI_1 _) (k (fun q hq hT' => ?_))
      by_cases e2 : q = dt_s L d + L d
      · rw [e2, ok.2.1 d hd] at hT'; omega
      · rw [dt_S] at hq; exact g3 q (by omega) hT'
    · have hsy := ok.2.2 d p hd z
      have e1 : (60 : Int32) * nI d + nI p = nI (60 * d + p) := by rw [ga_60, nI_add]
      rw [e1, ya_at h hd z (by omega)]
      refine ⟨vp_in_nI (by omega) (by omega), ?_⟩
      refine pk_eq (T (dt_s L d + p) - 5) s (fun y => ?_) (fun y => ?_)
      · rw [nI_1]
        have hT5 : T (dt_s L d + p) = s + 5 := by omega
        refine yb_stx h ok hA hQ d (p + 1) 0 A rfl h.2.2.1 hd z (Nat.zero_le A) (Nat.le_refl A) (fun w => ?_) (fun w => ?_)
        · exact br_f xs_ne1 (hit _ (dt_in hd g2) hT5 w)
        · refine br_t rfl (nm_e (ih (p + 1) (by omega) (by omega) (fun q hq hT' => ?_)))
          by_cases e2 : q = dt_s L d + p
          · rw [e2]; exact w
          · exact g3 q (by omega) hT'
      · refine nm_r (nI_1 _) (ih (p + 1) (by omega) (by omega) (fun q hq hT' => ?_))
        by_cases e2 : q = dt_s L d + p
        · rw [e2] at hT'; omega
        · exact g3 q (by omega) hT'
theorem yc_l2 {post : Int32 → Prop} (h : ya_T D L T A Q (f_docs, f_total, f_asked, a_text, a_size, a_pattern)) (ok : dt_ok T D L) (hA : A ≤ 8) (hQ : ∀ i, i < A → Q i < 5) {s : Nat} (hs : s < 5)
    (hit : ∀ q, q < dt_s L D → T q = s + 5 → fi_mt T (dt_s L D) Q (q + 1) 0 A → post 1)
    (k : (∀ q, q < dt_s L D → T q = s + 5 → ¬ fi_mt T (dt_s L D) Q (q + 1) 0 A) → post 0) :
    ∀ n d : Nat, D - d < n → d ≤ D → (∀ q, q < dt_s L d → T q = s + 5 → ¬ fi_mt T (dt_s L D) Q (q + 1) 0 A) → wY_led_2 post (nI s) f_docs f_total f_asked a_text a_size a_pattern n (nI d) := by
  have hb := ok.1
  intro n
  induction n with
  | zero => intro d z; omega
  | succ n ih =>
    intro d g1 g2 g3
    refine pk_le D d (fun z => ?_) (fun z => ?_) h.1
    · have e : d = D := by omega
      subst e
      exact k g3
    · refine pk_le 5 d (fun y => by omega) (fun y => ⟨L d + 1, ?_⟩)
      exact yc_l17 h ok hA hQ hs z hit (fun g => ih (d + 1) (by omega) (by omega) g) (L d + 1) 0 (by omega) (by omega) g3
theorem yb_led {post : Int32 → Prop} (h : ya_T D L T A Q (f_docs, f_total, f_asked, a_text, a_size, a_pattern)) (ok : dt_ok T D L) (hA : A ≤ 8) (hQ : ∀ i, i < A → Q i < 5) {s : Nat} (hs : s < 5)
    (hit : (∃ q, q < dt_s L D ∧ T q = s + 5 ∧ fi_mt T (dt_s L D) Q (q + 1) 0 A) → post 1)
    (k : (¬ ∃ q, q < dt_s L D ∧ T q = s + 5 ∧ fi_mt T (dt_s L D) Q (q + 1) 0 A) → post 0) : wpY_led post (f_docs, f_total, f_asked, a_text, a_size, a_pattern) (nI s) := by
  unfold wpY_led
  dsimp only
  exact ⟨D + 1, yc_l2 h ok hA hQ hs (fun q hq h1 h2 => hit ⟨q, hq, h1, h2⟩) (fun g => k (fun ⟨q, hq, h1, h2⟩ => g q hq h1 h2)) (D + 1) 0 (by omega) (by omega) (fun q hq => by rw [dt_0] at hq; omega)⟩
theorem yc_x4 {post : Int32 → Prop} (h : ya_T D L T A Q (f_docs, f_total, f_asked, a_text, a_size, a_pattern)) (ok : dt_ok T D L) (hA : A ≤ 8) (hQ : ∀ i, i < A → Q i < 5)
    (k : post (nI (cn_c (fun s => ∃ q, q < dt_s L D ∧ T q = s + 5 ∧ fi_mt T (dt_s L D) Q (q + 1) 0 A) 5))) :
    ∀ n s : Nat, 5 - s < n → s ≤ 5 → wY_extensions_4 post f_docs f_total f_asked a_text a_size a_pattern n (nI (cn_c (fun s => ∃ q, q < dt_s L D ∧ T q = s + 5 ∧ fi_mt T (dt_s L D) Q (q + 1) 0 A) s)) (nI s) := by
  intro n
  induction n with
  | zero => intro s z; omega
  | succ n ih =>
    intro s g1 g2
    refine pk_le 5 s (fun z => ?_) (fun z => ?_)
    · have e : s = 5 := by omega
      rw [e]; exact k
    · have ih' := ih (s + 1) (by omega) (by omega)
      refine yb_led h ok hA hQ z (fun y => ?_) (fun y => ?_)
      · rw [cn_t (p := fun s => ∃ q, q < dt_s L D ∧ T q = s + 5 ∧ fi_mt T (dt_s L D) Q (q + 1) 0 A) y] at ih'
        exact br_f xs_ne1 (nm_r (nI_1 _) (nm_r (nI_1 _) ih'))
      · rw [cn_f (p := fun s => ∃ q, q < dt_s L D ∧ T q = s + 5 ∧ fi_mt T (dt_s L D) Q (q + 1) 0 A) y] at ih'
        exact br_t rfl (nm_r (nI_1 _) ih')
theorem yb_exts {post : Int32 → Prop} (h : ya_T D L T A Q (f_docs, f_total, f_asked, a_text, a_size, a_pattern)) (ok : dt_ok T D L) (hA : A ≤ 8) (hQ : ∀ i, i < A → Q i < 5)
    (k : post (nI (cn_c (fun s => ∃ q, q < dt_s L D ∧ T q = s + 5 ∧ fi_mt T (dt_s L D) Q (q + 1) 0 A) 5))) : wpY_extensions post (f_docs, f_total, f_asked, a_text, a_size, a_pattern) := by
  unfold wpY_extensions
  dsimp only
  exact ⟨6, yc_x4 h ok hA hQ k 6 0 (by omega) (by omega)⟩
end
end
section
/-! Y: shared, before, rank, ranked, seen, repeated, different -/
section
variable {f_docs f_total f_asked : Int32} {a_text a_size a_pattern : Nat → Int32}
variable {D A : Nat} {L T Q : Nat → Nat}
theorem yd_s6 {post : Int32 → Prop} (h : ya_T D L T A Q (f_docs, f_total, f_asked, a_text, a_size, a_pattern)) (ok : dt_ok T D L) {d p e q : Nat} (hd : d < D) (hp : p ≤ L d) (he : e < D) (hq : q ≤ L e)
    (k : post (nI (lc_l T (dt_s L D) (dt_s L d + p) (dt_s L e + q)))) :
    ∀ n i x : Nat, 60 - i < n → i ≤ 60 → ((x = i ∧ i ≤ lc_l T (dt_s L D) (dt_s L d + p) (dt_s L e + q)) ∨ (x = lc_l T (dt_s L D) (dt_s L d + p) (dt_s L e + q) ∧ lc_l T (dt_s L D) (dt_s L d + p) (dt_s L e + q) < i)) → wY_shared_6 post (nI d) (nI p) (nI e) (nI q) f_docs f_total f_asked a_text a_size a_pattern n (nI x) (nI i) := by
  have hb := ok.1
  have hd60 := dt_L60 ok hd
  have he60 := dt_L60 ok he
  have l1 := lc_doc ok hd hp (dt_s L e + q)
  have l2 := lc_doc ok he hq (dt_s L d + p)
  rw [lc_sy] at l2
  have hn : ∀ i, i ≤ lc_l T (dt_s L D) (dt_s L d + p) (dt_s L e + q) → (i + 1 ≤ lc_l T (dt_s L D) (dt_s L d + p) (dt_s L e + q) ↔ p + i < L d ∧ q + i < L e ∧ T (dt_s L d + p + i) = T (dt_s L e + q + i)) := fun i hi => lc_nxt ok hd hp he hq hi
  generalize hl : lc_l T (dt_s L D) (dt_s L d + p) (dt_s L e + q) = l at k l1 l2 hn ⊢
  intro n
  induction n with
  | zero => intro i x z; omega
  | succ n ih =>
    intro i x g1 g2 g3
    have hn' := hn i
    refine pk_le 60 i (fun z => ?_) (fun z => ?_)
    · have e1 : x = l := by omega
      rw [e1]; exact k
    · refine pk_eq x i (fun y => ?_) (fun y => ?_)
      · have hil : i ≤ l := by omega
        have hn2 := hn' hil
        refine ⟨vp_in_nI (by omega) (by omega), ?_⟩
        refine pk_le (L d) (p + i) (fun w => ?_) (fun w => ?_) (by rw [nI_clamp (by omega)]; exact h.2.2.2.1 d hd) (nI_add p i)
        · exact nm_r (nI_1 i) (ih (i + 1) x (by omega) (by omega) (by omega))
        · refine ⟨vp_in_nI (by omega) (by omega), ?_⟩
          refine pk_le (L e) (q + i) (fun w2 => ?_) (fun w2 => ?_) (by rw [nI_clamp (by omega)]; exact h.2.2.2.1 e he) (nI_add q i)
          · exact nm_r (nI_1 i) (ih (i + 1) x (by omega) (by omega) (by omega))
          · have e1 : (60 : Int32) * nI d + nI p + nI i = nI (60 * d + (p + i)) := by rw [ga_60, nI_add, nI_add, Nat.add_assoc]
            have e2 : (60 : Int32) * nI e + nI q + nI i = nI (60 * e + (q + i)) := by rw [ga_60, nI_add, nI_add, Nat.add_assoc]
            have t1 := ok.2.2 d (p + i) hd w
            have t2 := ok.2.2 e (q + i) he w2
            rw [e1, e2, ya_at h hd w (by omega), ya_at h he w2 (by omega)]
            rw [Nat.add_assoc, Nat.add_assoc] at hn2
            refine ⟨vp_in_nI (by omega) (by omega), vp_in_nI (by omega) (by omega), ?_⟩
            refine pk_eq (T (dt_s L d + (p + i)) - 5) (T (dt_s L e + (q + i)) - 5) (fun v => ?_) (fun v => ?_)
            · have h1 := hn2.mpr ⟨w, w2, by omega⟩
              exact nm_r (nI_1 x) (nm_r (nI_1 i) (ih (i + 1) (x + 1) (by omega) (by omega) (by omega)))
            · have h1 : ¬ i + 1 ≤ l := fun v2 => v (by rw [(hn2.mp v2).2.2])
              exact nm_r (nI_1 i) (ih (i + 1) x (by omega) (by omega) (by omega))
      · exact nm_r (nI_1 i) (ih (i + 1) x (by omega) (by omega) (by omega))
theorem yb_shr {post : Int32 → Prop} (h : ya_T D L T A Q (f_docs, f_total, f_asked, a_text, a_size, a_pattern)) (ok : dt_ok T D L) {d p e q : Nat} (hd : d < D) (hp : p ≤ L d) (he : e < D) (hq : q ≤ L e)
    (k : post (nI (lc_l T (dt_s L D) (dt_s L d + p) (dt_s L e + q)))) : wpY_shared post (f_docs, f_total, f_asked, a_text, a_size, a_pattern) (nI d) (nI p) (nI e) (nI q) := by
  unfold wpY_shared
  dsimp only
  exact ⟨61, yd_s6 h ok hd hp he hq k 61 0 0 (by omega) (by omega) (Or.inl ⟨rfl, Nat.zero_le _⟩)⟩
theorem yb_bef {post : Int32 → Prop} (h : ya_T D L T A Q (f_docs, f_total, f_asked, a_text, a_size, a_pattern)) (ok : dt_ok T D L) {d p e q : Nat} (hd : d < D) (hp : p ≤ L d) (he : e < D) (hq : q ≤ L e)
    (k1 : kv_v T (dt_s L D) 128 (dt_s L d + p) < kv_v T (dt_s L D) 128 (dt_s L e + q) → post 1) (k0 : ¬ kv_v T (dt_s L D) 128 (dt_s L d + p) < kv_v T (dt_s L D) 128 (dt_s L e + q) → post 0) : wpY_before post (f_docs, f_total, f_asked, a_text, a_size, a_pattern) (nI d) (nI p) (nI e) (nI q) := by
  have hb := ok.1
  have hN := dt_N65 ok
  have hd60 := dt_L60 ok hd
  have he60 := dt_L60 ok he
  have l1 := lc_doc ok hd hp (dt_s L e + q)
  have l2 := lc_doc ok he hq (dt_s L d + p)
  rw [lc_sy] at l2
  have ha := dt_in (L := L) hd hp
  have hb' := dt_in (L := L) he hq
  have hord := lc_ord ok (show dt_s L D ≤ 128 from by omega) ha hb'
  unfold wpY_before
  dsimp only
  refine yb_shr h ok hd hp he hq ?_
  generalize hl : lc_l T (dt_s L D) (dt_s L d + p) (dt_s L e + q) = l at l1 l2 hord ⊢
  have s1 := dt_sym ok hd (show p + l ≤ L d from by omega)
  have s2 := dt_sym ok he (show q + l ≤ L e from by omega)
  rw [Nat.add_assoc, Nat.add_assoc] at hord
  have m1 : p + l = L d → T (dt_s L d + (p + l)) = d := fun z => by rw [z]; exact ok.2.1 d hd
  have m2 : q + l = L e → T (dt_s L e + (q + l)) = e := fun z => by rw [z]; exact ok.2.1 e he
  have sz1 : a_size (nI d).toNatClampNeg = nI (L d) := by rw [nI_clamp (by omega)]; exact h.2.2.2.1 d hd
  have sz2 : a_size (nI e).toNatClampNeg = nI (L e) := by rw [nI_clamp (by omega)]; exact h.2.2.2.1 e he
  have same : dt_s L d + p = dt_s L e + q → ¬ kv_v T (dt_s L D) 128 (dt_s L d + p) < kv_v T (dt_s L D) 128 (dt_s L e + q) := fun z => by rw [z]; omega
  have uni : dt_s L d + p = dt_s L e + q → d = e ∧ p = q := fun z => dt_un hp hq z
  refine ⟨vp_in_nI (by omega) (by omega), ?_⟩
  refine pk_eq (p + l) (L d) (fun y => ?_) (fun y => ?_) (nI_add p l) sz1
  · unfold wY_before_29
    refine ⟨vp_in_nI (by omega) (by omega), ?_⟩
    refine pk_eq (q + l) (L e) (fun w => ?_) (fun w => ?_) (nI_add q l) sz2
    · unfold wY_before_50
      refine br_f xs_ne1 (br_f xs_ne1 ?_)
      have m1' := m1 y
      have m2' := m2 w
      by_cases e1 : dt_s L d + p = dt_s L e + q
      · have := (uni e1).1
        exact pk_le e d (fun _ => k0 (same e1)) (fun v => by omega)
      · have ho := hord e1
        rw [m1', m2'] at ho
        exact pk_le e d (fun v => k0 (fun z => by have := ho.mp z; omega)) (fun v => k1 (ho.mpr v))
    · unfold wY_before_50
      refine br_f xs_ne1 (br_t rfl ?_)
      unfold wY_before_73
      refine br_f xs_ne1 ⟨rfl, k1 ?_⟩
      have e1 : ¬ dt_s L d + p = dt_s L e + q := fun z => by
        have := uni z
        rw [this.1, this.2] at y
        omega
      have m1' := m1 y
      rw [hord e1, m1']
      have := s2.mpr (by omega)
      omega
  · unfold wY_before_29
    refine ⟨vp_in_nI (by omega) (by omega), ?_⟩
    have t1 := s1.mpr (by omega)
    refine pk_eq (q + l) (L e) (fun w => ?_) (fun w => ?_) (nI_add q l) sz2
    · unfold wY_before_50
      refine br_t rfl ?_
      unfold wY_before_73
      refine br_t rfl (br_f xs_ne1 ⟨rfl, k0 ?_⟩)
      have e1 : ¬ dt_s L d + p = dt_s L e + q := fun z => by
        have := uni z
        rw [this.1, this.2] at y
        omega
      have m2' := m2 w
      rw [hord e1, m2']
      omega
    · unfold wY_before_50
      refine br_t rfl ?_
      unfold wY_before_73
      refine br_t rfl (br_t rfl ?_)
      have t2 := s2.mpr (by omega)
      have u1 := dt_T10 ok _ (dt_in (L := L) hd (show p + l ≤ L d from by omega))
      have u2 := dt_T10 ok _ (dt_in (L := L) he (show q + l ≤ L e from by omega))
      have e1 : (60 : Int32) * nI d + nI p + nI l = nI (60 * d + (p + l)) := by rw [ga_60, nI_add, nI_add, Nat.add_assoc]
      have e2 : (60 : Int32) * nI e + nI q + nI l = nI (60 * e + (q + l)) := by rw [ga_60, nI_add, nI_add, Nat.add_assoc]
      rw [e1, e2, ya_at h hd (show p + l < L d from by omega) (by omega), ya_at h he (show q + l < L e from by omega) (by omega)]
      refine ⟨vp_in_nI (by omega) (by omega), vp_in_nI (by omega) (by omega), ?_⟩
      by_cases e3 : dt_s L d + p = dt_s L e + q
      · have := uni e3
        obtain ⟨rfl, rfl⟩ := this
        exact pk_le (T (dt_s L d + (p + l)) - 5) (T (dt_s L d + (p + l)) - 5) (fun _ => k0 (same rfl)) (fun v => by omega)
      · have ho := hord e3
        exact pk_le (T (dt_s L e + (q + l)) - 5) (T (dt_s L d + (p + l)) - 5) (fun v => k0 (fun z => by have := ho.mp z; omega)) (fun v => k1 (ho.mpr (by omega)))
/-- the reference's rank of the rest at b -/
noncomputable def yd_R (T : Nat → Nat) (N b n : Nat) : Nat := cn_c (fun a => 5 ≤ T a ∧ kv_v T N 128 a < kv_v T N 128 b) n
theorem yd_r23 {post : Int32 → Prop} {J : Int32 → Int32 → Prop} (h : ya_T D L T A Q (f_docs, f_total, f_asked, a_text, a_size, a_pattern)) (ok : dt_ok T D L) {d e q : Nat} (hd : d < D) (he : e < D) (hq : q ≤ L e)
    (k : J (nI (yd_R T (dt_s L D) (dt_s L e + q) (dt_s L (d + 1)))) (nI (d + 1))) :
    ∀ n p : Nat, L d - p < n → p ≤ L d → wY_rank_23 post J (nI e) (nI q) (nI d) f_docs f_total f_asked a_text a_size a_pattern n (nI (yd_R T (dt_s L D) (dt_s L e + q) (dt_s L d + p))) (nI p) := by
  have hb := ok.1
  have h60 := dt_L60 ok hd
  intro n
  induction n with
  | zero => intro p z; omega
  | succ n ih =>
    intro p g1 g2
    refine ⟨vp_in_nI (by omega) (by omega), ?_⟩
    refine pk_le (L d) p (fun z => ?_) (fun z => ?_) (by rw [nI_clamp (by omega)]; exact h.2.2.2.1 d hd)
    · have e1 : p = L d := by omega
      subst e1
      have e2 : yd_R T (dt_s L D) (dt_s L e + q) (dt_s L (d + 1)) = yd_R T (dt_s L D) (dt_s L e + q) (dt_s L d + L d) := by
        unfold yd_R
        rw [dt_S, cn_f]
        intro z2
        have := z2.1
        rw [ok.2.1 d hd] at this
        omega
      rw [e2] at k
      exact nm_r (nI_1 _) k
    · have hsy := (ok.2.2 d p hd z).1
      have ih' : wY_rank_23 post J (nI e) (nI q) (nI d) f_docs f_total f_asked a_text a_size a_pattern n (nI (yd_R T (dt_s L D) (dt_s L e + q) (dt_s L d + p + 1))) (nI (p + 1)) := ih (p + 1) (by omega) (by omega)
      unfold yd_R at ih' ⊢
      refine yb_bef h ok hd g2 he hq (fun y => ?_) (fun y => ?_)
      · rw [cn_t (n := dt_s L d + p) ⟨hsy, y⟩] at ih'
        exact br_f xs_ne1 (nm_r (nI_1 _) (nm_r (nI_1 _) ih'))
      · rw [cn_f (n := dt_s L d + p) (fun w => y w.2)] at ih'
        exact br_t rfl (nm_r (nI_1 _) ih')
theorem yd_r5 {post : Int32 → Prop} (h : ya_T D L T A Q (f_docs, f_total, f_asked, a_text, a_size, a_pattern)) (ok : dt_ok T D L) {e q : Nat} (he : e < D) (hq : q ≤ L e) (k : post (nI (yd_R T (dt_s L D) (dt_s L e + q) (dt_s L D)))) :
    ∀ n d : Nat, D - d < n → d ≤ D → wY_rank_5 post (nI e) (nI q) f_docs f_total f_asked a_text a_size a_pattern n (nI (yd_R T (dt_s L D) (dt_s L e + q) (dt_s L d))) (nI d) := by
  have hb := ok.1
  intro n
  induction n with
  | zero => intro d z; omega
  | succ n ih =>
    intro d g1 g2
    refine pk_le D d (fun z => ?_) (fun z => ?_) h.1
    · have e1 : d = D := by omega
      subst e1
      exact k
    · refine pk_le 5 d (fun y => by omega) (fun y => ⟨L d + 1, ?_⟩)
      exact yd_r23 h ok z he hq (ih (d + 1) (by omega) (by omega)) (L d + 1) 0 (by omega) (by omega)
theorem yb_rk {post : Int32 → Prop} (h : ya_T D L T A Q (f_docs, f_total, f_asked, a_text, a_size, a_pattern)) (ok : dt_ok T D L) {e q : Nat} (he : e < D) (hq : q ≤ L e) (k : post (nI (yd_R T (dt_s L D) (dt_s L e + q) (dt_s L D)))) : wpY_rank post (f_docs, f_total, f_asked, a_text, a_size, a_pattern) (nI e) (nI q) := by
  unfold wpY_rank
  dsimp only
  exact ⟨D + 1, yd_r5 h ok he hq k (D + 1) 0 (by omega) (by omega)⟩
theorem yd_k17 {post : Int32 → Prop} {J : Int32 → Prop} (h : ya_T D L T A Q (f_docs, f_total, f_asked, a_text, a_size, a_pattern)) (ok : dt_ok T D L) {v : Int32} {d : Nat} (hd : d < D)
    (hit : ∀ p, p < L d → nI (yd_R T (dt_s L D) (dt_s L d + p) (dt_s L D)) = v → post (nI (64 * d + p)))
    (k : (∀ d' p, d' < d + 1 → p < L d' → nI (yd_R T (dt_s L D) (dt_s L d' + p) (dt_s L D)) ≠ v) → J (nI (d + 1))) (g : ∀ d' p, d' < d → p < L d' → nI (yd_R T (dt_s L D) (dt_s L d' + p) (dt_s L D)) ≠ v) :
    ∀ n p : Nat, L d - p < n → p ≤ L d → (∀ p', p' < p → nI (yd_R T (dt_s L D) (dt_s L d + p') (dt_s L D)) ≠ v) → wY_ranked_17 post J v (nI d) f_docs f_total f_asked a_text a_size a_pattern n (nI p) := by
  have hb := ok.1
  have h60 := dt_L60 ok hd
  intro n
  induction n with
  | zero => intro p z; omega
  | succ n ih =>
    intro p g1 g2 g3
    refine ⟨vp_in_nI (by omega) (by omega), ?_⟩
    refine pk_le (L d) p (fun z => ?_) (fun z => ?_) (by rw [nI_clamp (by omega)]; exact h.2.2.2.1 d hd)
    · have e1 : p = L d := by omega
      subst e1
      refine nm_r (nI_1 _) (k (fun d' p' hd' hp' => ?_))
      by_cases e2 : d' = d
      · subst e2; exact g3 p' hp'
      · exact g d' p' (by omega) hp'
    · refine yb_rk h ok hd g2 (br_c (fun y => ?_) (fun y => ?_))
      · rw [ga_64, nI_add]
        exact hit p z y
      · refine nm_r (nI_1 _) (ih (p + 1) (by omega) (by omega) (fun p' hp' => ?_))
        by_cases e2 : p' = p
        · rw [e2]; exact y
        · exact g3 p' (by omega)
theorem yd_k2 {post : Int32 → Prop} (h : ya_T D L T A Q (f_docs, f_total, f_asked, a_text, a_size, a_pattern)) (ok : dt_ok T D L) {v : Int32}
    (hit : ∀ d p, d < D → p < L d → nI (yd_R T (dt_s L D) (dt_s L d + p) (dt_s L D)) = v → post (nI (64 * d + p)))
    (k : (∀ d p, d < D → p < L d → nI (yd_R T (dt_s L D) (dt_s L d + p) (dt_s L D)) ≠ v) → post (-1)) :
    ∀ n d : Nat, D - d < n → d ≤ D → (∀ d' p, d' < d → p < L d' → nI (yd_R T (dt_s L D) (dt_s L d' + p) (dt_s L D)) ≠ v) → wY_ranked_2 post v f_docs f_total f_asked a_text a_size a_pattern n (nI d) := by
  have hb := ok.1
  intro n
  induction n with
  | zero => intro d z; omega
  | succ n ih =>
    intro d g1 g2 g3
    refine pk_le D d (fun z => ?_) (fun z => ?_) h.1
    · have e1 : d = D := by omega
      subst e1
      exact k g3
    · refine pk_le 5 d (fun y => by omega) (fun y => ⟨L d + 1, ?_⟩)
      exact yd_k17 h ok z (fun p => hit d p z) (fun g => ih (d + 1) (by omega) (by omega) g) g3 (L d + 1) 0 (by omega) (by omega) (fun p' hp' => by omega)
theorem yb_rkd {post : Int32 → Prop} (h : ya_T D L T A Q (f_docs, f_total, f_asked, a_text, a_size, a_pattern)) (ok : dt_ok T D L) {v : Int32}
    (hit : ∀ d p, d < D → p < L d → nI (yd_R T (dt_s L D) (dt_s L d + p) (dt_s L D)) = v → post (nI (64 * d + p)))
    (k : (∀ d p, d < D → p < L d → nI (yd_R T (dt_s L D) (dt_s L d + p) (dt_s L D)) ≠ v) → post (-1)) : wpY_ranked post (f_docs, f_total, f_asked, a_text, a_size, a_pattern) v := by
  unfold wpY_ranked
  dsimp only
  exact ⟨D + 1, yd_k2 h ok hit k (D + 1) 0 (by omega) (by omega) (fun d p hd => by omega)⟩
/-! seen -/
def yd_G (T : Nat → Nat) (N b x : Nat) : Nat := df_m (fun a => lc_l T N a b) (if x ≤ b then x else b)
theorem yd_Gh {N b x : Nat} (hx : b ≤ x) : yd_G T N b x = df_seen T N b := by
  unfold yd_G df_seen
  by_cases e : x ≤ b
  · rw [if_pos e, show x = b from by omega]
  · rw [if_neg e]
theorem yd_Gm {N b x : Nat} (hm : T x < 5) : yd_G T N b (x + 1) = yd_G T N b x := by
  by_cases e : x + 1 ≤ b
  · unfold yd_G
    rw [if_pos e, if_pos (show x ≤ b from by omega), df_mt]
    rw [lc_mk0 hm]; exact Nat.zero_le _
  · rw [yd_Gh (by omega), yd_Gh (by omega)]
theorem yd_s38 {post : Int32 → Prop} {J J2 : Int32 → Int32 → Prop} (h : ya_T D L T A Q (f_docs, f_total, f_asked, a_text, a_size, a_pattern)) (ok : dt_ok T D L) {d p e q : Nat} (hd : d < D) (hp : p ≤ L d) (he : e < D) (hq : q ≤ L e) (hlt : dt_s L d + p < dt_s L e + q)
    (k : J2 (nI (yd_G T (dt_s L D) (dt_s L e + q) (dt_s L d + p + 1))) (nI (p + 1))) :
    wY_seen_38 post J J2 (nI e) (nI q) (nI (yd_G T (dt_s L D) (dt_s L e + q) (dt_s L d + p))) (nI d) (nI p) f_docs f_total f_asked a_text a_size a_pattern := by
  unfold wY_seen_38
  have h60 := dt_L60 ok hd
  have l1 := lc_doc ok hd hp (dt_s L e + q)
  have hN := dt_N65 ok
  have hle : yd_G T (dt_s L D) (dt_s L e + q) (dt_s L d + p) ≤ 65 := by
    unfold yd_G
    by_cases z : df_m (fun a => lc_l T (dt_s L D) a (dt_s L e + q)) (if dt_s L d + p ≤ dt_s L e + q then dt_s L d + p else dt_s L e + q) = 0
    · omega
    · rcases df_mi.mp (Nat.le_refl (df_m (fun a => lc_l T (dt_s L D) a (dt_s L e + q)) (if dt_s L d + p ≤ dt_s L e + q then dt_s L d + p else dt_s L e + q))) with y | ⟨i, _, y⟩
      · omega
      · have := lc_leN (T := T) (N := dt_s L D) i (dt_s L e + q)
        exact Nat.le_trans y (by omega)
  have e1 : yd_G T (dt_s L D) (dt_s L e + q) (dt_s L d + p) = df_m (fun a => lc_l T (dt_s L D) a (dt_s L e + q)) (dt_s L d + p) := by
    unfold yd_G; rw [if_pos (Nat.le_of_lt hlt)]
  have e2 : yd_G T (dt_s L D) (dt_s L e + q) (dt_s L d + p + 1) = df_m (fun a => lc_l T (dt_s L D) a (dt_s L e + q)) (dt_s L d + p + 1) := by
    unfold yd_G; rw [if_pos (show dt_s L d + p + 1 ≤ dt_s L e + q from hlt)]
  rw [e2] at k
  rw [e1] at hle ⊢
  refine yb_shr h ok hd hp he hq ?_
  refine pk_le (lc_l T (dt_s L D) (dt_s L d + p) (dt_s L e + q)) (df_m (fun a => lc_l T (dt_s L D) a (dt_s L e + q)) (dt_s L d + p)) (fun y => ?_) (fun y => ?_)
  · rw [df_mt (f := fun a => lc_l T (dt_s L D) a (dt_s L e + q)) y] at k
    exact nm_r (nI_1 _) k
  · rw [df_mf (f := fun a => lc_l T (dt_s L D) a (dt_s L e + q)) (by show ¬ _ ≤ _; omega)] at k
    exact nm_r (nI_1 _) k
theorem yd_s14 {post : Int32 → Prop} {J : Int32 → Int32 → Prop} (h : ya_T D L T A Q (f_docs, f_total, f_asked, a_text, a_size, a_pattern)) (ok : dt_ok T D L) {d e q : Nat} (hde : d ≤ e) (he : e < D) (hq : q ≤ L e)
    (k : J (nI (yd_G T (dt_s L D) (dt_s L e + q) (dt_s L (d + 1)))) (nI (d + 1))) :
    ∀ n p : Nat, L d - p < n → p ≤ L d → wY_seen_14 post J (nI e) (nI q) (nI d) f_docs f_total f_asked a_text a_size a_pattern n (nI (yd_G T (dt_s L D) (dt_s L e + q) (dt_s L d + p))) (nI p) := by
  have hb := ok.1
  have hd : d < D := by omega
  have h60 := dt_L60 ok hd
  have he60 := dt_L60 ok he
  intro n
  induction n with
  | zero => intro p z; omega
  | succ n ih =>
    intro p g1 g2
    refine ⟨vp_in_nI (by omega) (by omega), ?_⟩
    refine pk_le (L d) p (fun z => ?_) (fun z => ?_) (by rw [nI_clamp (by omega)]; exact h.2.2.2.1 d hd)
    · have e1 : p = L d := by omega
      subst e1
      have hm : T (dt_s L d + L d) < 5 := by rw [ok.2.1 d hd]; omega
      rw [dt_S, yd_Gm hm] at k
      exact nm_r (nI_1 _) k
    · have ih' : wY_seen_14 post J (nI e) (nI q) (nI d) f_docs f_total f_asked a_text a_size a_pattern n (nI (yd_G T (dt_s L D) (dt_s L e + q) (dt_s L d + p + 1))) (nI (p + 1)) := ih (p + 1) (by omega) (by omega)
      refine pk_lt d e (fun y => ?_) (fun y => ?_)
      · exact yd_s38 h ok hd g2 he hq (by have := dt_lt (L := L) y; omega) ih'
      · have e1 : d = e := by omega
        subst e1
        refine pk_le q p (fun w => ?_) (fun w => ?_)
        · rw [yd_Gh (by omega)] at ih'
          rw [yd_Gh (by omega)]
          exact nm_r (nI_1 _) ih'
        · exact yd_s38 h ok hd g2 he hq (by omega) ih'
theorem yd_s5 {post : Int32 → Prop} (h : ya_T D L T A Q (f_docs, f_total, f_asked, a_text, a_size, a_pattern)) (ok : dt_ok T D L) {e q : Nat} (he : e < D) (hq : q ≤ L e) (k : post (nI (df_seen T (dt_s L D) (dt_s L e + q)))) :
    ∀ n d : Nat, e + 1 - d < n → d ≤ e + 1 → wY_seen_5 post (nI e) (nI q) f_docs f_total f_asked a_text a_size a_pattern n (nI (yd_G T (dt_s L D) (dt_s L e + q) (dt_s L d))) (nI d) := by
  have hb := ok.1
  intro n
  induction n with
  | zero => intro d z; omega
  | succ n ih =>
    intro d g1 g2
    refine pk_lt e d (fun z => ?_) (fun z => ⟨L d + 1, ?_⟩)
    · have e1 : d = e + 1 := by omega
      subst e1
      rw [yd_Gh (by rw [dt_S]; omega)]
      exact k
    · exact yd_s14 h ok z he hq (ih (d + 1) (by omega) (by omega)) (L d + 1) 0 (by omega) (by omega)
theorem yb_seen {post : Int32 → Prop} (h : ya_T D L T A Q (f_docs, f_total, f_asked, a_text, a_size, a_pattern)) (ok : dt_ok T D L) {e q : Nat} (he : e < D) (hq : q ≤ L e) (k : post (nI (df_seen T (dt_s L D) (dt_s L e + q)))) : wpY_seen post (f_docs, f_total, f_asked, a_text, a_size, a_pattern) (nI e) (nI q) := by
  unfold wpY_seen
  dsimp only
  refine ⟨e + 2, yd_s5 h ok he hq k (e + 2) 0 (by omega) (by omega)⟩
theorem yd_smk {N x : Nat} (hm : T x < 5) : df_seen T N x = 0 := by
  have := df_seenle (T := T) (N := N) (b := x)
  rw [lc_mk0 hm] at this
  omega
theorem yd_sle (ok : dt_ok T D L) (n : Nat) : df_m (fun b => df_seen T (dt_s L D) b) n ≤ 65 := by
  have hN := dt_N65 ok
  rcases df_mi.mp (Nat.le_refl (df_m (fun b => df_seen T (dt_s L D) b) n)) with y | ⟨i, _, y⟩
  · omega
  · have h1 := df_seenle (T := T) (N := dt_s L D) (b := i)
    have h2 := lc_leN (T := T) (N := dt_s L D) i i
    exact Nat.le_trans y (by omega)
theorem yd_p19 {post : Int32 → Prop} {J : Int32 → Int32 → Prop} (h : ya_T D L T A Q (f_docs, f_total, f_asked, a_text, a_size, a_pattern)) (ok : dt_ok T D L) {d : Nat} (hd : d < D)
    (k : J (nI (df_m (fun b => df_seen T (dt_s L D) b) (dt_s L (d + 1)))) (nI (d + 1))) :
    ∀ n p : Nat, L d - p < n → p ≤ L d → wY_repeated_19 post J (nI d) f_docs f_total f_asked a_text a_size a_pattern n (nI (df_m (fun b => df_seen T (dt_s L D) b) (dt_s L d + p))) (nI p) := by
  have hb := ok.1
  have hN := dt_N65 ok
  have h60 := dt_L60 ok hd
  intro n
  induction n with
  | zero => intro p z; omega
  | succ n ih =>
    intro p g1 g2
    refine ⟨vp_in_nI (by omega) (by omega), ?_⟩
    refine pk_le (L d) p (fun z => ?_) (fun z => ?_) (by rw [nI_clamp (by omega)]; exact h.2.2.2.1 d hd)
    · have e1 : p = L d := by omega
      subst e1
      have hm : T (dt_s L d + L d) < 5 := by rw [ok.2.1 d hd]; omega
      rw [dt_S, df_mt (f := fun b => df_seen T (dt_s L D) b) (by show df_seen T (dt_s L D) _ ≤ _; rw [yd_smk hm]; exact Nat.zero_le _)] at k
      exact nm_r (nI_1 _) k
    · have ih' : wY_repeated_19 post J (nI d) f_docs f_total f_asked a_text a_size a_pattern n (nI (df_m (fun b => df_seen T (dt_s L D) b) (dt_s L d + p + 1))) (nI (p + 1)) := ih (p + 1) (by omega) (by omega)
      have h1 := df_seenle (T := T) (N := dt_s L D) (b := dt_s L d + p)
      have h2 := lc_leN (T := T) (N := dt_s L D) (dt_s L d + p) (dt_s L d + p)
      have h3 := yd_sle ok (dt_s L d + p)
      refine yb_seen h ok hd g2 ?_
      refine pk_le (df_seen T (dt_s L D) (dt_s L d + p)) (df_m (fun b => df_seen T (dt_s L D) b) (dt_s L d + p)) (fun y => ?_) (fun y => ?_)
      · rw [df_mt (f := fun b => df_seen T (dt_s L D) b) y] at ih'
        exact nm_r (nI_1 _) ih'
      · rw [df_mf (f := fun b => df_seen T (dt_s L D) b) (by show ¬ _ ≤ _; omega)] at ih'
        exact nm_r (nI_1 _) ih'
theorem yd_p4 {post : Int32 → Prop} (h : ya_T D L T A Q (f_docs, f_total, f_asked, a_text, a_size, a_pattern)) (ok : dt_ok T D L) (k : post (nI (df_m (fun b => df_seen T (dt_s L D) b) (dt_s L D)))) :
    ∀ n d : Nat, D - d < n → d ≤ D → wY_repeated_4 post f_docs f_total f_asked a_text a_size a_pattern n (nI (df_m (fun b => df_seen T (dt_s L D) b) (dt_s L d))) (nI d) := by
  have hb := ok.1
  intro n
  induction n with
  | zero => intro d z; omega
  | succ n ih =>
    intro d g1 g2
    refine pk_le D d (fun z => ?_) (fun z => ?_) h.1
    · have e1 : d = D := by omega
      subst e1
      exact k
    · refine pk_le 5 d (fun y => by omega) (fun y => ⟨L d + 1, ?_⟩)
      exact yd_p19 h ok z (ih (d + 1) (by omega) (by omega)) (L d + 1) 0 (by omega) (by omega)
theorem yb_rep {post : Int32 → Prop} (h : ya_T D L T A Q (f_docs, f_total, f_asked, a_text, a_size, a_pattern)) (ok : dt_ok T D L) (k : post (nI (df_m (fun b => df_seen T (dt_s L D) b) (dt_s L D)))) : wpY_repeated post (f_docs, f_total, f_asked, a_text, a_size, a_pattern) := by
  unfold wpY_repeated
  dsimp only
  exact ⟨D + 1, yd_p4 h ok k (D + 1) 0 (by omega) (by omega)⟩
theorem yd_d19 {post : Int32 → Prop} {J : Int32 → Int32 → Prop} (h : ya_T D L T A Q (f_docs, f_total, f_asked, a_text, a_size, a_pattern)) (ok : dt_ok T D L) {d : Nat} (hd : d < D)
    (k : J (nI (cn_s (fun b => lc_l T (dt_s L D) b b - df_seen T (dt_s L D) b) (dt_s L (d + 1)))) (nI (d + 1))) :
    ∀ n p : Nat, L d - p < n → p ≤ L d → wY_different_19 post J (nI d) f_docs f_total f_asked a_text a_size a_pattern n (nI (cn_s (fun b => lc_l T (dt_s L D) b b - df_seen T (dt_s L D) b) (dt_s L d + p))) (nI p) := by
  have hb := ok.1
  have hN := dt_N65 ok
  have h60 := dt_L60 ok hd
  intro n
  induction n with
  | zero => intro p z; omega
  | succ n ih =>
    intro p g1 g2
    refine ⟨vp_in_nI (by omega) (by omega), ?_⟩
    refine pk_le (L d) p (fun z => ?_) (fun z => ?_) (by rw [nI_clamp (by omega)]; exact h.2.2.2.1 d hd)
    · have e1 : p = L d := by omega
      subst e1
      have hm : T (dt_s L d + L d) < 5 := by rw [ok.2.1 d hd]; omega
      rw [dt_S, cn_sS, lc_mk0 hm, Nat.zero_sub, Nat.add_zero] at k
      exact nm_r (nI_1 _) k
    · have ih' : wY_different_19 post J (nI d) f_docs f_total f_asked a_text a_size a_pattern n (nI (cn_s (fun b => lc_l T (dt_s L D) b b - df_seen T (dt_s L D) b) (dt_s L d + p + 1))) (nI (p + 1)) := ih (p + 1) (by omega) (by omega)
      have h1 := df_seenle (T := T) (N := dt_s L D) (b := dt_s L d + p)
      have hsl := lc_slf ok hd g2
      refine ⟨vp_in_nI (by omega) (by omega), yb_seen h ok hd g2 ?_⟩
      rw [cn_sS, hsl] at ih'
      rw [hsl] at h1
      refine nm_r ?_ (nm_r (nI_1 _) ih')
      rw [nI_clamp (by omega), h.2.2.2.1 d hd, pk_sub g2, pk_sub h1, nI_add]
theorem yd_d4 {post : Int32 → Prop} (h : ya_T D L T A Q (f_docs, f_total, f_asked, a_text, a_size, a_pattern)) (ok : dt_ok T D L) (k : post (nI (cn_s (fun b => lc_l T (dt_s L D) b b - df_seen T (dt_s L D) b) (dt_s L D)))) :
    ∀ n d : Nat, D - d < n → d ≤ D → wY_different_4 post f_docs f_total f_asked a_text a_size a_pattern n (nI (cn_s (fun b => lc_l T (dt_s L D) b b - df_seen T (dt_s L D) b) (dt_s L d))) (nI d) := by
  have hb := ok.1
  intro n
  induction n with
  | zero => intro d z; omega
  | succ n ih =>
    intro d g1 g2
    refine pk_le D d (fun z => ?_) (fun z => ?_) h.1
    · have e1 : d = D := by omega
      subst e1
      exact k
    · refine pk_le 5 d (fun y => by omega) (fun y => ⟨L d + 1, ?_⟩)
      exact yd_d19 h ok z (ih (d + 1) (by omega) (by omega)) (L d + 1) 0 (by omega) (by omega)
theorem yb_dif {post : Int32 → Prop} (h : ya_T D L T A Q (f_docs, f_total, f_asked, a_text, a_size, a_pattern)) (ok : dt_ok T D L) (k : post (nI (cn_s (fun b => lc_l T (dt_s L D) b b - df_seen T (dt_s L D) b) (dt_s L D)))) : wpY_different post (f_docs, f_total, f_asked, a_text, a_size, a_pattern) := by
  unfold wpY_different
  dsimp only
  exact ⟨D + 1, yd_d4 h ok k (D + 1) 0 (by omega) (by omega)⟩
end
end
section
/-! the changes of the documents: pure, then X's and Y's append -/
theorem dt_cg {L L' : Nat → Nat} : ∀ d, (∀ e, e < d → L' e = L e) → dt_s L' d = dt_s L d := by
  intro d
  induction d with
  | zero => intro _; rfl
  | succ d ih => intro h; rw [dt_S, dt_S, ih (fun e he => h e (by omega)), h d (by omega)]
def ap_L (L : Nat → Nat) (D : Nat) : Nat → Nat := rp_u L (D - 1) (L (D - 1) + 1)
def ap_T (T L : Nat → Nat) (D c : Nat) : Nat → Nat := rp_u (rp_u T (dt_s L D - 1) (c + 5)) (dt_s L D) (D - 1)
section
variable {T L : Nat → Nat} {D : Nat}
theorem ap_s {d : Nat} (h : d < D) : dt_s (ap_L L D) d = dt_s L d := by
  apply dt_cg
  intro e he
  exact rp_un (by omega)
theorem ap_sD (h : 1 ≤ D) : dt_s (ap_L L D) D = dt_s L D + 1 := by
  obtain ⟨e, rfl⟩ : ∃ e, D = e + 1 := ⟨D - 1, by omega⟩
  rw [dt_S, dt_S, ap_s (by omega)]
  have : ap_L L (e + 1) e = L e + 1 := by unfold ap_L; rw [Nat.add_sub_cancel, rp_us]
  rw [this]; omega
theorem ap_Ln {d : Nat} (h : d ≠ D - 1) : ap_L L D d = L d := rp_un h
theorem ap_Ls : ap_L L D (D - 1) = L (D - 1) + 1 := rp_us
theorem ap_Tn {q c : Nat} (h : q + 1 < dt_s L D) : ap_T T L D c q = T q := by
  unfold ap_T; rw [rp_un (by omega), rp_un (by omega)]
theorem ap_T1 {c : Nat} (h : 1 ≤ dt_s L D) : ap_T T L D c (dt_s L D - 1) = c + 5 := by
  unfold ap_T; rw [rp_un (by omega), rp_us]
theorem ap_T0 {c : Nat} : ap_T T L D c (dt_s L D) = D - 1 := rp_us
theorem ap_ok (ok : dt_ok T D L) {c : Nat} (hc : c < 5) (hN : dt_s L D < D + 60) : dt_ok (ap_T T L D c) D (ap_L L D) := by
  have hb := ok.1
  have hN1 := dt_N1 ok
  have hNp := dt_Np ok
  refine ⟨⟨hb.1, hb.2.1, by rw [ap_sD hb.1]; omega⟩, fun d hd => ?_, fun d p hd hp => ?_⟩
  · rw [ap_s hd]
    by_cases e : d = D - 1
    · subst e
      rw [ap_Ls, show dt_s L (D - 1) + (L (D - 1) + 1) = dt_s L D from by omega, ap_T0]
    · rw [ap_Ln e, ap_Tn]
      · exact ok.2.1 d hd
      · have := dt_lt (L := L) (show d < D - 1 from by omega); omega
  · rw [ap_s hd]
    by_cases e : d = D - 1
    · subst e
      rw [ap_Ls] at hp
      by_cases e2 : p = L (D - 1)
      · rw [e2, ← hNp, ap_T1 hN1]; omega
      · rw [ap_Tn (by omega)]
        exact ok.2.2 _ p hd (by omega)
    · rw [ap_Ln e] at hp
      have := dt_lt (L := L) (show d < D - 1 from by omega)
      rw [ap_Tn (by omega)]
      exact ok.2.2 d p hd hp
/-- n symbols from place s on, one behind the other -/
def ps_n (D : Nat) : Nat → Nat → (Nat → Nat) → (Nat → Nat) → (Nat → Nat) × (Nat → Nat)
  | 0, _, T, L => (T, L)
  | n + 1, s, T, L => ps_n D n (s + 1) (ap_T T L D (T s - 5)) (ap_L L D)
theorem ps_S (n s : Nat) : ps_n D (n + 1) s T L = ps_n D n (s + 1) (ap_T T L D (T s - 5)) (ap_L L D) := rfl
end
section
variable {f_docs f_size f_asked f_low f_high f_foundCount f_built : Int32} {a_text a_starts a_query a_order a_rank a_second a_column a_smaller a_counted a_sample a_shared a_found : Nat → Int32}
variable {D A : Nat} {L T Q : Nat → Nat}
theorem xg_app {post : SX → Prop} (h : xa_T D L T A Q (f_docs, f_size, f_asked, f_low, f_high, f_foundCount, f_built, a_text, a_starts, a_query, a_order, a_rank, a_second, a_column, a_smaller, a_counted, a_sample, a_shared, a_found)) (ok : dt_ok T D L) {x : Int32} {c : Nat} (hx : x = nI c) (hc : c < 5) (hN : dt_s L D < D + 60)
    (k : ∀ bt : Nat → Int32, xa_T D (ap_L L D) (ap_T T L D c) A Q (f_docs, nI (dt_s (ap_L L D) D), f_asked, f_low, f_high, f_foundCount, 0, bt, a_starts, a_query, a_order, a_rank, a_second, a_column, a_smaller, a_counted, a_sample, a_shared, a_found) → post (f_docs, nI (dt_s (ap_L L D) D), f_asked, f_low, f_high, f_foundCount, 0, bt, a_starts, a_query, a_order, a_rank, a_second, a_column, a_smaller, a_counted, a_sample, a_shared, a_found)) : wpX_append post (f_docs, f_size, f_asked, f_low, f_high, f_foundCount, f_built, a_text, a_starts, a_query, a_order, a_rank, a_second, a_column, a_smaller, a_counted, a_sample, a_shared, a_found) x := by
  subst hx
  have hb := ok.1
  have hN1 := dt_N1 ok
  obtain ⟨e1, e2, h3, h4, h5, h6⟩ := h
  subst e1 e2
  unfold wpX_append
  dsimp only
  have esz : nI (dt_s L D) + 1 = nI (dt_s (ap_L L D) D) := by rw [ap_sD hb.1, nI_1]
  refine ⟨pk_in (dt_s L D - 1) 65 (by omega) (ga_s1 hN1), nm_e ⟨vp_in_nI (by omega) (by omega), nm_e (nm_r esz (k _ ?_))⟩⟩
  refine ⟨rfl, rfl, h3, ?_, fun d hd => ?_, h6⟩
  · rw [ga_s1 hN1, nI_clamp (by omega), nI_clamp (by omega), ga_p5, ga_s1 hb.1, ap_sD hb.1]
    intro i hi
    unfold ap_T
    by_cases z : i = dt_s L D
    · rw [z, pk_us, rp_us]
    · rw [pk_un z, rp_un z]
      by_cases z2 : i = dt_s L D - 1
      · rw [z2, pk_us, rp_us]
      · rw [pk_un z2, rp_un z2]; exact h4 i (by omega)
  · rw [ap_s hd]; exact h5 d hd
theorem xg_p76 {post : Int32 → SX → Prop} {d p cnt : Nat} (hp : p < 100) : ∀ (n k fuel : Nat) (T L : Nat → Nat) (f_size f_built : Int32) (a_text : Nat → Int32), n < fuel → k + n = cnt → cnt ≤ 60 → dt_ok T D L → d < D → p + k + n ≤ L d → dt_s L D + n ≤ D + 60 → xa_T D L T A Q (f_docs, f_size, f_asked, f_low, f_high, f_foundCount, f_built, a_text, a_starts, a_query, a_order, a_rank, a_second, a_column, a_smaller, a_counted, a_sample, a_shared, a_found) → xa_B D L T (f_docs, f_size, f_asked, f_low, f_high, f_foundCount, f_built, a_text, a_starts, a_query, a_order, a_rank, a_second, a_column, a_smaller, a_counted, a_sample, a_shared, a_found) →
    (∀ (T' L' : Nat → Nat) (fs fb : Int32) (bt : Nat → Int32), ps_n D n (dt_s L d + p + k) T L = (T', L') → dt_ok T' D L' → xa_T D L' T' A Q (f_docs, fs, f_asked, f_low, f_high, f_foundCount, fb, bt, a_starts, a_query, a_order, a_rank, a_second, a_column, a_smaller, a_counted, a_sample, a_shared, a_found) → xa_B D L' T' (f_docs, fs, f_asked, f_low, f_high, f_foundCount, fb, bt, a_starts, a_query, a_order, a_rank, a_second, a_column, a_smaller, a_counted, a_sample, a_shared, a_found) → post (nI (dt_s L' D - D)) (f_docs, fs, f_asked, f_low, f_high, f_foundCount, fb, bt, a_starts, a_query, a_order, a_rank, a_second, a_column, a_smaller, a_counted, a_sample, a_shared, a_found)) →
    wX_paste_76 post (nI d) (nI p) (nI cnt) fuel (nI k) f_docs f_size f_asked f_low f_high f_foundCount f_built a_text a_starts a_query a_order a_rank a_second a_column a_smaller a_counted a_sample a_shared a_found := by
  intro n
  induction n with
  | zero =>
    intro k fuel T L f_size f_built a_text h1 h2 h3 ok hd hl hN hX hB hK
    obtain ⟨fuel, rfl⟩ : ∃ m, fuel = m + 1 := ⟨fuel - 1, by omega⟩
    refine pk_le cnt k (fun z => ?_) (fun z => by omega)
    have hb := ok.1
    have hge := dt_ge (L := L) D
    rw [hX.1, hX.2.1, pk_sub hge, ← hX.1, ← hX.2.1]
    exact hK T L f_size f_built a_text rfl ok hX hB
  | succ n ih =>
    intro k fuel T L f_size f_built a_text h1 h2 h3 ok hd hl hN hX hB hK
    obtain ⟨fuel, rfl⟩ : ∃ m, fuel = m + 1 := ⟨fuel - 1, by omega⟩
    have hb := ok.1
    have hN65 := dt_N65 ok
    have hin := dt_in (L := L) hd (show p + k ≤ L d from by omega)
    have hsy := ok.2.2 d (p + k) hd (by omega)
    refine pk_le cnt k (fun z => by omega) (fun z => ?_)
    refine ⟨vp_in_nI (by omega) (by omega), ?_⟩
    have e1 : a_starts (nI d).toNatClampNeg + nI p + nI k = nI (dt_s L d + (p + k)) := by
      rw [nI_clamp (by omega), hX.2.2.2.2.1 d hd, nI_add, nI_add, Nat.add_assoc]
    rw [e1, rp_at hX.2.2.2.1 hin (by omega), ga_s5 hsy.1]
    refine ⟨vp_in_nI (by omega) (by omega), ?_⟩
    refine xg_app hX ok rfl (show T (dt_s L d + (p + k)) - 5 < 5 from by omega) (by omega) (fun bt hX' => ?_)
    refine nm_r (nI_1 k) ?_
    have ok' := ap_ok ok (show T (dt_s L d + (p + k)) - 5 < 5 from by omega) (by omega)
    refine ih (k + 1) fuel _ _ _ 0 bt (by omega) (by omega) h3 ok' hd ?_ ?_ hX' (Or.inl rfl) (fun T' L' fs fb bt' hps => hK T' L' fs fb bt' ?_)
    · by_cases e2 : d = D - 1
      · rw [e2, ap_Ls]; rw [← e2]; omega
      · rw [ap_Ln e2]; omega
    · rw [ap_sD hb.1]; omega
    · rw [ps_S, Nat.add_assoc (dt_s L d) p k]
      rw [ap_s hd] at hps
      rw [show dt_s L d + (p + k) + 1 = dt_s L d + p + (k + 1) from by omega]
      exact hps
end
section
variable {f_docs f_total f_asked : Int32} {a_text a_size a_pattern : Nat → Int32}
variable {D A : Nat} {L T Q : Nat → Nat}
theorem yg_app {post : SY → Prop} (h : ya_T D L T A Q (f_docs, f_total, f_asked, a_text, a_size, a_pattern)) (ok : dt_ok T D L) {x : Int32} {c : Nat} (hx : x = nI c) (hc : c < 5) (hN : dt_s L D < D + 60)
    (k : ∀ bt bs : Nat → Int32, ya_T D (ap_L L D) (ap_T T L D c) A Q (f_docs, nI (dt_s (ap_L L D) D - D), f_asked, bt, bs, a_pattern) → post (f_docs, nI (dt_s (ap_L L D) D - D), f_asked, bt, bs, a_pattern)) : wpY_append post (f_docs, f_total, f_asked, a_text, a_size, a_pattern) x := by
  subst hx
  have hb := ok.1
  have hN1 := dt_N1 ok
  have hge := dt_ge (L := L) D
  have hNp := dt_Np ok
  obtain ⟨e1, e2, h3, h4, h5, h6⟩ := h
  subst e1 e2
  unfold wpY_append
  dsimp only
  have hD1 : D - 1 < D := by omega
  have hL := dt_L (L := L) hD1
  have etot : nI (dt_s L D - D) + 1 = nI (dt_s (ap_L L D) D - D) := by
    rw [ap_sD hb.1, nI_1]
    exact congrArg nI (by omega)
  have eix : (60 : Int32) * nI (D - 1) + a_size (nI (D - 1)).toNatClampNeg = nI (60 * (D - 1) + L (D - 1)) := by
    rw [nI_clamp (by omega), h4 _ hD1, ga_60, nI_add]
  have hin : vp_in (nI (D - 1)) 5 := vp_in_nI (by omega) (by omega)
  refine nm_r (ga_s1 hb.1) ⟨hin, ?_⟩
  rw [eix, nI_clamp (show 60 * (D - 1) + L (D - 1) < 2 ^ 31 from by omega), nI_clamp (show D - 1 < 2 ^ 31 from by omega)]
  refine ⟨vp_in_nI (by omega) (by omega), nm_e ⟨hin, hin, nm_e (nm_r etot (k _ _ ?_))⟩⟩
  refine ⟨rfl, rfl, h3, fun d hd => ?_, fun d p hd hp => ?_, h6⟩
  · by_cases z : d = D - 1
    · rw [z, pk_us, ap_Ls, h4 _ hD1, nI_1]
    · rw [pk_un z, ap_Ln z]; exact h4 d hd
  · rw [ap_s hd]
    by_cases z : d = D - 1
    · subst z
      rw [ap_Ls] at hp
      by_cases z2 : p = L (D - 1)
      · rw [z2, pk_us, ← hNp, ap_T1 hN1, Nat.add_sub_cancel]
      · rw [pk_un (by omega), ap_Tn (by omega)]
        exact h5 _ p hd (by omega)
    · rw [ap_Ln z] at hp
      have h60 := dt_L60 ok hd
      have := dt_lt (L := L) (show d < D - 1 from by omega)
      rw [pk_un (by omega), ap_Tn (by omega)]
      exact h5 d p hd hp
theorem yg_p81 {post : Int32 → SY → Prop} {d p cnt : Nat} (hp : p < 100) : ∀ (n k fuel : Nat) (T L : Nat → Nat) (f_total : Int32) (a_text a_size : Nat → Int32), n < fuel → k + n = cnt → cnt ≤ 60 → dt_ok T D L → d < D → p + k + n ≤ L d → dt_s L D + n ≤ D + 60 → ya_T D L T A Q (f_docs, f_total, f_asked, a_text, a_size, a_pattern) →
    (∀ (T' L' : Nat → Nat) (ft : Int32) (bt bs : Nat → Int32), ps_n D n (dt_s L d + p + k) T L = (T', L') → ya_T D L' T' A Q (f_docs, ft, f_asked, bt, bs, a_pattern) → post (nI (dt_s L' D - D)) (f_docs, ft, f_asked, bt, bs, a_pattern)) →
    wY_paste_81 post (nI d) (nI p) (nI cnt) fuel (nI k) f_docs f_total f_asked a_text a_size a_pattern := by
  intro n
  induction n with
  | zero =>
    intro k fuel T L f_total a_text a_size h1 h2 h3 ok hd hl hN hY hK
    obtain ⟨fuel, rfl⟩ : ∃ m, fuel = m + 1 := ⟨fuel - 1, by omega⟩
    refine pk_le cnt k (fun z => ?_) (fun z => by omega)
    have := hK T L f_total a_text a_size rfl hY
    rw [← hY.2.1] at this
    exact this
  | succ n ih =>
    intro k fuel T L f_total a_text a_size h1 h2 h3 ok hd hl hN hY hK
    obtain ⟨fuel, rfl⟩ : ∃ m, fuel = m + 1 := ⟨fuel - 1, by omega⟩
    have hb := ok.1
    have hsy := ok.2.2 d (p + k) hd (by omega)
    have h60 := dt_L60 ok hd
    refine pk_le cnt k (fun z => by omega) (fun z => ?_)
    have e1 : (60 : Int32) * nI d + nI p + nI k = nI (60 * d + (p + k)) := by rw [ga_60, nI_add, nI_add, Nat.add_assoc]
    rw [e1, ya_at hY hd (show p + k < L d from by omega) (by omega)]
    refine ⟨vp_in_nI (by omega) (by omega), ?_⟩
    refine yg_app hY ok rfl (show T (dt_s L d + (p + k)) - 5 < 5 from by omega) (by omega) (fun bt bs hY' => ?_)
    refine nm_r (nI_1 k) ?_
    have ok' := ap_ok ok (show T (dt_s L d + (p + k)) - 5 < 5 from by omega) (by omega)
    refine ih (k + 1) fuel _ _ _ bt bs (by omega) (by omega) h3 ok' hd ?_ ?_ hY' (fun T' L' ft bt' bs' hps => hK T' L' ft bt' bs' ?_)
    · by_cases e2 : d = D - 1
      · rw [e2, ap_Ls]; rw [← e2]; omega
      · rw [ap_Ln e2]; omega
    · rw [ap_sD hb.1]; omega
    · rw [ps_S, Nat.add_assoc (dt_s L d) p k]
      rw [ap_s hd] at hps
      rw [show dt_s L d + (p + k) + 1 = dt_s L d + p + (k + 1) from by omega]
      exact hps
end
end
section
/-! the relation; push, paste -/
/-- both hold the same documents and the same pattern; where X says that it is built, its index is that of the text -/
def i_Rel (k : Nat) (u : SX) (v : SY) : Prop := ∃ (D A : Nat) (L T Q : Nat → Nat), dt_ok T D L ∧ A ≤ 8 ∧ (∀ i, i < A → Q i < 5) ∧ xa_T D L T A Q u ∧ xa_B D L T u ∧ ya_T D L T A Q v
theorem i_up {k : Nat} {u : SX} {v : SY} (h : i_Rel k u v) : i_Rel (k + 3) u v := h
theorem i_vc0 : wpX_init (fun u => wpY_init (fun v => i_Rel 0 u v)) := by
  unfold wpX_init
  refine nm_e ?_
  unfold wpY_init
  refine ⟨1, 0, fun _ => 0, fun _ => 0, fun _ => 0, ?_, by omega, fun i hi => by omega, ?_, Or.inl rfl, ?_⟩
  · refine ⟨⟨by decide, by decide, by decide⟩, fun d hd => ?_, fun d p hd hp => absurd hp (Nat.not_lt_zero p)⟩
    have e : d = 0 := by omega
    rw [e]
  · refine ⟨rfl, rfl, rfl, fun i hi => ?_, fun d hd => ?_, fun i hi => by omega⟩
    · by_cases e : i = 0
      · rw [e, pk_us]; rfl
      · rw [pk_un e]; rfl
    · have e : d = 0 := by omega
      rw [e]; rfl
  · refine ⟨rfl, rfl, rfl, fun d hd => rfl, fun d p hd hp => absurd hp (Nat.not_lt_zero p), fun i hi => by omega⟩
section
variable {f_docs f_total f_asked : Int32} {a_text a_size a_pattern : Nat → Int32}
variable {D A : Nat} {L T Q : Nat → Nat}
theorem yb_push {post : Int32 → SY → Prop} {v : Int32} (h : ya_T D L T A Q (f_docs, f_total, f_asked, a_text, a_size, a_pattern)) (ok : dt_ok T D L)
    (k1 : (¬ ∃ c, c < 5 ∧ v = nI c) → post (-1) (f_docs, f_total, f_asked, a_text, a_size, a_pattern)) (k2 : (∃ c, c < 5 ∧ v = nI c) → dt_s L D - D = 60 → post (-2) (f_docs, f_total, f_asked, a_text, a_size, a_pattern))
    (k3 : ∀ c, c < 5 → v = nI c → dt_s L D - D < 60 → ∀ bt bs : Nat → Int32, ya_T D (ap_L L D) (ap_T T L D c) A Q (f_docs, nI (dt_s (ap_L L D) D - D), f_asked, bt, bs, a_pattern) → post (nI (dt_s (ap_L L D) D - D)) (f_docs, nI (dt_s (ap_L L D) D - D), f_asked, bt, bs, a_pattern)) : wpY_push post (f_docs, f_total, f_asked, a_text, a_size, a_pattern) v := by
  have hb := ok.1
  have hge := dt_ge (L := L) D
  unfold wpY_push
  dsimp only
  refine yb_sym (fun c hc e => ?_) (fun hno => ?_)
  · refine br_t rfl (pk_lt (dt_s L D - D) 60 (fun w => ?_) (fun w => k2 ⟨c, hc, e⟩ (by omega)) h.2.1)
    exact yg_app h ok e hc (by omega) (fun bt bs hY' => k3 c hc e w bt bs hY')
  · exact br_f xs_ne1 (k1 hno)
theorem yb_paste {post : Int32 → SY → Prop} {v1 v2 : Int32} (h : ya_T D L T A Q (f_docs, f_total, f_asked, a_text, a_size, a_pattern)) (ok : dt_ok T D L)
    (k1 : (¬ ∃ d, d < D ∧ v1 = nI d) → post (-1) (f_docs, f_total, f_asked, a_text, a_size, a_pattern))
    (k2 : ∀ d, d < D → v1 = nI d → (¬ ∃ p c, 1 ≤ c ∧ c ≤ 60 ∧ p + c ≤ L d ∧ v2 = nI (64 * p + c)) → post (-2) (f_docs, f_total, f_asked, a_text, a_size, a_pattern))
    (k3 : ∀ d p c, d < D → v1 = nI d → 1 ≤ c → c ≤ 60 → p + c ≤ L d → v2 = nI (64 * p + c) → 60 < dt_s L D - D + c → post (-3) (f_docs, f_total, f_asked, a_text, a_size, a_pattern))
    (k4 : ∀ d p c, d < D → v1 = nI d → 1 ≤ c → c ≤ 60 → p + c ≤ L d → v2 = nI (64 * p + c) → dt_s L D - D + c ≤ 60 → ∀ (T' L' : Nat → Nat) (ft : Int32) (bt bs : Nat → Int32), ps_n D c (dt_s L d + p + 0) T L = (T', L') → ya_T D L' T' A Q (f_docs, ft, f_asked, bt, bs, a_pattern) → post (nI (dt_s L' D - D)) (f_docs, ft, f_asked, bt, bs, a_pattern)) : wpY_paste post (f_docs, f_total, f_asked, a_text, a_size, a_pattern) v1 v2 := by
  have hb := ok.1
  have hge := dt_ge (L := L) D
  have hN65 := dt_N65 ok
  unfold wpY_paste
  dsimp only
  refine yb_bad h hb.2.1 (fun d hd e => ?_) (fun hno => br_f xs_ne1 (k1 hno))
  subst e
  have h60 := dt_L60 ok hd
  have k2' := k2 d hd rfl
  refine br_t rfl (br_c (fun z => ?_) (fun z => k2' ?_))
  · obtain ⟨n, hn, rfl⟩ := nI_of (x := v2) (Int32.not_lt.mpr z)
    have hdec : ∀ p c, c ≤ 60 → p + c ≤ L d → nI n = nI (64 * p + c) → p = n / 64 ∧ c = n % 64 := by
      intro p c h1 h2 e
      rw [nI_eq hn (by omega)] at e
      omega
    refine ⟨by decide, nm_r (ga_d64 hn) ⟨by decide, nm_r (ga_r64 hn) ?_⟩⟩
    refine pk_lt (n % 64) 1 (fun y => k2' ?_) (fun y => ?_)
    · rintro ⟨p, c, h1, h2, h3, e⟩
      have := hdec p c h2 h3 e
      clear k2' k2
      omega
    refine pk_lt 60 (n % 64) (fun y2 => k2' ?_) (fun y2 => ?_)
    · rintro ⟨p, c, h1, h2, h3, e⟩
      have := hdec p c h2 h3 e
      clear k2' k2
      omega
    refine pk_lt 60 (n / 64) (fun y3 => k2' ?_) (fun y3 => ?_)
    · rintro ⟨p, c, h1, h2, h3, e⟩
      have := hdec p c h2 h3 e
      clear k2' k2
      omega
    refine ⟨vp_in_nI (by omega) (by omega), ?_⟩
    refine pk_le (n / 64 + n % 64) (L d) (fun y4 => ?_) (fun y4 => k2' ?_) (nI_add _ _) (by rw [nI_clamp (by omega)]; exact h.2.2.2.1 d hd)
    · have ev : nI n = nI (64 * (n / 64) + n % 64) := by rw [Nat.div_add_mod]
      refine pk_le (dt_s L D - D + n % 64) 60 (fun y5 => ⟨n % 64 + 1, ?_⟩) (fun y5 => ?_) (by rw [h.2.1, nI_add])
      · refine yg_p81 (Q := Q) (A := A) (by omega) (n % 64) 0 (n % 64 + 1) T L f_total a_text a_size (by omega) (by omega) (by omega) ok hd (by omega) (by omega) h ?_
        exact k4 d (n / 64) (n % 64) hd rfl (by omega) (by omega) y4 ev y5
      · exact k3 d (n / 64) (n % 64) hd rfl (by omega) (by omega) y4 ev y5
    · rintro ⟨p, c, h1, h2, h3, e⟩
      have := hdec p c h2 h3 e
      clear k2' k2
      omega
  · rintro ⟨p, c, h1, h2, h3, e⟩
    apply z
    rw [e]
    clear k2' k2
    exact nI_pos' (by omega)
end
section
variable {f_docs f_size f_asked f_low f_high f_foundCount f_built : Int32} {a_text a_starts a_query a_order a_rank a_second a_column a_smaller a_counted a_sample a_shared a_found : Nat → Int32}
variable {D A : Nat} {L T Q : Nat → Nat}
theorem xb_paste {post : Int32 → SX → Prop} {v1 v2 : Int32} (h : xa_T D L T A Q (f_docs, f_size, f_asked, f_low, f_high, f_foundCount, f_built, a_text, a_starts, a_query, a_order, a_rank, a_second, a_column, a_smaller, a_counted, a_sample, a_shared, a_found)) (hB : xa_B D L T (f_docs, f_size, f_asked, f_low, f_high, f_foundCount, f_built, a_text, a_starts, a_query, a_order, a_rank, a_second, a_column, a_smaller, a_counted, a_sample, a_shared, a_found)) (ok : dt_ok T D L)
    (k1 : (¬ ∃ d, d < D ∧ v1 = nI d) → post (-1) (f_docs, f_size, f_asked, f_low, f_high, f_foundCount, f_built, a_text, a_starts, a_query, a_order, a_rank, a_second, a_column, a_smaller, a_counted, a_sample, a_shared, a_found))
    (k2 : ∀ d, d < D → v1 = nI d → (¬ ∃ p c, 1 ≤ c ∧ c ≤ 60 ∧ p + c ≤ L d ∧ v2 = nI (64 * p + c)) → post (-2) (f_docs, f_size, f_asked, f_low, f_high, f_foundCount, f_built, a_text, a_starts, a_query, a_order, a_rank, a_second, a_column, a_smaller, a_counted, a_sample, a_shared, a_found))
    (k3 : ∀ d p c, d < D → v1 = nI d → 1 ≤ c → c ≤ 60 → p + c ≤ L d → v2 = nI (64 * p + c) → 60 < dt_s L D - D + c → post (-3) (f_docs, f_size, f_asked, f_low, f_high, f_foundCount, f_built, a_text, a_starts, a_query, a_order, a_rank, a_second, a_column, a_smaller, a_counted, a_sample, a_shared, a_found))
    (k4 : ∀ d p c, d < D → v1 = nI d → 1 ≤ c → c ≤ 60 → p + c ≤ L d → v2 = nI (64 * p + c) → dt_s L D - D + c ≤ 60 → ∀ (T' L' : Nat → Nat) (fs fb : Int32) (bt : Nat → Int32), ps_n D c (dt_s L d + p + 0) T L = (T', L') → dt_ok T' D L' → xa_T D L' T' A Q (f_docs, fs, f_asked, f_low, f_high, f_foundCount, fb, bt, a_starts, a_query, a_order, a_rank, a_second, a_column, a_smaller, a_counted, a_sample, a_shared, a_found) → xa_B D L' T' (f_docs, fs, f_asked, f_low, f_high, f_foundCount, fb, bt, a_starts, a_query, a_order, a_rank, a_second, a_column, a_smaller, a_counted, a_sample, a_shared, a_found) → post (nI (dt_s L' D - D)) (f_docs, fs, f_asked, f_low, f_high, f_foundCount, fb, bt, a_starts, a_query, a_order, a_rank, a_second, a_column, a_smaller, a_counted, a_sample, a_shared, a_found)) : wpX_paste post (f_docs, f_size, f_asked, f_low, f_high, f_foundCount, f_built, a_text, a_starts, a_query, a_order, a_rank, a_second, a_column, a_smaller, a_counted, a_sample, a_shared, a_found) v1 v2 := by
  have hb := ok.1
  have hge := dt_ge (L := L) D
  have hN65 := dt_N65 ok
  unfold wpX_paste
  dsimp only
  refine xb_isd h.1 hb.2.1 (fun d hd e => ?_) (fun hno => br_t rfl (k1 hno))
  subst e
  have h60 := dt_L60 ok hd
  have k2' := k2 d hd rfl
  refine br_f xs_ne1 (nm_e (nm_e ?_))
  refine br_c (fun z => k2' ?_) (fun z => ?_)
  · rintro ⟨p, c, h1, h2, h3, e⟩
    rw [e] at z
    clear k2' k2
    exact nI_pos (by omega) z
  · obtain ⟨n, hn, rfl⟩ := nI_of z
    have hdec : ∀ p c, c ≤ 60 → p + c ≤ L d → nI n = nI (64 * p + c) → p = n / 64 ∧ c = n % 64 := by
      intro p c h1 h2 e
      rw [nI_eq hn (by omega)] at e
      omega
    rw [xb_shr hn, xb_and hn]
    refine pk_lt (n % 64) 1 (fun y => k2' ?_) (fun y => ?_)
    · rintro ⟨p, c, h1, h2, h3, e⟩
      have := hdec p c h2 h3 e
      clear k2' k2
      omega
    refine pk_lt 60 (n % 64) (fun y2 => k2' ?_) (fun y2 => ?_)
    · rintro ⟨p, c, h1, h2, h3, e⟩
      have := hdec p c h2 h3 e
      clear k2' k2
      omega
    refine xb_len h ok hd ?_
    refine pk_le (n / 64 + n % 64) (L d) (fun y4 => ?_) (fun y4 => k2' ?_) (nI_add _ _)
    · have ev : nI n = nI (64 * (n / 64) + n % 64) := by rw [Nat.div_add_mod]
      refine pk_le (dt_s L D - D + n % 64) 60 (fun y5 => ⟨n % 64 + 1, ?_⟩) (fun y5 => ?_) (by rw [h.1, h.2.1, pk_sub hge, nI_add])
      · refine xg_p76 (by omega) (n % 64) 0 (n % 64 + 1) T L f_size f_built a_text (by omega) (by omega) (by omega) ok hd (by omega) (by omega) h hB ?_
        exact k4 d (n / 64) (n % 64) hd rfl (by omega) (by omega) y4 ev y5
      · exact k3 d (n / 64) (n % 64) hd rfl (by omega) (by omega) y4 ev y5
    · rintro ⟨p, c, h1, h2, h3, e⟩
      have := hdec p c h2 h3 e
      clear k2' k2
      omega
end
theorem i_vc_push {k : Nat} {u : SX} {v : SY} (I : i_Rel k u v) (hk : k + 3 ≤ 1536) (v1 : Int32) : wpX_push (fun r u' => wpY_push (fun r' v' => r' = r ∧ i_Rel (k + 3) u' v') v v1) u v1 := by
  obtain ⟨f_docs, f_size, f_asked, f_low, f_high, f_foundCount, f_built, a_text, a_starts, a_query, a_order, a_rank, a_second, a_column, a_smaller, a_counted, a_sample, a_shared, a_found⟩ := u
  obtain ⟨f_docs', f_total', f_asked', a_text', a_size', a_pattern'⟩ := v
  obtain ⟨D, A, L, T, Q, ok, hA, hQ, hX, hB, hY⟩ := I
  have hb := ok.1
  have hge := dt_ge (L := L) D
  unfold wpX_push
  dsimp only
  refine xb_sym (fun c hc e => ?_) (fun hno => ?_)
  · refine br_f xs_ne1 ?_
    refine pk_eq (dt_s L D - D) 60 (fun z => ?_) (fun z => ?_) (by rw [hX.1, hX.2.1]; exact pk_sub hge)
    · refine yb_push hY ok (fun hno => absurd ⟨c, hc, e⟩ hno) (fun _ _ => ⟨rfl, D, A, L, T, Q, ok, hA, hQ, hX, hB, hY⟩) (fun c' hc' e' w => by omega)
    · refine xg_app hX ok e hc (by omega) (fun bt hX' => ?_)
      refine yb_push hY ok (fun hno => absurd ⟨c, hc, e⟩ hno) (fun _ w => absurd w z) (fun c' hc' e' w bt' bs' hY' => ?_)
      have ec : c' = c := by
        rw [e, nI_eq (by omega) (by omega)] at e'
        exact e'.symm
      subst ec
      refine ⟨?_, D, A, _, _, Q, ap_ok ok hc (by omega), hA, hQ, hX', Or.inl rfl, hY'⟩
      have hge' := dt_ge (L := ap_L L D) D
      rw [hX.1, pk_sub hge']
  · exact br_t rfl (yb_push hY ok (fun _ => ⟨rfl, D, A, L, T, Q, ok, hA, hQ, hX, hB, hY⟩) (fun ⟨c, hc, e⟩ _ => absurd ⟨c, hc, e⟩ hno) (fun c hc e _ => absurd ⟨c, hc, e⟩ hno))
theorem i_vc_paste {k : Nat} {u : SX} {v : SY} (I : i_Rel k u v) (hk : k + 3 ≤ 1536) (v1 : Int32) (v2 : Int32) : wpX_paste (fun r u' => wpY_paste (fun r' v' => r' = r ∧ i_Rel (k + 3) u' v') v v1 v2) u v1 v2 := by
  obtain ⟨f_docs, f_size, f_asked, f_low, f_high, f_foundCount, f_built, a_text, a_starts, a_query, a_order, a_rank, a_second, a_column, a_smaller, a_counted, a_sample, a_shared, a_found⟩ := u
  obtain ⟨f_docs', f_total', f_asked', a_text', a_size', a_pattern'⟩ := v
  obtain ⟨D, A, L, T, Q, ok, hA, hQ, hX, hB, hY⟩ := I
  have hb := ok.1
  have uD : ∀ d d', d < D → d' < D → nI d = nI d' → d = d' := fun d d' h1 h2 e => by
    rw [nI_eq (by omega) (by omega)] at e; exact e
  have uP : ∀ d p c p' c', d < D → c ≤ 60 → c' ≤ 60 → p + c ≤ L d → p' + c' ≤ L d → nI (64 * p + c) = nI (64 * p' + c') → p = p' ∧ c = c' := fun d p c p' c' hd h1 h2 h3 h4 e => by
    have := dt_L60 ok hd
    rw [nI_eq (by omega) (by omega)] at e; omega
  refine xb_paste hX hB ok (fun hno => ?_) (fun d hd e hno => ?_) (fun d p c hd e1 h1 h2 h3 e2 h4 => ?_) (fun d p c hd e1 h1 h2 h3 e2 h4 T' L' fs fb bt hps ok' hX' hB' => ?_)
  · refine yb_paste hY ok (fun _ => ⟨rfl, D, A, L, T, Q, ok, hA, hQ, hX, hB, hY⟩) (fun d hd e _ => absurd ⟨d, hd, e⟩ hno) (fun d p c hd e _ _ _ _ _ => absurd ⟨d, hd, e⟩ hno) (fun d p c hd e _ _ _ _ _ => absurd ⟨d, hd, e⟩ hno)
  · refine yb_paste hY ok (fun hn => absurd ⟨d, hd, e⟩ hn) (fun _ _ _ _ => ⟨rfl, D, A, L, T, Q, ok, hA, hQ, hX, hB, hY⟩) (fun d' p c hd' e' h1 h2 h3 e2 _ => ?_) (fun d' p c hd' e' h1 h2 h3 e2 _ => ?_)
    · have := uD d d' hd hd' (e.symm.trans e'); subst this
      exact absurd ⟨p, c, h1, h2, h3, e2⟩ hno
    · have := uD d d' hd hd' (e.symm.trans e'); subst this
      exact absurd ⟨p, c, h1, h2, h3, e2⟩ hno
  · refine yb_paste hY ok (fun hn => absurd ⟨d, hd, e1⟩ hn) (fun d' hd' e' hn => ?_) (fun _ _ _ _ _ _ _ _ _ _ => ⟨rfl, D, A, L, T, Q, ok, hA, hQ, hX, hB, hY⟩) (fun d' p' c' hd' e' h1' h2' h3' e2' h4' => ?_)
    · have := uD d d' hd hd' (e1.symm.trans e'); subst this
      exact absurd ⟨p, c, h1, h2, h3, e2⟩ hn
    · have := uD d d' hd hd' (e1.symm.trans e'); subst this
      have := uP d p c p' c' hd h2 h2' h3 h3' (e2.symm.trans e2')
      omega
  · refine yb_paste hY ok (fun hn => absurd ⟨d, hd, e1⟩ hn) (fun d' hd' e' hn => ?_) (fun d' p' c' hd' e' h1' h2' h3' e2' h4' => ?_) (fun d' p' c' hd' e' h1' h2' h3' e2' h4' T'' L'' ft bt' bs' hps' hY' => ?_)
    · have := uD d d' hd hd' (e1.symm.trans e'); subst this
      exact absurd ⟨p, c, h1, h2, h3, e2⟩ hn
    · have := uD d d' hd hd' (e1.symm.trans e'); subst this
      have := uP d p c p' c' hd h2 h2' h3 h3' (e2.symm.trans e2')
      omega
    · have := uD d d' hd hd' (e1.symm.trans e'); subst this
      have := uP d p c p' c' hd h2 h2' h3 h3' (e2.symm.trans e2')
      obtain ⟨rfl, rfl⟩ := this
      have e3 := hps.symm.trans hps'
      obtain ⟨rfl, rfl⟩ := Prod.mk.inj e3
      exact ⟨rfl, D, A, L', T', Q, ok', hA, hQ, hX', hB', hY'⟩
end
section
/-! the calls that change or read documents and pattern -/
section
variable {T L : Nat → Nat} {D : Nat}
theorem oq_s {d : Nat} (h : d ≤ D) : dt_s (rp_u L D 0) d = dt_s L d := dt_cg d (fun e he => rp_un (by omega))
theorem oq_sD : dt_s (rp_u L D 0) (D + 1) = dt_s L D + 1 := by rw [dt_S, oq_s (Nat.le_refl D), rp_us]
theorem oq_ok (ok : dt_ok T D L) (h : D < 5) : dt_ok (rp_u T (dt_s L D) D) (D + 1) (rp_u L D 0) := by
  have hb := ok.1
  refine ⟨⟨by omega, by omega, by rw [oq_sD]; omega⟩, fun d hd => ?_, fun d p hd hp => ?_⟩
  · rw [oq_s (show d ≤ D from by omega)]
    by_cases e : d = D
    · subst e; rw [rp_us, Nat.add_zero, rp_us]
    · rw [rp_un e]
      have := dt_lt (L := L) (show d < D from by omega)
      rw [rp_un (by omega)]
      exact ok.2.1 d (by omega)
  · rw [oq_s (show d ≤ D from by omega)]
    by_cases e : d = D
    · subst e; rw [rp_us] at hp; omega
    · rw [rp_un e] at hp
      have := dt_lt (L := L) (show d < D from by omega)
      rw [rp_un (by omega)]
      exact ok.2.2 d p (by omega) hp
def pq_L (L : Nat → Nat) (D : Nat) : Nat → Nat := rp_u L (D - 1) (L (D - 1) - 1)
theorem pq_s {d : Nat} (h : d < D) : dt_s (pq_L L D) d = dt_s L d := dt_cg d (fun e he => rp_un (by omega))
theorem pq_sD (h : 1 ≤ D) (h0 : 0 < L (D - 1)) : dt_s (pq_L L D) D = dt_s L D - 1 := by
  obtain ⟨e, rfl⟩ : ∃ e, D = e + 1 := ⟨D - 1, by omega⟩
  rw [dt_S, dt_S, pq_s (by omega)]
  have : pq_L L (e + 1) e = L e - 1 := by unfold pq_L; rw [Nat.add_sub_cancel, rp_us]
  rw [Nat.add_sub_cancel] at h0
  rw [this]; omega
theorem pq_ok (ok : dt_ok T D L) (h0 : 0 < L (D - 1)) : dt_ok (rp_u T (dt_s L D - 2) (D - 1)) D (pq_L L D) := by
  have hb := ok.1
  have hNp := dt_Np ok
  refine ⟨⟨hb.1, hb.2.1, by rw [pq_sD hb.1 h0]; omega⟩, fun d hd => ?_, fun d p hd hp => ?_⟩
  · rw [pq_s hd]
    by_cases e : d = D - 1
    · subst e
      unfold pq_L
      rw [rp_us, show dt_s L (D - 1) + (L (D - 1) - 1) = dt_s L D - 2 from by omega, rp_us]
    · unfold pq_L
      rw [rp_un e]
      have := dt_lt (L := L) (show d < D - 1 from by omega)
      rw [rp_un (by omega)]
      exact ok.2.1 d hd
  · rw [pq_s hd]
    by_cases e : d = D - 1
    · subst e
      unfold pq_L at hp
      rw [rp_us] at hp
      rw [rp_un (by omega)]
      exact ok.2.2 _ p hd (by omega)
    · unfold pq_L at hp
      rw [rp_un e] at hp
      have := dt_lt (L := L) (show d < D - 1 from by omega)
      rw [rp_un (by omega)]
      exact ok.2.2 d p hd hp
theorem cq_ok (ok : dt_ok T D L) (h : 1 < D) : dt_ok T (D - 1) L := by
  have hb := ok.1
  have hNp := dt_Np ok
  exact ⟨⟨by omega, by omega, by omega⟩, fun d hd => ok.2.1 d (by omega), fun d p hd hp => ok.2.2 d p (by omega) hp⟩
end
theorem i_vc_open {k : Nat} {u : SX} {v : SY} (I : i_Rel k u v) (hk : k + 3 ≤ 1536) : wpX_open (fun r u' => wpY_open (fun r' v' => r' = r ∧ i_Rel (k + 3) u' v') v) u := by
  obtain ⟨f_docs, f_size, f_asked, f_low, f_high, f_foundCount, f_built, a_text, a_starts, a_query, a_order, a_rank, a_second, a_column, a_smaller, a_counted, a_sample, a_shared, a_found⟩ := u
  obtain ⟨f_docs', f_total', f_asked', a_text', a_size', a_pattern'⟩ := v
  obtain ⟨D, A, L, T, Q, ok, hA, hQ, hX, hB, hY⟩ := I
  have hb := ok.1
  have hge := dt_ge (L := L) D
  have hX0 := hX
  have hY0 := hY
  obtain ⟨rfl, rfl, x3, x4, x5, x6⟩ := hX
  obtain ⟨rfl, rfl, y3, y4, y5, y6⟩ := hY
  unfold wpX_open
  dsimp only
  refine pk_eq D 5 (fun z => ?_) (fun z => ?_)
  · unfold wpY_open
    dsimp only
    exact pk_lt D 5 (fun w => by omega) (fun w => ⟨rfl, D, A, L, T, Q, ok, hA, hQ, hX0, hB, hY0⟩)
  · refine ⟨vp_in_nI (by omega) (by omega), nm_e ⟨vp_in_nI (by omega) (by omega), nm_e (nm_r (nI_1 _) (nm_r (nI_1 _) ?_))⟩⟩
    unfold wpY_open
    dsimp only
    refine pk_lt D 5 (fun w => nm_r (nI_1 _) ⟨pk_in D 5 w (nI_pred D), nm_e ?_⟩) (fun w => by omega)
    refine ⟨rfl, D + 1, A, rp_u L D 0, rp_u T (dt_s L D) D, Q, oq_ok ok w, hA, hQ, ?_, Or.inl rfl, ?_⟩
    · refine ⟨rfl, by rw [oq_sD], x3, ?_, fun d hd => ?_, x6⟩
      · rw [oq_sD, nI_clamp (by omega)]
        intro i hi
        by_cases e : i = dt_s L D
        · rw [e, pk_us, rp_us]
        · rw [pk_un e, rp_un e]; exact x4 i (by omega)
      · rw [oq_s (show d ≤ D from by omega), nI_clamp (by omega)]
        by_cases e : d = D
        · rw [e, pk_us]
        · rw [pk_un e]; exact x5 d (by omega)
    · refine ⟨rfl, by rw [oq_sD]; exact congrArg nI (by omega), y3, fun d hd => ?_, fun d p hd hp => ?_, y6⟩
      · rw [nI_pred, nI_clamp (by omega)]
        by_cases e : d = D
        · rw [e, pk_us, rp_us]; rfl
        · rw [pk_un e, rp_un e]; exact y4 d (by omega)
      · rw [oq_s (show d ≤ D from by omega)]
        by_cases e : d = D
        · rw [e, rp_us] at hp; omega
        · rw [rp_un e] at hp
          have := dt_lt (L := L) (show d < D from by omega)
          rw [rp_un (by omega)]
          exact y5 d p (by omega) hp
theorem i_vc_pop {k : Nat} {u : SX} {v : SY} (I : i_Rel k u v) (hk : k + 3 ≤ 1536) : wpX_pop (fun r u' => wpY_pop (fun r' v' => r' = r ∧ i_Rel (k + 3) u' v') v) u := by
  obtain ⟨f_docs, f_size, f_asked, f_low, f_high, f_foundCount, f_built, a_text, a_starts, a_query, a_order, a_rank, a_second, a_column, a_smaller, a_counted, a_sample, a_shared, a_found⟩ := u
  obtain ⟨f_docs', f_total', f_asked', a_text', a_size', a_pattern'⟩ := v
  obtain ⟨D, A, L, T, Q, ok, hA, hQ, hX, hB, hY⟩ := I
  have hb := ok.1
  have hge := dt_ge (L := L) D
  have hN65 := dt_N65 ok
  have hNp := dt_Np ok
  have hX0 := hX
  have hY0 := hY
  obtain ⟨rfl, rfl, x3, x4, x5, x6⟩ := hX
  obtain ⟨rfl, rfl, y3, y4, y5, y6⟩ := hY
  have hD1 : D - 1 < D := by omega
  have h60 := dt_L60 ok hD1
  have hLD := dt_L (L := L) hD1
  have hin : vp_in (nI (D - 1)) 5 := vp_in_nI (by omega) (by omega)
  have hsz : a_size' (nI (D - 1)).toNatClampNeg = nI (L (D - 1)) := by rw [nI_clamp (by omega)]; exact y4 _ hD1
  unfold wpX_pop
  dsimp only
  rw [ga_s1 hb.1]
  refine xb_len hX0 ok hD1 ?_
  refine pk_eq (L (D - 1)) 0 (fun z => ?_) (fun z => ?_)
  · unfold wpY_pop
    dsimp only
    refine nm_r (ga_s1 hb.1) ⟨hin, ?_⟩
    exact pk_eq (L (D - 1)) 0 (fun w => ⟨rfl, D, A, L, T, Q, ok, hA, hQ, hX0, hB, hY0⟩) (fun w => absurd z w) hsz
  · have hsy := ok.2.2 (D - 1) (L (D - 1) - 1) hD1 (by omega)
    have epos : dt_s L (D - 1) + (L (D - 1) - 1) = dt_s L D - 2 := by omega
    rw [epos] at hsy
    have hpq := pq_sD (L := L) hb.1 (show 0 < L (D - 1) from by omega)
    rw [ga_s2 (show 2 ≤ dt_s L D from by omega), rp_at x4 (show dt_s L D - 2 < dt_s L D from by omega) (by omega), ga_s5 hsy.1]
    refine ⟨vp_in_nI (by omega) (by omega), nm_e (nm_r (ga_s1 (by omega)) ?_)⟩
    rw [ga_s1 (show 0 < dt_s L D - 1 from by omega), show dt_s L D - 1 - 1 = dt_s L D - 2 from by omega]
    refine ⟨vp_in_nI (by omega) (by omega), nm_e ?_⟩
    unfold wpY_pop
    dsimp only
    refine nm_r (ga_s1 hb.1) ⟨hin, ?_⟩
    refine pk_eq (L (D - 1)) 0 (fun w => absurd w z) (fun w => ?_) hsz
    refine ⟨hin, hin, nm_e (nm_e ?_)⟩
    rw [hsz, ga_s1 (by omega), nI_clamp (show D - 1 < 2 ^ 31 from by omega), pk_us, ga_60, nI_add, nI_clamp (show 60 * (D - 1) + (L (D - 1) - 1) < 2 ^ 31 from by omega)]
    refine ⟨hin, vp_in_nI (by omega) (by omega), ?_, D, A, pq_L L D, rp_u T (dt_s L D - 2) (D - 1), Q, pq_ok ok (by omega), hA, hQ, ?_, Or.inl rfl, ?_⟩
    · rw [y5 _ _ hD1 (by omega), epos]
    · refine ⟨rfl, by rw [hpq], x3, ?_, fun d hd => ?_, x6⟩
      · rw [hpq, nI_clamp (by omega)]
        intro i hi
        by_cases e : i = dt_s L D - 2
        · rw [e, pk_us, rp_us]
        · rw [pk_un e, rp_un e]; exact x4 i (by omega)
      · rw [pq_s hd]; exact x5 d hd
    · refine ⟨rfl, ?_, y3, fun d hd => ?_, fun d p hd hp => ?_, y6⟩
      · rw [hpq, ga_s1 (by omega)]
        exact congrArg nI (by omega)
      · unfold pq_L
        by_cases e : d = D - 1
        · rw [e, pk_us, rp_us]
        · rw [pk_un e, rp_un e]; exact y4 d hd
      · rw [pq_s hd]
        unfold pq_L at hp
        by_cases e : d = D - 1
        · subst e
          rw [rp_us] at hp
          rw [rp_un (by omega)]
          exact y5 _ p hd (by omega)
        · rw [rp_un e] at hp
          have := dt_lt (L := L) (show d < D - 1 from by omega)
          rw [rp_un (by omega)]
          exact y5 d p hd hp
theorem i_vc_close {k : Nat} {u : SX} {v : SY} (I : i_Rel k u v) (hk : k + 3 ≤ 1536) : wpX_close (fun r u' => wpY_close (fun r' v' => r' = r ∧ i_Rel (k + 3) u' v') v) u := by
  obtain ⟨f_docs, f_size, f_asked, f_low, f_high, f_foundCount, f_built, a_text, a_starts, a_query, a_order, a_rank, a_second, a_column, a_smaller, a_counted, a_sample, a_shared, a_found⟩ := u
  obtain ⟨f_docs', f_total', f_asked', a_text', a_size', a_pattern'⟩ := v
  obtain ⟨D, A, L, T, Q, ok, hA, hQ, hX, hB, hY⟩ := I
  have hb := ok.1
  have hge := dt_ge (L := L) D
  have hN65 := dt_N65 ok
  have hNp := dt_Np ok
  have hX0 := hX
  obtain ⟨rfl, rfl, x3, x4, x5, x6⟩ := hX
  obtain ⟨rfl, rfl, y3, y4, y5, y6⟩ := hY
  have hD1 : D - 1 < D := by omega
  have h60 := dt_L60 ok hD1
  have hLD := dt_L (L := L) hD1
  have hge1 := dt_ge (L := L) (D - 1)
  have hin : vp_in (nI (D - 1)) 5 := vp_in_nI (by omega) (by omega)
  have hsz : a_size' (nI (D - 1)).toNatClampNeg = nI (L (D - 1)) := by rw [nI_clamp (by omega)]; exact y4 _ hD1
  unfold wpX_close
  dsimp only
  rw [ga_s1 hb.1]
  refine xb_len hX0 ok hD1 ?_
  refine ⟨vp_in_nI (by omega) (by omega), ?_⟩
  rw [nI_clamp (show D - 1 < 2 ^ 31 from by omega), x5 _ hD1]
  refine nm_e ?_
  refine pk_eq D 1 (fun z => ?_) (fun z => ?_)
  · subst z
    refine nm_e ?_
    unfold wpY_close
    dsimp only
    refine nm_r (ga_s1 hb.1) ⟨hin, nm_r hsz ⟨hin, nm_e (nm_e ?_)⟩⟩
    refine pk_le 1 1 (fun _ => ?_) (fun w => by omega)
    have e1 : dt_s (rp_u L 0 0) 1 = 1 := by rw [dt_S, dt_0, rp_us]
    refine ⟨rfl, 1, A, rp_u L 0 0, rp_u T 0 0, Q, ?_, hA, hQ, ?_, Or.inl rfl, ?_⟩
    · refine ⟨⟨by omega, by omega, by rw [e1]; omega⟩, fun d hd => ?_, fun d p hd hp => ?_⟩
      · have e : d = 0 := by omega
        subst e
        rw [rp_us, dt_0, rp_us]
      · have e : d = 0 := by omega
        subst e
        rw [rp_us] at hp; omega
    · refine ⟨rfl, by rw [e1]; rfl, x3, ?_, fun d hd => ?_, x6⟩
      · rw [e1]
        intro i hi
        have e : i = 0 := by omega
        rw [e, pk_us, rp_us]; rfl
      · have e : d = 0 := by omega
        subst e
        exact x5 0 (by omega)
    · refine ⟨rfl, ?_, y3, fun d hd => ?_, fun d p hd hp => ?_, y6⟩
      · have e2 : dt_s L 1 = L 0 + 1 := by rw [dt_S, dt_0, Nat.zero_add]
        rw [e1, pk_sub (by show L 0 ≤ _; omega)]
        exact congrArg nI (by show dt_s L 1 - 1 - L 0 = 0; omega)
      · have e : d = 0 := by omega
        subst e
        rw [nI_clamp (by omega)]
        show upd a_size' 0 0 0 = _
        rw [pk_us, rp_us]; rfl
      · have e : d = 0 := by omega
        subst e
        rw [rp_us] at hp; omega
  · refine nm_e ?_
    unfold wpY_close
    dsimp only
    refine nm_r (ga_s1 hb.1) ⟨hin, nm_r hsz ⟨hin, nm_e (nm_e ?_)⟩⟩
    refine pk_le D 1 (fun w => by omega) (fun w => nm_r (ga_s1 hb.1) ?_)
    refine ⟨rfl, D - 1, A, L, T, Q, cq_ok ok w, hA, hQ, ?_, Or.inl rfl, ?_⟩
    · exact ⟨rfl, rfl, x3, fun i hi => x4 i (by omega), fun d hd => x5 d (by omega), x6⟩
    · refine ⟨rfl, ?_, y3, fun d hd => ?_, fun d p hd hp => y5 d p (by omega) hp, y6⟩
      · rw [pk_sub (by omega)]
        exact congrArg nI (by omega)
      · rw [nI_clamp (by omega), pk_un (by omega)]; exact y4 d (by omega)
theorem i_vc_documents {k : Nat} {u : SX} {v : SY} (I : i_Rel k u v) (hk : k + 3 ≤ 1536) : wpX_documents (fun r => wpY_documents (fun r' => r' = r ∧ i_Rel (k + 3) u v) v) u := by
  have I0 := I
  obtain ⟨f_docs, f_size, f_asked, f_low, f_high, f_foundCount, f_built, a_text, a_starts, a_query, a_order, a_rank, a_second, a_column, a_smaller, a_counted, a_sample, a_shared, a_found⟩ := u
  obtain ⟨f_docs', f_total', f_asked', a_text', a_size', a_pattern'⟩ := v
  obtain ⟨D, A, L, T, Q, ok, hA, hQ, hX, hB, hY⟩ := I
  unfold wpX_documents wpY_documents
  exact ⟨hY.1.trans hX.1.symm, I0⟩
theorem i_vc_length {k : Nat} {u : SX} {v : SY} (I : i_Rel k u v) (hk : k + 3 ≤ 1536) (v1 : Int32) : wpX_length (fun r => wpY_length (fun r' => r' = r ∧ i_Rel (k + 3) u v) v v1) u v1 := by
  have I0 := I
  obtain ⟨f_docs, f_size, f_asked, f_low, f_high, f_foundCount, f_built, a_text, a_starts, a_query, a_order, a_rank, a_second, a_column, a_smaller, a_counted, a_sample, a_shared, a_found⟩ := u
  obtain ⟨f_docs', f_total', f_asked', a_text', a_size', a_pattern'⟩ := v
  obtain ⟨D, A, L, T, Q, ok, hA, hQ, hX, hB, hY⟩ := I
  have hb := ok.1
  unfold wpX_length
  dsimp only
  refine xb_isd hX.1 hb.2.1 (fun d hd e => ?_) (fun hno => ?_)
  · subst e
    refine br_f xs_ne1 (xb_len hX ok hd ?_)
    unfold wpY_length
    dsimp only
    refine yb_bad hY hb.2.1 (fun d' hd' e' => br_t rfl ⟨vp_in_nI (by omega) (by omega), ?_, I0⟩) (fun hno => absurd ⟨d, hd, rfl⟩ hno)
    rw [nI_clamp (by omega)]; exact hY.2.2.2.1 d hd
  · refine br_t rfl ?_
    unfold wpY_length
    dsimp only
    exact yb_bad hY hb.2.1 (fun d' hd' e' => absurd ⟨d', hd', e'⟩ hno) (fun _ => br_f xs_ne1 ⟨rfl, I0⟩)
theorem i_vc_symbolAt {k : Nat} {u : SX} {v : SY} (I : i_Rel k u v) (hk : k + 3 ≤ 1536) (v1 : Int32) : wpX_symbolAt (fun r => wpY_symbolAt (fun r' => r' = r ∧ i_Rel (k + 3) u v) v v1) u v1 := by
  have I0 := I
  obtain ⟨f_docs, f_size, f_asked, f_low, f_high, f_foundCount, f_built, a_text, a_starts, a_query, a_order, a_rank, a_second, a_column, a_smaller, a_counted, a_sample, a_shared, a_found⟩ := u
  obtain ⟨f_docs', f_total', f_asked', a_text', a_size', a_pattern'⟩ := v
  obtain ⟨D, A, L, T, Q, ok, hA, hQ, hX, hB, hY⟩ := I
  have hb := ok.1
  have hN65 := dt_N65 ok
  unfold wpX_symbolAt
  dsimp only
  refine xb_tp hX ok v1 (fun hno => ?_) (fun d p hd hp e => ?_)
  · refine br_f ga_m1le ?_
    unfold wpY_symbolAt
    dsimp only
    exact yb_bp hY ok (fun d p hd hp e => absurd ⟨d, p, hd, hp, e⟩ hno) (fun _ => br_f xs_ne1 ⟨rfl, I0⟩)
  · subst e
    have h60 := dt_L60 ok hd
    have hin := dt_in (L := L) hd (Nat.le_of_lt hp)
    have hsy := ok.2.2 d p hd hp
    refine br_t (nI_pos' (by omega)) ⟨vp_in_nI (by omega) (by omega), ?_⟩
    rw [rp_at hX.2.2.2.1 hin (by omega), ga_s5 hsy.1]
    unfold wpY_symbolAt
    dsimp only
    refine yb_bp hY ok (fun _ _ _ _ _ => br_t rfl ⟨by decide, by decide, ?_⟩) (fun hno => absurd ⟨d, p, hd, hp, rfl⟩ hno)
    have e1 : (64 * d + p) / 64 = d := by omega
    have e2 : (64 * d + p) % 64 = p := by omega
    rw [ga_r64 (by omega), ga_d64 (by omega), e1, e2, ga_60, nI_add, ya_at hY hd hp (by omega)]
    exact ⟨vp_in_nI (by omega) (by omega), rfl, I0⟩
theorem i_vc_ask {k : Nat} {u : SX} {v : SY} (I : i_Rel k u v) (hk : k + 3 ≤ 1536) (v1 : Int32) : wpX_ask (fun r u' => wpY_ask (fun r' v' => r' = r ∧ i_Rel (k + 3) u' v') v v1) u v1 := by
  have I0 := I
  obtain ⟨f_docs, f_size, f_asked, f_low, f_high, f_foundCount, f_built, a_text, a_starts, a_query, a_order, a_rank, a_second, a_column, a_smaller, a_counted, a_sample, a_shared, a_found⟩ := u
  obtain ⟨f_docs', f_total', f_asked', a_text', a_size', a_pattern'⟩ := v
  obtain ⟨D, A, L, T, Q, ok, hA, hQ, hX, hB, hY⟩ := I
  have hb := ok.1
  obtain ⟨x1, x2, rfl, x4, x5, x6⟩ := hX
  obtain ⟨y1, y2, rfl, y4, y5, y6⟩ := hY
  unfold wpX_ask
  dsimp only
  refine xb_sym (fun c hc e => ?_) (fun hno => ?_)
  · subst e
    refine br_f xs_ne1 ?_
    refine pk_eq A 8 (fun z => ?_) (fun z => ?_)
    · unfold wpY_ask
      dsimp only
      exact yb_sym (fun _ _ _ => br_t rfl (pk_lt A 8 (fun w => by omega) (fun w => ⟨rfl, I0⟩))) (fun hno => absurd ⟨c, hc, rfl⟩ hno)
    · refine ⟨vp_in_nI (by omega) (by omega), nm_e (nm_r (nI_1 A) ?_)⟩
      unfold wpY_ask
      dsimp only
      refine yb_sym (fun _ _ _ => br_t rfl (pk_lt A 8 (fun w => ?_) (fun w => by omega))) (fun hno => absurd ⟨c, hc, rfl⟩ hno)
      refine ⟨vp_in_nI (by omega) (by omega), nm_e (nm_r (nI_1 A) ⟨rfl, D, A + 1, L, T, rp_u Q A c, ok, w, fun i hi => ?_, ⟨x1, x2, rfl, x4, x5, ?_⟩, hB, ⟨y1, y2, rfl, y4, y5, ?_⟩⟩)⟩
      · by_cases e : i = A
        · rw [e, rp_us]; exact hc
        · rw [rp_un e]; exact hQ i (by omega)
      · rw [nI_clamp (by omega)]
        intro i hi
        by_cases e : i = A
        · rw [e, pk_us, rp_us]
        · rw [pk_un e, rp_un e]; exact x6 i (by omega)
      · rw [nI_clamp (by omega)]
        intro i hi
        by_cases e : i = A
        · rw [e, pk_us, rp_us]
        · rw [pk_un e, rp_un e]; exact y6 i (by omega)
  · refine br_t rfl ?_
    unfold wpY_ask
    dsimp only
    exact yb_sym (fun c hc e => absurd ⟨c, hc, e⟩ hno) (fun _ => br_f xs_ne1 ⟨rfl, I0⟩)
theorem i_vc_forget {k : Nat} {u : SX} {v : SY} (I : i_Rel k u v) (hk : k + 3 ≤ 1536) : wpX_forget (fun r u' => wpY_forget (fun r' v' => r' = r ∧ i_Rel (k + 3) u' v') v) u := by
  obtain ⟨f_docs, f_size, f_asked, f_low, f_high, f_foundCount, f_built, a_text, a_starts, a_query, a_order, a_rank, a_second, a_column, a_smaller, a_counted, a_sample, a_shared, a_found⟩ := u
  obtain ⟨f_docs', f_total', f_asked', a_text', a_size', a_pattern'⟩ := v
  obtain ⟨D, A, L, T, Q, ok, hA, hQ, hX, hB, hY⟩ := I
  obtain ⟨x1, x2, x3, x4, x5, x6⟩ := hX
  obtain ⟨y1, y2, y3, y4, y5, y6⟩ := hY
  unfold wpX_forget
  dsimp only
  unfold wpY_forget
  dsimp only
  exact ⟨y3.trans x3.symm, D, 0, L, T, Q, ok, Nat.zero_le _, fun i hi => absurd hi (Nat.not_lt_zero i), ⟨x1, x2, rfl, x4, x5, fun i hi => absurd hi (Nat.not_lt_zero i)⟩, hB, ⟨y1, y2, rfl, y4, y5, fun i hi => absurd hi (Nat.not_lt_zero i)⟩⟩
end
section
/-! count, occurrence, countIn, spread -/
section
variable {T o r Q f : Nat → Nat} {N lo hi fc k m : Nat}
theorem fo_cn (h : so_O T N o r) (w : fi_W T N o Q lo hi k m) (F : fo_F o f lo hi fc) (p : Nat → Prop) : cn_c (fun i => p (f i)) fc = cn_c (fun q => fi_mt T N Q q k m ∧ p q) N := by
  rw [F.2.1 p]; exact fi_Wn h w p
theorem fo_fc (h : so_O T N o r) (w : fi_W T N o Q lo hi k m) (F : fo_F o f lo hi fc) : fc = cn_c (fun q => fi_mt T N Q q k m) N := by
  rw [fi_Wc h w]; exact F.1
theorem fo_ain (h : so_O T N o r) (w : fi_W T N o Q lo hi k m) (F : fo_F o f lo hi fc) {i : Nat} (hi' : i < fc) : f i < N ∧ fi_mt T N Q (f i) k m := by
  obtain ⟨j, hj, e⟩ := fo_mem F hi'
  have w2 := w.2.1
  rw [e]
  exact ⟨h.1.1 _ (by omega), (w.2.2 (lo + j) (by omega)).mp ⟨by omega, by omega⟩⟩
theorem fo_at (h : so_O T N o r) (w : fi_W T N o Q lo hi k m) (F : fo_F o f lo hi fc) {i : Nat} (hi' : i < fc) : cn_c (fun q => fi_mt T N Q q k m) (f i) = i := by
  have h1 := fo_cn h w F (fun q => q < f i)
  have h2 : cn_c (fun j => f j < f i) fc = i := by
    refine Eq.trans (cn_cg ?_) (cn_lt fc i (by omega))
    intro j hj
    constructor
    · intro z
      rcases Nat.lt_trichotomy j i with y | y | y
      · exact y
      · subst y; omega
      · have := F.2.2 i j y hj; omega
    · intro z; exact F.2.2 j i z hi'
  rw [h2] at h1
  rw [← cn_cut (fun q => fi_mt T N Q q k m) N (f i) (by have := (fo_ain h w F hi').1; omega)]
  exact Eq.trans (cn_cg (fun q _ => ⟨fun z => ⟨z.2, z.1⟩, fun z => ⟨z.2, z.1⟩⟩)) h1.symm
theorem fo_hit (h : so_O T N o r) (w : fi_W T N o Q lo hi k m) (F : fo_F o f lo hi fc) {q : Nat} (hq : q < N) (hm : fi_mt T N Q q k m) : ∃ j, j < fc ∧ f j = q := by
  apply cn_ex.mp
  rw [fo_cn h w F (fun x => x = q)]
  exact cn_ex.mpr ⟨q, hq, hm, rfl⟩
theorem fo_u {p : Nat → Prop} {a b : Nat} (ha : p a) (hb : p b) (e : cn_c p a = cn_c p b) : a = b := by
  rcases Nat.lt_trichotomy a b with z | z | z
  · have h1 : cn_c p (a + 1) ≤ cn_c p b := cn_mn z
    rw [cn_t ha] at h1; omega
  · exact z
  · have h1 : cn_c p (b + 1) ≤ cn_c p a := cn_mn z
    rw [cn_t hb] at h1; omega
theorem cn_rng (P : Nat → Prop) {a l : Nat} (h : a + l ≤ N) : cn_c (fun q => P q ∧ (a ≤ q ∧ q < a + l)) N = cn_c (fun p => P (a + p)) l := by
  obtain ⟨c, rfl⟩ : ∃ c, N = a + (l + c) := ⟨N - (a + l), by omega⟩
  rw [cn_add, cn_add, cn_z (n := a) (fun i hi' z => by omega), cn_z (n := c) (fun i hi' z => by omega), Nat.zero_add, Nat.add_zero]
  exact cn_cg (fun i hi' => ⟨fun z => z.1, fun z => ⟨z, by omega, by omega⟩⟩)
end
theorem i_vc_count {k : Nat} {u : SX} {v : SY} (I : i_Rel k u v) (hk : k + 3 ≤ 1536) : wpX_count (fun r u' => wpY_count (fun r' => r' = r ∧ i_Rel (k + 3) u' v) v) u := by
  have I0 := I
  obtain ⟨f_docs, f_size, f_asked, f_low, f_high, f_foundCount, f_built, a_text, a_starts, a_query, a_order, a_rank, a_second, a_column, a_smaller, a_counted, a_sample, a_shared, a_found⟩ := u
  obtain ⟨f_docs', f_total', f_asked', a_text', a_size', a_pattern'⟩ := v
  obtain ⟨D, A, L, T, Q, ok, hA, hQ, hX, hB, hY⟩ := I
  obtain ⟨x1, x2, rfl, x4, x5, x6⟩ := hX
  have hX : xa_T D L T A Q (f_docs, f_size, nI A, f_low, f_high, f_foundCount, f_built, a_text, a_starts, a_query, a_order, a_rank, a_second, a_column, a_smaller, a_counted, a_sample, a_shared, a_found) := ⟨x1, x2, rfl, x4, x5, x6⟩
  unfold wpX_count
  dsimp only
  refine pk_eq A 0 (fun z => yb_count hY ok hA hQ (fun _ => ⟨rfl, I0⟩) (fun y => absurd z (Nat.ne_of_gt y))) (fun z => ?_)
  refine xb_search hX hB ok (Nat.le_refl A) hA hQ (fun o r b1 b2 b3 b4 b5 b6 b7 b8 lo hi hX' w => ?_)
  refine yb_count hY ok hA hQ (fun y => absurd y z) (fun _ => ⟨?_, D, A, L, T, Q, ok, hA, hQ, hX, Or.inr ⟨rfl, o, r, hX'⟩, hY⟩)
  rw [pk_sub w.1, fi_Wc hX'.1 w]
theorem i_vc_occurrence {k : Nat} {u : SX} {v : SY} (I : i_Rel k u v) (hk : k + 3 ≤ 1536) (v1 : Int32) : wpX_occurrence (fun r u' => wpY_occurrence (fun r' => r' = r ∧ i_Rel (k + 3) u' v) v v1) u v1 := by
  have I0 := I
  obtain ⟨f_docs, f_size, f_asked, f_low, f_high, f_foundCount, f_built, a_text, a_starts, a_query, a_order, a_rank, a_second, a_column, a_smaller, a_counted, a_sample, a_shared, a_found⟩ := u
  obtain ⟨f_docs', f_total', f_asked', a_text', a_size', a_pattern'⟩ := v
  obtain ⟨D, A, L, T, Q, ok, hA, hQ, hX, hB, hY⟩ := I
  obtain ⟨x1, x2, rfl, x4, x5, x6⟩ := hX
  have hX : xa_T D L T A Q (f_docs, f_size, nI A, f_low, f_high, f_foundCount, f_built, a_text, a_starts, a_query, a_order, a_rank, a_second, a_column, a_smaller, a_counted, a_sample, a_shared, a_found) := ⟨x1, x2, rfl, x4, x5, x6⟩
  have hb := ok.1
  have hN65 := dt_N65 ok
  unfold wpX_occurrence
  dsimp only
  refine pk_eq A 0 (fun z => yb_occu hY ok hA hQ (fun _ => ⟨rfl, I0⟩) (fun y => absurd z (Nat.ne_of_gt y)) (fun y => absurd z (Nat.ne_of_gt y))) (fun z => ?_)
  refine xb_loc hX hB ok hA hQ (fun o r b1 b2 b3 b4 b5 b6 b7 b8 lo hi f fc b hX' w F hf => ?_)
  have rel : i_Rel (k + 3) (f_docs, f_size, nI A, nI lo, nI hi, nI fc, 1, a_text, a_starts, a_query, b1, b2, b3, b4, b5, b6, b7, b8, b) (f_docs', f_total', f_asked', a_text', a_size', a_pattern') := ⟨D, A, L, T, Q, ok, hA, hQ, hX, Or.inr ⟨rfl, o, r, hX'⟩, hY⟩
  have hcl : ∀ q, q < dt_s L D → fi_mt T (dt_s L D) Q q 0 A → cn_c (fun q => fi_mt T (dt_s L D) Q q 0 A) q < fc := by
    intro q hq hm
    rw [fo_fc hX'.1 w F]
    have h1 : cn_c (fun q => fi_mt T (dt_s L D) Q q 0 A) (q + 1) ≤ cn_c (fun q => fi_mt T (dt_s L D) Q q 0 A) (dt_s L D) := cn_mn hq
    rw [cn_t (p := fun q => fi_mt T (dt_s L D) Q q 0 A) hm] at h1
    omega
  have hfc : fc ≤ 65 := by
    rw [fo_fc hX'.1 w F]
    exact Nat.le_trans (cn_le _ _) hN65
  dsimp only
  refine br_c (fun y => ?_) (fun y => ?_)
  · refine yb_occu hY ok hA hQ (fun e => absurd e z) (fun _ d p hd hp hm e => ?_) (fun _ _ => ⟨rfl, rel⟩)
    have h1 := hcl _ (dt_in hd (Nat.le_of_lt hp)) hm
    rw [← e] at y
    exact absurd y (nI_pos (by omega))
  · obtain ⟨i, hi', rfl⟩ := nI_of y
    refine pk_le fc i (fun y2 => ?_) (fun y2 => ?_)
    · refine yb_occu hY ok hA hQ (fun e => absurd e z) (fun _ d p hd hp hm e => ?_) (fun _ _ => ⟨rfl, rel⟩)
      have h1 := hcl _ (dt_in hd (Nat.le_of_lt hp)) hm
      rw [nI_eq (by omega) hi'] at e
      omega
    · have hin := fo_ain hX'.1 w F y2
      have hat := fo_at hX'.1 w F y2
      refine ⟨vp_in_nI (by omega) (by omega), ?_⟩
      rw [rp_at hf y2 hi']
      obtain ⟨d, p, hd, hp, e⟩ := dt_loc hin.1
      rw [e] at hin hat ⊢
      have hA0 := Nat.pos_of_ne_zero z
      have hp' : p < L d := by
        by_cases e2 : p = L d
        · rw [e2] at hin; exact absurd hin.2 (fi_mk ok hA0 hd)
        · omega
      refine xb_num (show xa_T D L T A Q (f_docs, f_size, nI A, nI lo, nI hi, nI fc, 1, a_text, a_starts, a_query, b1, b2, b3, b4, b5, b6, b7, b8, b) from hX) ok hd hp ?_
      refine yb_occu hY ok hA hQ (fun e => absurd e z) (fun _ d' p' hd' hp2 hm e' => ?_) (fun _ hno => ?_)
      · have h1 := hcl _ (dt_in hd' (Nat.le_of_lt hp2)) hm
        rw [nI_eq (by omega) hi'] at e'
        have h2 := fo_u (p := fun q => fi_mt T (dt_s L D) Q q 0 A) hm hin.2 (e'.trans hat.symm)
        obtain ⟨rfl, rfl⟩ := dt_un (Nat.le_of_lt hp2) hp h2
        exact ⟨rfl, rel⟩
      · exact absurd (congrArg nI hat) (hno _ hin.1 hin.2)
section
variable {f_docs f_size f_asked f_low f_high f_foundCount f_built : Int32} {a_text a_starts a_query a_order a_rank a_second a_column a_smaller a_counted a_sample a_shared a_found : Nat → Int32}
variable {D A : Nat} {L T Q f : Nat → Nat}
theorem xh_42 {post : Int32 → SX → Prop} {fc d : Nat} (h : xa_T D L T A Q (f_docs, f_size, f_asked, f_low, f_high, f_foundCount, f_built, a_text, a_starts, a_query, a_order, a_rank, a_second, a_column, a_smaller, a_counted, a_sample, a_shared, a_found)) (ok : dt_ok T D L) (hd : d < D) (hc : f_foundCount = nI fc) (hfc : fc ≤ 65) (hf : rp_A a_found f fc) (hfN : ∀ i, i < fc → f i < dt_s L D)
    (k : post (nI (cn_c (fun j => dt_s L d ≤ f j ∧ f j < dt_s L d + L d) fc)) (f_docs, f_size, f_asked, f_low, f_high, f_foundCount, f_built, a_text, a_starts, a_query, a_order, a_rank, a_second, a_column, a_smaller, a_counted, a_sample, a_shared, a_found)) :
    ∀ n i : Nat, fc - i < n → i ≤ fc → wX_countIn_42 post (nI d) (nI (dt_s L d + L d)) f_docs f_size f_asked f_low f_high f_foundCount f_built a_text a_starts a_query a_order a_rank a_second a_column a_smaller a_counted a_sample a_shared a_found n (nI (cn_c (fun j => dt_s L d ≤ f j ∧ f j < dt_s L d + L d) i)) (nI i) := by
  have hb := ok.1
  have hN65 := dt_N65 ok
  have hin := dt_in (L := L) hd (Nat.le_refl (L d))
  intro n
  induction n with
  | zero => intro i z; omega
  | succ n ih =>
    intro i g1 g2
    refine pk_le fc i (fun z => ?_) (fun z => ?_) hc
    · have e : i = fc := by omega
      rw [e]; exact k
    · have hfi := hfN i z
      have ih' := ih (i + 1) (by omega) (by omega)
      have hst : a_starts (nI d).toNatClampNeg = nI (dt_s L d) := by rw [nI_clamp (by omega)]; exact h.2.2.2.2.1 d hd
      rw [rp_at hf z (by omega), hst]
      refine ⟨vp_in_nI (by omega) (by omega), vp_in_nI (by omega) (by omega), ?_⟩
      refine pk_lt (f i) (dt_s L d) (fun y => ?_) (fun y => ?_)
      · rw [cn_f (p := fun j => dt_s L d ≤ f j ∧ f j < dt_s L d + L d) (by show ¬ (_ ∧ _); omega)] at ih'
        exact nm_r (ga_p0 _) (nm_r (nI_1 _) ih')
      · refine ⟨vp_in_nI (by omega) (by omega), ?_⟩
        refine pk_le (dt_s L d + L d) (f i) (fun y2 => ?_) (fun y2 => ?_)
        · rw [cn_f (p := fun j => dt_s L d ≤ f j ∧ f j < dt_s L d + L d) (by show ¬ (_ ∧ _); omega)] at ih'
          exact nm_r (ga_p0 _) (nm_r (nI_1 _) ih')
        · rw [cn_t (p := fun j => dt_s L d ≤ f j ∧ f j < dt_s L d + L d) ⟨y, y2⟩] at ih'
          exact nm_r (nI_1 _) (nm_r (nI_1 _) ih')
def xh_I (L : Nat → Nat) (d q : Nat) : Prop := dt_s L d ≤ q ∧ q ≤ dt_s L d + L d
theorem xh_Iu {d e q : Nat} (h1 : xh_I L d q) (h2 : xh_I L e q) : d = e :=
  (dt_un (L := L) (p := q - dt_s L d) (q := q - dt_s L e) (by unfold xh_I at h1; omega) (by unfold xh_I at h2; omega) (by unfold xh_I at h1 h2; omega)).1
theorem xh_19 {post : Int32 → SX → Prop} {fc : Nat} (h : xa_T D L T A Q (f_docs, f_size, f_asked, f_low, f_high, f_foundCount, f_built, a_text, a_starts, a_query, a_order, a_rank, a_second, a_column, a_smaller, a_counted, a_sample, a_shared, a_found)) (ok : dt_ok T D L) (hc : f_foundCount = nI fc) (hfc : fc ≤ 65) (hf : rp_A a_found f fc) (hfN : ∀ i, i < fc → f i < dt_s L D) (hs : ∀ a b, a < b → b < fc → f a < f b)
    (k : post (nI (cn_c (fun d => ∃ j, j < fc ∧ xh_I L d (f j)) D)) (f_docs, f_size, f_asked, f_low, f_high, f_foundCount, f_built, a_text, a_starts, a_query, a_order, a_rank, a_second, a_column, a_smaller, a_counted, a_sample, a_shared, a_found)) :
    ∀ (n i : Nat) (x2 : Int32), fc - i < n → i ≤ fc → ((i = 0 ∧ x2 = -1) ∨ (0 < i ∧ ∃ d, d < D ∧ xh_I L d (f (i - 1)) ∧ x2 = nI d)) → wX_spread_19 post f_docs f_size f_asked f_low f_high f_foundCount f_built a_text a_starts a_query a_order a_rank a_second a_column a_smaller a_counted a_sample a_shared a_found n (nI (cn_c (fun d => ∃ j, j < i ∧ xh_I L d (f j)) D)) x2 (nI i) := by
  have hb := ok.1
  have hN65 := dt_N65 ok
  intro n
  induction n with
  | zero => intro i _ z; omega
  | succ n ih =>
    intro i x2 g1 g2 g3
    refine pk_le fc i (fun z => ?_) (fun z => ?_) hc
    · have e : i = fc := Nat.le_antisymm g2 z
      rw [e]; exact k
    · have hi65 : i < 65 := Nat.lt_of_lt_of_le z hfc
      rw [rp_at hf z (Nat.lt_trans hi65 (by omega))]
      refine ⟨vp_in_nI hi65 (by omega), ?_⟩
      obtain ⟨d, p, hd, hp, e⟩ := dt_loc (hfN i z)
      have hI : xh_I L d (f i) := by rw [e]; exact ⟨Nat.le_add_right _ _, Nat.add_le_add_left hp _⟩
      rw [e]
      have gn : fc - (i + 1) < n := by clear g3; omega
      refine xb_dof h ok hd hp ?_
      have ih' := ih (i + 1) (nI d) gn z (Or.inr ⟨Nat.succ_pos i, d, hd, by rw [Nat.add_sub_cancel]; exact hI, rfl⟩)
      refine br_c (fun y => ?_) (fun y => ?_)
      · have e2 : cn_c (fun d => ∃ j, j < i + 1 ∧ xh_I L d (f j)) D = cn_c (fun d => ∃ j, j < i ∧ xh_I L d (f j)) D := by
          apply cn_cg
          intro e' _
          constructor
          · rintro ⟨j, hj, hI'⟩
            by_cases ej : j = i
            · subst ej
              have := xh_Iu hI hI'
              subst this
              rcases g3 with ⟨_, g4⟩ | ⟨g4, d', hd', hI2, e3⟩
              · rw [g4] at y
                exact absurd y (ga_ne d (by omega))
              · have : d = d' := by
                  rw [e3, nI_eq (by omega) (by omega)] at y; exact y
                subst this
                exact ⟨j - 1, Nat.sub_lt g4 (by omega), hI2⟩
            · exact ⟨j, by omega, hI'⟩
          · rintro ⟨j, hj, hI'⟩
            exact ⟨j, Nat.lt_succ_of_lt hj, hI'⟩
        rw [e2] at ih'
        exact nm_r (ga_p0 _) (nm_r (nI_1 _) ih')
      · have hnew : ¬ ∃ j, j < i ∧ xh_I L d (f j) := by
          rintro ⟨j, hj, hI'⟩
          rcases g3 with ⟨g4, _⟩ | ⟨g4, d', hd', hI2, e3⟩
          · omega
          · have h1 : f j ≤ f (i - 1) := by
              by_cases ej : j = i - 1
              · rw [ej]; exact Nat.le_refl _
              · exact Nat.le_of_lt (hs j (i - 1) (by omega) (by omega))
            have h2 := hs (i - 1) i (by omega) z
            have h3 : xh_I L d (f (i - 1)) := ⟨Nat.le_trans hI'.1 h1, Nat.le_trans (Nat.le_of_lt h2) hI.2⟩
            have := xh_Iu h3 hI2
            subst this
            exact y e3.symm
        have e2 : cn_c (fun d => ∃ j, j < i + 1 ∧ xh_I L d (f j)) D = cn_c (fun d => ∃ j, j < i ∧ xh_I L d (f j)) D + 1 := by
          have h9 := cn_or (p := fun d => ∃ j, j < i ∧ xh_I L d (f j)) (q := fun e' => e' = d) (n := D) (fun e' _ h1 h2 => hnew (h2 ▸ h1))
          rw [cn_one hd] at h9
          rw [← h9]
          apply cn_cg
          intro e' _
          constructor
          · rintro ⟨j, hj, hI'⟩
            by_cases ej : j = i
            · subst ej
              exact Or.inr (xh_Iu hI' hI)
            · exact Or.inl ⟨j, by omega, hI'⟩
          · rintro (⟨j, hj, hI'⟩ | e4)
            · exact ⟨j, Nat.lt_succ_of_lt hj, hI'⟩
            · exact ⟨i, Nat.lt_succ_self i, by rw [e4]; exact hI⟩
        rw [e2] at ih'
        exact nm_r (nI_1 _) (nm_r (nI_1 _) ih')
end
theorem i_vc_countIn {k : Nat} {u : SX} {v : SY} (I : i_Rel k u v) (hk : k + 3 ≤ 1536) (v1 : Int32) : wpX_countIn (fun r u' => wpY_countIn (fun r' => r' = r ∧ i_Rel (k + 3) u' v) v v1) u v1 := by
  have I0 := I
  obtain ⟨f_docs, f_size, f_asked, f_low, f_high, f_foundCount, f_built, a_text, a_starts, a_query, a_order, a_rank, a_second, a_column, a_smaller, a_counted, a_sample, a_shared, a_found⟩ := u
  obtain ⟨f_docs', f_total', f_asked', a_text', a_size', a_pattern'⟩ := v
  obtain ⟨D, A, L, T, Q, ok, hA, hQ, hX, hB, hY⟩ := I
  obtain ⟨x1, x2, rfl, x4, x5, x6⟩ := hX
  have hX : xa_T D L T A Q (f_docs, f_size, nI A, f_low, f_high, f_foundCount, f_built, a_text, a_starts, a_query, a_order, a_rank, a_second, a_column, a_smaller, a_counted, a_sample, a_shared, a_found) := ⟨x1, x2, rfl, x4, x5, x6⟩
  have hb := ok.1
  have hN65 := dt_N65 ok
  unfold wpX_countIn
  dsimp only
  refine pk_eq A 0 (fun z => yb_cin hY ok hA hQ (fun _ => ⟨rfl, I0⟩) (fun y => absurd z (Nat.ne_of_gt y)) (fun y => absurd z (Nat.ne_of_gt y))) (fun z => ?_)
  refine xb_isd x1 hb.2.1 (fun d hd e => ?_) (fun hno => ?_)
  · subst e
    refine br_f xs_ne1 ?_
    refine xb_loc hX hB ok hA hQ (fun o r b1 b2 b3 b4 b5 b6 b7 b8 lo hi f fc b hX' w F hf => ?_)
    have rel : i_Rel (k + 3) (f_docs, f_size, nI A, nI lo, nI hi, nI fc, 1, a_text, a_starts, a_query, b1, b2, b3, b4, b5, b6, b7, b8, b) (f_docs', f_total', f_asked', a_text', a_size', a_pattern') := ⟨D, A, L, T, Q, ok, hA, hQ, hX, Or.inr ⟨rfl, o, r, hX'⟩, hY⟩
    have hX2 : xa_T D L T A Q (f_docs, f_size, nI A, nI lo, nI hi, nI fc, 1, a_text, a_starts, a_query, b1, b2, b3, b4, b5, b6, b7, b8, b) := hX
    have hfc : fc ≤ 65 := by
      rw [fo_fc hX'.1 w F]
      exact Nat.le_trans (cn_le _ _) hN65
    have hin := dt_in (L := L) hd (Nat.le_refl (L d))
    dsimp only
    refine ⟨vp_in_nI (by omega) (by omega), xb_len hX2 ok hd ?_⟩
    refine nm_r (e' := nI (dt_s L d + L d)) (by rw [nI_clamp (by omega), x5 d hd, nI_add]) ⟨fc + 1, ?_⟩
    refine xh_42 hX2 ok hd rfl hfc hf (fun i hi' => (fo_ain hX'.1 w F hi').1) ?_ (fc + 1) 0 (by omega) (by omega)
    refine yb_cin hY ok hA hQ (fun e => absurd e z) (fun _ hno => absurd ⟨d, hd, rfl⟩ hno) (fun _ d' hd' e' => ⟨?_, rel⟩)
    have ed : d = d' := by
      rw [nI_eq (by omega) (by omega)] at e'; exact e'
    subst ed
    have h1 := fo_cn hX'.1 w F (fun q => dt_s L d ≤ q ∧ q < dt_s L d + L d)
    rw [cn_rng (fun q => fi_mt T (dt_s L D) Q q 0 A) (Nat.le_of_lt hin)] at h1
    exact congrArg nI h1.symm
  · exact br_t rfl (yb_cin hY ok hA hQ (fun e => absurd e z) (fun _ _ => ⟨rfl, I0⟩) (fun _ d hd e => absurd ⟨d, hd, e⟩ hno))
theorem i_vc_spread {k : Nat} {u : SX} {v : SY} (I : i_Rel k u v) (hk : k + 3 ≤ 1536) : wpX_spread (fun r u' => wpY_spread (fun r' => r' = r ∧ i_Rel (k + 3) u' v) v) u := by
  have I0 := I
  obtain ⟨f_docs, f_size, f_asked, f_low, f_high, f_foundCount, f_built, a_text, a_starts, a_query, a_order, a_rank, a_second, a_column, a_smaller, a_counted, a_sample, a_shared, a_found⟩ := u
  obtain ⟨f_docs', f_total', f_asked', a_text', a_size', a_pattern'⟩ := v
  obtain ⟨D, A, L, T, Q, ok, hA, hQ, hX, hB, hY⟩ := I
  obtain ⟨x1, x2, rfl, x4, x5, x6⟩ := hX
  have hX : xa_T D L T A Q (f_docs, f_size, nI A, f_low, f_high, f_foundCount, f_built, a_text, a_starts, a_query, a_order, a_rank, a_second, a_column, a_smaller, a_counted, a_sample, a_shared, a_found) := ⟨x1, x2, rfl, x4, x5, x6⟩
  have hb := ok.1
  have hN65 := dt_N65 ok
  unfold wpX_spread
  dsimp only
  refine pk_eq A 0 (fun z => yb_spread hY ok hA hQ (fun _ => ⟨rfl, I0⟩) (fun y => absurd z (Nat.ne_of_gt y))) (fun z => ?_)
  refine xb_loc hX hB ok hA hQ (fun o r b1 b2 b3 b4 b5 b6 b7 b8 lo hi f fc b hX' w F hf => ?_)
  have rel : i_Rel (k + 3) (f_docs, f_size, nI A, nI lo, nI hi, nI fc, 1, a_text, a_starts, a_query, b1, b2, b3, b4, b5, b6, b7, b8, b) (f_docs', f_total', f_asked', a_text', a_size', a_pattern') := ⟨D, A, L, T, Q, ok, hA, hQ, hX, Or.inr ⟨rfl, o, r, hX'⟩, hY⟩
  have hX2 : xa_T D L T A Q (f_docs, f_size, nI A, nI lo, nI hi, nI fc, 1, a_text, a_starts, a_query, b1, b2, b3, b4, b5, b6, b7, b8, b) := hX
  have hfc : fc ≤ 65 := by
    rw [fo_fc hX'.1 w F]
    exact Nat.le_trans (cn_le _ _) hN65
  have hA0 := Nat.pos_of_ne_zero z
  refine ⟨fc + 1, ?_⟩
  have e0 : (0 : Int32) = nI (cn_c (fun d => ∃ j, j < 0 ∧ xh_I L d (f j)) D) := by
    rw [cn_z (fun d _ ⟨j, hj, _⟩ => by omega)]; rfl
  dsimp only
  have key := xh_19 (post := fun r u' => wpY_spread (fun r' => r' = r ∧ i_Rel (k + 3) u' (f_docs', f_total', f_asked', a_text', a_size', a_pattern')) (f_docs', f_total', f_asked', a_text', a_size', a_pattern')) hX2 ok rfl hfc hf (fun i hi' => (fo_ain hX'.1 w F hi').1) F.2.2 ?_ (fc + 1) 0 (-1) (by omega) (by omega) (Or.inl ⟨rfl, rfl⟩)
  · rw [← e0] at key
    exact key
  · refine yb_spread hY ok hA hQ (fun e => absurd e z) (fun _ => ⟨congrArg nI (cn_cg (fun d hd => ⟨?_, ?_⟩)), rel⟩)
    · rintro ⟨p, hp, hm⟩
      obtain ⟨j, hj, e⟩ := fo_hit hX'.1 w F (dt_in hd (Nat.le_of_lt hp)) hm
      exact ⟨j, hj, by rw [e]; exact ⟨Nat.le_add_right _ _, Nat.add_le_add_left (Nat.le_of_lt hp) _⟩⟩
    · rintro ⟨j, hj, hI⟩
      have hin := fo_ain hX'.1 w F hj
      have e : f j = dt_s L d + (f j - dt_s L d) := by have := hI.1; omega
      refine ⟨f j - dt_s L d, ?_, by rw [← e]; exact hin.2⟩
      by_cases e2 : f j - dt_s L d = L d
      · rw [e2] at e
        rw [e] at hin
        exact absurd hin.2 (fi_mk ok hA0 hd)
      · have := hI.2; omega
end
section
/-! longestEnd, longestBegin, extensions -/
section
variable {T o r Q : Nat → Nat} {N : Nat}
theorem fi_Wne {lo hi k m : Nat} (h : so_O T N o r) (w : fi_W T N o Q lo hi k m) : lo < hi ↔ ∃ q, q < N ∧ fi_mt T N Q q k m := by
  have w2 := w.2.1
  constructor
  · intro z
    exact ⟨o lo, h.1.1 lo (by omega), (w.2.2 lo (by omega)).mp ⟨Nat.le_refl _, z⟩⟩
  · rintro ⟨q, hq, hm⟩
    have h1 := h.2.2.1 q hq
    have := (w.2.2 (r q) h1.1).mpr (by rw [h1.2]; exact hm)
    omega
theorem fi_mtd {q k m t : Nat} (h : fi_mt T N Q q k m) (ht : k + t < m) : q + t < N ∧ fi_mt T N Q (q + t) (k + t) m := by
  refine ⟨(h t ht).1, fun j hj => ?_⟩
  have := h (t + j) (by omega)
  rw [← Nat.add_assoc, ← Nat.add_assoc] at this
  exact this
/-- a symbol ahead of the pattern -/
def fi_Q (s : Nat) (Q : Nat → Nat) : Nat → Nat := fun j => if j = 0 then s else Q (j - 1)
theorem fi_Qm {s q m : Nat} : fi_mt T N (fi_Q s Q) q 1 (m + 1) ↔ fi_mt T N Q q 0 m := by
  have e : ∀ j, fi_Q s Q (1 + j) = Q (0 + j) := fun j => by
    unfold fi_Q; rw [if_neg (by omega), Nat.add_sub_cancel_left, Nat.zero_add]
  constructor
  · intro h j hj
    have := h j (by omega)
    rw [e] at this; exact this
  · intro h j hj
    have := h j (by omega)
    rw [e]; exact this
theorem fi_QW {s lo hi m : Nat} (w : fi_W T N o Q lo hi 0 m) : fi_W T N o (fi_Q s Q) lo hi (0 + 1) (m + 1) :=
  ⟨w.1, w.2.1, fun i hi' => (w.2.2 i hi').trans fi_Qm.symm⟩
theorem fi_Qe {s q m : Nat} : fi_mt T N (fi_Q s Q) q 0 (m + 1) ↔ q < N ∧ T q = s + 5 ∧ fi_mt T N Q (q + 1) 0 m := by
  rw [fi_mtS (Nat.succ_pos m)]
  exact ⟨fun z => ⟨z.1, z.2.1, fi_Qm.mp z.2.2⟩, fun z => ⟨z.1, z.2.1, fi_Qm.mpr z.2.2⟩⟩
end
section
variable {f_docs f_size f_asked f_low f_high f_foundCount f_built : Int32} {a_text a_starts a_query a_order a_rank a_second a_column a_smaller a_counted a_sample a_shared a_found : Nat → Int32}
variable {D A : Nat} {L T Q o r : Nat → Nat}
theorem xi_e6 {post : Int32 → SX → Prop} (h : xa_T D L T A Q (f_docs, f_size, f_asked, f_low, f_high, f_foundCount, f_built, a_text, a_starts, a_query, a_order, a_rank, a_second, a_column, a_smaller, a_counted, a_sample, a_shared, a_found)) (ok : dt_ok T D L) (X : xa_X D L T o r (f_docs, f_size, f_asked, f_low, f_high, f_foundCount, f_built, a_text, a_starts, a_query, a_order, a_rank, a_second, a_column, a_smaller, a_counted, a_sample, a_shared, a_found)) (hA : A ≤ 8) (hQ : ∀ i, i < A → Q i < 5)
    (k : ∀ j lo hi, yc_L (fun j => ∃ q, q < dt_s L D ∧ fi_mt T (dt_s L D) Q q (A - j) A) A j → post (nI j) (f_docs, f_size, f_asked, nI lo, nI hi, f_foundCount, f_built, a_text, a_starts, a_query, a_order, a_rank, a_second, a_column, a_smaller, a_counted, a_sample, a_shared, a_found)) :
    ∀ n x lo hi : Nat, A - x < n → x ≤ A → fi_W T (dt_s L D) o Q lo hi (A - x) A → lo < hi → wX_longestEnd_6 post n (nI x) f_docs f_size f_asked (nI lo) (nI hi) f_foundCount f_built a_text a_starts a_query a_order a_rank a_second a_column a_smaller a_counted a_sample a_shared a_found := by
  have hN := dt_N65 ok
  have hN1 := dt_N1 ok
  have hT := dt_T10 ok
  have hl : T (dt_s L D - 1) < 5 := by rw [dt_last ok]; have := ok.1; omega
  intro n
  induction n with
  | zero => intro x _ _ z; omega
  | succ n ih =>
    intro x lo hi g1 g2 w g3
    have hoc := (fi_Wne X.1 w).mp g3
    have w2 := w.2.1
    refine pk_le A x (fun z => ?_) (fun z => ?_) h.2.2.1
    · have e : x = A := by clear hoc; omega
      exact k x lo hi ⟨g2, Or.inr hoc, fun j h1 h2 => by clear hoc; omega⟩
    · have ei : f_asked - 1 - nI x = nI (A - (x + 1)) := by
        rw [h.2.2.1, ga_s1 (by clear hoc; omega), pk_sub (by clear hoc; omega)]
        exact congrArg nI (by clear hoc; omega)
      rw [ei]
      have hi8 : A - (x + 1) < 8 := by clear hoc; omega
      have hiA : A - (x + 1) < A := by clear hoc; omega
      have hix : A - (x + 1) + 1 = A - x := by clear hoc; omega
      have g4 : A - (x + 1) < n := by clear hoc; omega
      have hlN : lo ≤ dt_s L D := by clear hoc; omega
      have w' : fi_W T (dt_s L D) o Q lo hi (A - (x + 1) + 1) A := by rw [hix]; exact w
      refine ⟨vp_in_nI hi8 (by omega), ?_⟩
      rw [rp_at h.2.2.2.2.2 hiA (by clear hoc; omega)]
      refine xb_ext (show xa_T D L T A Q (f_docs, f_size, f_asked, nI lo, nI hi, f_foundCount, f_built, a_text, a_starts, a_query, a_order, a_rank, a_second, a_column, a_smaller, a_counted, a_sample, a_shared, a_found) from h) ok X (hQ _ hiA) rfl rfl hlN w2 (fun _ => ?_) (fun y => absurd g3 (Nat.not_lt.mpr y))
      have w3 := fi_Wx X.1 hT hl (Nat.le_trans hA (by omega)) hiA w' g3
      have w4 := w3.2.1
      have w5 := w3.1
      refine pk_lt _ _ (fun y => ?_) (fun y => ?_) rfl rfl (by clear hoc; omega) (by clear hoc; omega)
      · exact nm_r (nI_1 x) (ih (x + 1) _ _ g4 z w3 y)
      · refine k x _ _ ⟨g2, Or.inr hoc, fun j h1 h2 => ?_⟩
        rintro ⟨q, hq, hm⟩
        have h3 := fi_mtd (t := j - (x + 1)) hm (by clear hoc; omega)
        have e2 : A - j + (j - (x + 1)) = A - (x + 1) := by clear hoc hm h3; omega
        rw [e2] at h3
        have h4 := (fi_Wne X.1 w3).mpr ⟨_, h3.1, h3.2⟩
        exact absurd h4 (Nat.not_lt.mpr y)
theorem xi_b5 {post : Int32 → SX → Prop} (h : xa_T D L T A Q (f_docs, f_size, f_asked, f_low, f_high, f_foundCount, f_built, a_text, a_starts, a_query, a_order, a_rank, a_second, a_column, a_smaller, a_counted, a_sample, a_shared, a_found)) (ok : dt_ok T D L) (hA : A ≤ 8) (hQ : ∀ i, i < A → Q i < 5)
    (k : ∀ (j : Nat) (f_low f_high f_built : Int32) (a_order a_rank a_second a_column a_smaller a_counted a_sample a_shared : Nat → Int32), yc_L (fun j => ∃ q, q < dt_s L D ∧ fi_mt T (dt_s L D) Q q 0 j) A j → xa_B D L T (f_docs, f_size, f_asked, f_low, f_high, f_foundCount, f_built, a_text, a_starts, a_query, a_order, a_rank, a_second, a_column, a_smaller, a_counted, a_sample, a_shared, a_found) → post (nI j) (f_docs, f_size, f_asked, f_low, f_high, f_foundCount, f_built, a_text, a_starts, a_query, a_order, a_rank, a_second, a_column, a_smaller, a_counted, a_sample, a_shared, a_found)) :
    ∀ (n x : Nat) (f_low f_high f_built : Int32) (a_order a_rank a_second a_column a_smaller a_counted a_sample a_shared : Nat → Int32), x < n → x ≤ A → xa_B D L T (f_docs, f_size, f_asked, f_low, f_high, f_foundCount, f_built, a_text, a_starts, a_query, a_order, a_rank, a_second, a_column, a_smaller, a_counted, a_sample, a_shared, a_found) → (∀ j, x < j → j ≤ A → ¬ ∃ q, q < dt_s L D ∧ fi_mt T (dt_s L D) Q q 0 j) → wX_longestBegin_5 post n (nI x) f_docs f_size f_asked f_low f_high f_foundCount f_built a_text a_starts a_query a_order a_rank a_second a_column a_smaller a_counted a_sample a_shared a_found := by
  have hN := dt_N65 ok
  intro n
  induction n with
  | zero => intro x _ _ _ _ _ _ _ _ _ _ _ z; omega
  | succ n ih =>
    intro x f_low f_high f_built a_order a_rank a_second a_column a_smaller a_counted a_sample a_shared g1 g2 hB g3
    have hX : xa_T D L T A Q (f_docs, f_size, f_asked, f_low, f_high, f_foundCount, f_built, a_text, a_starts, a_query, a_order, a_rank, a_second, a_column, a_smaller, a_counted, a_sample, a_shared, a_found) := h
    refine pk_le x 0 (fun z => ?_) (fun z => ?_)
    · have e : x = 0 := Nat.le_zero.mp z
      subst e
      exact k 0 _ _ _ _ _ _ _ _ _ _ _ ⟨Nat.zero_le _, Or.inl rfl, g3⟩ hB
    · refine xb_search hX hB ok g2 hA hQ (fun o r b1 b2 b3 b4 b5 b6 b7 b8 lo hi hX' w => ?_)
      have hB' : xa_B D L T (f_docs, f_size, f_asked, nI lo, nI hi, f_foundCount, 1, a_text, a_starts, a_query, b1, b2, b3, b4, b5, b6, b7, b8, a_found) := Or.inr ⟨rfl, o, r, hX'⟩
      have w1 := w.1
      have w2 := w.2.1
      have hne := fi_Wne hX'.1 w
      have b1' : hi < 2 ^ 31 := by clear hne g3; omega
      have b2' : lo < 2 ^ 31 := by clear hne g3; omega
      refine pk_le hi lo (fun y => ?_) (fun y => ?_) rfl rfl b1' b2'
      · refine nm_r (ga_m1 z) (ih (x - 1) _ _ _ _ _ _ _ _ _ _ _ (by clear g3 hne; omega) (by clear g3 hne; omega) hB' (fun j h1 h2 => ?_))
        by_cases e : j = x
        · rw [e]; exact fun y2 => absurd (hne.mpr y2) (Nat.not_lt.mpr y)
        · exact g3 j (by clear g3 hne; omega) h2
      · exact k x _ _ _ _ _ _ _ _ _ _ _ ⟨g2, Or.inr (hne.mp y), g3⟩ hB'
theorem xi_x4 {post : Int32 → SX → Prop} (h : xa_T D L T A Q (f_docs, f_size, f_asked, f_low, f_high, f_foundCount, f_built, a_text, a_starts, a_query, a_order, a_rank, a_second, a_column, a_smaller, a_counted, a_sample, a_shared, a_found)) (ok : dt_ok T D L) (hA : A ≤ 8) (hQ : ∀ i, i < A → Q i < 5)
    (k : ∀ (f_low f_high f_built : Int32) (a_order a_rank a_second a_column a_smaller a_counted a_sample a_shared : Nat → Int32), xa_B D L T (f_docs, f_size, f_asked, f_low, f_high, f_foundCount, f_built, a_text, a_starts, a_query, a_order, a_rank, a_second, a_column, a_smaller, a_counted, a_sample, a_shared, a_found) → post (nI (cn_c (fun s => ∃ q, q < dt_s L D ∧ T q = s + 5 ∧ fi_mt T (dt_s L D) Q (q + 1) 0 A) 5)) (f_docs, f_size, f_asked, f_low, f_high, f_foundCount, f_built, a_text, a_starts, a_query, a_order, a_rank, a_second, a_column, a_smaller, a_counted, a_sample, a_shared, a_found)) :
    ∀ (n s : Nat) (f_low f_high f_built : Int32) (a_order a_rank a_second a_column a_smaller a_counted a_sample a_shared : Nat → Int32), 5 - s < n → s ≤ 5 → xa_B D L T (f_docs, f_size, f_asked, f_low, f_high, f_foundCount, f_built, a_text, a_starts, a_query, a_order, a_rank, a_second, a_column, a_smaller, a_counted, a_sample, a_shared, a_found) → wX_extensions_4 post n (nI (cn_c (fun s => ∃ q, q < dt_s L D ∧ T q = s + 5 ∧ fi_mt T (dt_s L D) Q (q + 1) 0 A) s)) (nI s) f_docs f_size f_asked f_low f_high f_foundCount f_built a_text a_starts a_query a_order a_rank a_second a_column a_smaller a_counted a_sample a_shared a_found := by
  have hN := dt_N65 ok
  have hN1 := dt_N1 ok
  have hT := dt_T10 ok
  have hl : T (dt_s L D - 1) < 5 := by rw [dt_last ok]; have := ok.1; omega
  intro n
  induction n with
  | zero => intro s _ _ _ _ _ _ _ _ _ _ _ z; omega
  | succ n ih =>
    intro s f_low f_high f_built a_order a_rank a_second a_column a_smaller a_counted a_sample a_shared g1 g2 hB
    refine pk_le 5 s (fun z => ?_) (fun z => ?_)
    · have e : s = 5 := by omega
      rw [e]; exact k _ _ _ _ _ _ _ _ _ _ _ hB
    · have key : wpX_search (fun u => match u with | (f_docsz, f_sizez, f_askedz, f_lowz, f_highz, f_foundCountz, f_builtz, a_textz, a_startsz, a_queryz, a_orderz, a_rankz, a_secondz, a_columnz, a_smallerz, a_countedz, a_samplez, a_sharedz, a_foundz) => wpX_extend (fun u => match u with | (f_docsy, f_sizey, f_askedy, f_lowy, f_highy, f_foundCounty, f_builty, a_texty, a_startsy, a_queryy, a_ordery, a_ranky, a_secondy, a_columny, a_smallery, a_countedy, a_sampley, a_sharedy, a_foundy) => ((f_highy ≤ f_lowy → (∀ x1_43 : Int32, x1_43 = nI (cn_c (fun s => ∃ q, q < dt_s L D ∧ T q = s + 5 ∧ fi_mt T (dt_s L D) Q (q + 1) 0 A) s) + 0 → (∀ x2_44 : Int32, x2_44 = nI s + 1 → (wX_extensions_4 post n x1_43 x2_44 f_docsy f_sizey f_askedy f_lowy f_highy f_foundCounty f_builty a_texty a_startsy a_queryy a_ordery a_ranky a_secondy a_columny a_smallery a_countedy a_sampley a_sharedy a_foundy)))) ∧ (¬ f_highy ≤ f_lowy → (∀ x1_45 : Int32, x1_45 = nI (cn_c (fun s => ∃ q, q < dt_s L D ∧ T q = s + 5 ∧ fi_mt T (dt_s L D) Q (q + 1) 0 A) s) + 1 → (∀ x2_46 : Int32, x2_46 = nI s + 1 → (wX_extensions_4 post n x1_45 x2_46 f_docsy f_sizey f_askedy f_lowy f_highy f_foundCounty f_builty a_texty a_startsy a_queryy a_ordery a_ranky a_secondy a_columny a_smallery a_countedy a_sampley a_sharedy a_foundy)))))) (f_docsz, f_sizez, f_askedz, f_lowz, f_highz, f_foundCountz, f_builtz, a_textz, a_startsz, a_queryz, a_orderz, a_rankz, a_secondz, a_columnz, a_smallerz, a_countedz, a_samplez, a_sharedz, a_foundz) (nI s)) (f_docs, f_size, f_asked, f_low, f_high, f_foundCount, f_built, a_text, a_starts, a_query, a_order, a_rank, a_second, a_column, a_smaller, a_counted, a_sample, a_shared, a_found) 0 (nI A) := by
        refine xb_search (show xa_T D L T A Q (f_docs, f_size, f_asked, f_low, f_high, f_foundCount, f_built, a_text, a_starts, a_query, a_order, a_rank, a_second, a_column, a_smaller, a_counted, a_sample, a_shared, a_found) from h) hB ok (Nat.le_refl A) hA hQ (fun o r b1 b2 b3 b4 b5 b6 b7 b8 lo hi hX' w => ?_)
        have w1 := w.1
        have w2 := w.2.1
        have wq := fi_QW (s := s) w
        have hs5 : s < 5 := z
        have eQ : fi_Q s Q 0 = s := rfl
        have fin : ∀ lo' hi' : Nat, fi_W T (dt_s L D) o (fi_Q s Q) lo' hi' 0 (A + 1) → ((nI hi' ≤ nI lo' → (∀ x1_43 : Int32, x1_43 = nI (cn_c (fun s => ∃ q, q < dt_s L D ∧ T q = s + 5 ∧ fi_mt T (dt_s L D) Q (q + 1) 0 A) s) + 0 → (∀ x2_44 : Int32, x2_44 = nI s + 1 → (wX_extensions_4 post n x1_43 x2_44 f_docs f_size f_asked (nI lo') (nI hi') f_foundCount 1 a_text a_starts a_query b1 b2 b3 b4 b5 b6 b7 b8 a_found)))) ∧ (¬ nI hi' ≤ nI lo' → (∀ x1_45 : Int32, x1_45 = nI (cn_c (fun s => ∃ q, q < dt_s L D ∧ T q = s + 5 ∧ fi_mt T (dt_s L D) Q (q + 1) 0 A) s) + 1 → (∀ x2_46 : Int32, x2_46 = nI s + 1 → (wX_extensions_4 post n x1_45 x2_46 f_docs f_size f_asked (nI lo') (nI hi') f_foundCount 1 a_text a_starts a_query b1 b2 b3 b4 b5 b6 b7 b8 a_found))))) := by
          intro lo' hi' w'
          have v1 := w'.1
          have v2 := w'.2.1
          have hB' : xa_B D L T (f_docs, f_size, f_asked, nI lo', nI hi', f_foundCount, 1, a_text, a_starts, a_query, b1, b2, b3, b4, b5, b6, b7, b8, a_found) := Or.inr ⟨rfl, o, r, hX'⟩
          have hne := fi_Wne hX'.1 w'
          have c1 : hi' < 2 ^ 31 := by clear hne; omega
          have c2 : lo' < 2 ^ 31 := by clear hne; omega
          have ih' := ih (s + 1) (nI lo') (nI hi') 1 b1 b2 b3 b4 b5 b6 b7 b8 (by clear hne; omega) z hB'
          refine pk_le hi' lo' (fun y => ?_) (fun y => ?_) rfl rfl c1 c2
          · rw [cn_f (p := fun s => ∃ q, q < dt_s L D ∧ T q = s + 5 ∧ fi_mt T (dt_s L D) Q (q + 1) 0 A) (fun ⟨q, hq, h1, h2⟩ => absurd (hne.mpr ⟨q, hq, fi_Qe.mpr ⟨hq, h1, h2⟩⟩) (Nat.not_lt.mpr y))] at ih'
            exact nm_r (ga_p0 _) (nm_r (nI_1 _) ih')
          · obtain ⟨q, hq, hm⟩ := hne.mp y
            have hm' := fi_Qe.mp hm
            rw [cn_t (p := fun s => ∃ q, q < dt_s L D ∧ T q = s + 5 ∧ fi_mt T (dt_s L D) Q (q + 1) 0 A) ⟨q, hq, hm'.2.1, hm'.2.2⟩] at ih'
            exact nm_r (nI_1 _) (nm_r (nI_1 _) ih')
        refine xb_ext (show xa_T D L T A Q (f_docs, f_size, f_asked, nI lo, nI hi, f_foundCount, 1, a_text, a_starts, a_query, b1, b2, b3, b4, b5, b6, b7, b8, a_found) from h) ok hX' hs5 rfl rfl (Nat.le_trans w1 w2) w2 (fun y => ?_) (fun y => ?_)
        · have w3 := fi_Wx hX'.1 hT hl (show A + 1 ≤ 128 from by omega) (Nat.succ_pos A) wq y
          rw [eQ] at w3
          exact fin _ _ w3
        · exact fin _ _ (fi_We hX'.1 hN1 (Nat.succ_pos A) wq y)
      have e3 := h.2.2.1
      rw [← e3] at key
      exact key
end
theorem i_vc_longestEnd {k : Nat} {u : SX} {v : SY} (I : i_Rel k u v) (hk : k + 3 ≤ 1536) : wpX_longestEnd (fun r u' => wpY_longestEnd (fun r' => r' = r ∧ i_Rel (k + 3) u' v) v) u := by
  obtain ⟨f_docs, f_size, f_asked, f_low, f_high, f_foundCount, f_built, a_text, a_starts, a_query, a_order, a_rank, a_second, a_column, a_smaller, a_counted, a_sample, a_shared, a_found⟩ := u
  obtain ⟨f_docs', f_total', f_asked', a_text', a_size', a_pattern'⟩ := v
  obtain ⟨D, A, L, T, Q, ok, hA, hQ, hX, hB, hY⟩ := I
  have hN1 := dt_N1 ok
  unfold wpX_longestEnd
  dsimp only
  refine xb_start hX hB ok (fun o r b1 b2 b3 b4 b5 b6 b7 b8 hX' => ?_)
  refine ⟨A + 1, ?_⟩
  have hX2 : xa_T D L T A Q (f_docs, f_size, f_asked, f_low, f_high, f_foundCount, 1, a_text, a_starts, a_query, b1, b2, b3, b4, b5, b6, b7, b8, a_found) := hX
  refine xi_e6 (post := fun r u' => wpY_longestEnd (fun r' => r' = r ∧ i_Rel (k + 3) u' (f_docs', f_total', f_asked', a_text', a_size', a_pattern')) (f_docs', f_total', f_asked', a_text', a_size', a_pattern')) hX2 ok hX' hA hQ (fun j lo hi hL => ?_) (A + 1) 0 0 (dt_s L D) (by omega) (by omega) (by rw [Nat.sub_zero]; exact fi_W0 A) (by omega)
  refine yb_lend hY ok hA hQ (fun j' hL' => ⟨?_, D, A, L, T, Q, ok, hA, hQ, hX, Or.inr ⟨rfl, o, r, hX'⟩, hY⟩)
  rw [yc_Lu hL hL']
theorem i_vc_longestBegin {k : Nat} {u : SX} {v : SY} (I : i_Rel k u v) (hk : k + 3 ≤ 1536) : wpX_longestBegin (fun r u' => wpY_longestBegin (fun r' => r' = r ∧ i_Rel (k + 3) u' v) v) u := by
  obtain ⟨f_docs, f_size, f_asked, f_low, f_high, f_foundCount, f_built, a_text, a_starts, a_query, a_order, a_rank, a_second, a_column, a_smaller, a_counted, a_sample, a_shared, a_found⟩ := u
  obtain ⟨f_docs', f_total', f_asked', a_text', a_size', a_pattern'⟩ := v
  obtain ⟨D, A, L, T, Q, ok, hA, hQ, hX, hB, hY⟩ := I
  obtain ⟨x1, x2, rfl, x4, x5, x6⟩ := hX
  have hX : xa_T D L T A Q (f_docs, f_size, nI A, f_low, f_high, f_foundCount, f_built, a_text, a_starts, a_query, a_order, a_rank, a_second, a_column, a_smaller, a_counted, a_sample, a_shared, a_found) := ⟨x1, x2, rfl, x4, x5, x6⟩
  unfold wpX_longestBegin
  dsimp only
  refine ⟨A + 1, ?_⟩
  refine xi_b5 (post := fun r u' => wpY_longestBegin (fun r' => r' = r ∧ i_Rel (k + 3) u' (f_docs', f_total', f_asked', a_text', a_size', a_pattern')) (f_docs', f_total', f_asked', a_text', a_size', a_pattern')) hX ok hA hQ ?_ (A + 1) A f_low f_high f_built a_order a_rank a_second a_column a_smaller a_counted a_sample a_shared (by omega) (by omega) hB (fun j h1 h2 => by omega)
  intro j f_low f_high f_built a_order a_rank a_second a_column a_smaller a_counted a_sample a_shared hL hB'
  refine yb_lbeg hY ok hA hQ (fun j' hL' => ⟨?_, D, A, L, T, Q, ok, hA, hQ, hX, hB', hY⟩)
  rw [yc_Lu hL hL']
theorem i_vc_extensions {k : Nat} {u : SX} {v : SY} (I : i_Rel k u v) (hk : k + 3 ≤ 1536) : wpX_extensions (fun r u' => wpY_extensions (fun r' => r' = r ∧ i_Rel (k + 3) u' v) v) u := by
  obtain ⟨f_docs, f_size, f_asked, f_low, f_high, f_foundCount, f_built, a_text, a_starts, a_query, a_order, a_rank, a_second, a_column, a_smaller, a_counted, a_sample, a_shared, a_found⟩ := u
  obtain ⟨f_docs', f_total', f_asked', a_text', a_size', a_pattern'⟩ := v
  obtain ⟨D, A, L, T, Q, ok, hA, hQ, hX, hB, hY⟩ := I
  unfold wpX_extensions
  dsimp only
  refine ⟨6, ?_⟩
  refine xi_x4 (post := fun r u' => wpY_extensions (fun r' => r' = r ∧ i_Rel (k + 3) u' (f_docs', f_total', f_asked', a_text', a_size', a_pattern')) (f_docs', f_total', f_asked', a_text', a_size', a_pattern')) hX ok hA hQ ?_ 6 0 f_low f_high f_built a_order a_rank a_second a_column a_smaller a_counted a_sample a_shared (by omega) (by omega) hB
  intro f_low f_high f_built a_order a_rank a_second a_column a_smaller a_counted a_sample a_shared hB'
  exact yb_exts hY ok hA hQ ⟨rfl, D, A, L, T, Q, ok, hA, hQ, hX, hB', hY⟩
end
section
/-! ranked, rankOf, common, repeated, different -/
section
variable {f_docs f_size f_asked f_low f_high f_foundCount f_built : Int32} {a_text a_starts a_query a_order a_rank a_second a_column a_smaller a_counted a_sample a_shared a_found : Nat → Int32}
variable {D A : Nat} {L T Q o r : Nat → Nat}
theorem xj_shb (ok : dt_ok T D L) (j : Nat) : df_sh T (dt_s L D) o j ≤ 65 := by
  have h1 := df_shle (T := T) (N := dt_s L D) (o := o) (k := j)
  have h2 := lc_leN (T := T) (N := dt_s L D) (o j) (o j)
  have h3 := dt_N65 ok
  omega
theorem xj_136 {post : Int32 → SX → Prop} {lo hi m0 : Nat} (ok : dt_ok T D L) (X : xa_X D L T o r (f_docs, f_size, f_asked, f_low, f_high, f_foundCount, f_built, a_text, a_starts, a_query, a_order, a_rank, a_second, a_column, a_smaller, a_counted, a_sample, a_shared, a_found)) (hhi : hi < dt_s L D)
    (k : ∀ m, (∀ t, t ≤ m ↔ t ≤ 65 ∧ ∀ j, lo < j → j ≤ hi → t ≤ df_sh T (dt_s L D) o j) → post (nI m) (f_docs, f_size, f_asked, f_low, f_high, f_foundCount, f_built, a_text, a_starts, a_query, a_order, a_rank, a_second, a_column, a_smaller, a_counted, a_sample, a_shared, a_found)) :
    ∀ n x m : Nat, hi + 1 - x < n → lo < x → x ≤ hi + 1 → (∀ t, t ≤ m ↔ t ≤ 65 ∧ ∀ j, lo < j → j < x → t ≤ df_sh T (dt_s L D) o j) → wX_common_136 post (nI hi) f_docs f_size f_asked f_low f_high f_foundCount f_built a_text a_starts a_query a_order a_rank a_second a_column a_smaller a_counted a_sample a_shared a_found n (nI m) (nI x) := by
  have hN := dt_N65 ok
  intro n
  induction n with
  | zero => intro x m z; omega
  | succ n ih =>
    intro x m g1 g2 g3 g4
    have hm65 : m ≤ 65 := ((g4 m).mp (Nat.le_refl m)).1
    refine pk_lt hi x (fun z => ?_) (fun z => ?_)
    · have e : x = hi + 1 := by clear g4; omega
      subst e
      refine k m (fun t => ?_)
      rw [g4 t]
      exact ⟨fun y => ⟨y.1, fun j h1 h2 => y.2 j h1 (Nat.lt_succ_of_le h2)⟩, fun y => ⟨y.1, fun j h1 h2 => y.2 j h1 (Nat.le_of_lt_succ h2)⟩⟩
    · have hx : x < dt_s L D := Nat.lt_of_le_of_lt z hhi
      have hx65 : x < 65 := Nat.lt_of_lt_of_le hx hN
      have hsb := xj_shb (o := o) ok x
      have hxb : x < 2 ^ 31 := Nat.lt_trans hx65 (by omega)
      have h1' : hi + 1 - (x + 1) < n := by clear g4; omega
      have h2' : lo < x + 1 := Nat.lt_succ_of_lt g2
      rw [rp_at X.2.2.2.2.2.2.2 hx hxb]
      refine ⟨vp_in_nI hx65 (by omega), ?_⟩
      refine pk_le m (df_sh T (dt_s L D) o x) (fun y => ?_) (fun y => ?_) rfl rfl (Nat.lt_of_le_of_lt hm65 (by omega)) (Nat.lt_of_le_of_lt hsb (by omega))
      · refine nm_r (nI_1 x) (ih (x + 1) m h1' h2' (Nat.succ_le_succ z) (fun t => ?_))
        rw [g4 t]
        constructor
        · rintro ⟨w1, w2⟩
          refine ⟨w1, fun j hj1 hj2 => ?_⟩
          by_cases e : j = x
          · rw [e]; exact Nat.le_trans ((g4 t).mpr ⟨w1, w2⟩) y
          · exact w2 j hj1 (Nat.lt_of_le_of_ne (Nat.le_of_lt_succ hj2) e)
        · rintro ⟨w1, w2⟩
          exact ⟨w1, fun j hj1 hj2 => w2 j hj1 (Nat.lt_succ_of_lt hj2)⟩
      · refine ⟨vp_in_nI hx65 (by omega), nm_e (nm_r (nI_1 x) (ih (x + 1) _ h1' h2' (Nat.succ_le_succ z) (fun t => ?_)))⟩
        constructor
        · intro w1
          have w2 := (g4 t).mp (Nat.le_trans w1 (Nat.le_of_lt y))
          refine ⟨w2.1, fun j hj1 hj2 => ?_⟩
          by_cases e : j = x
          · rw [e]; exact w1
          · exact w2.2 j hj1 (Nat.lt_of_le_of_ne (Nat.le_of_lt_succ hj2) e)
        · rintro ⟨w1, w2⟩
          exact w2 x g2 (Nat.lt_succ_self x)
theorem xj_com {post : Int32 → SX → Prop} {i j : Nat} {x6 x8 : Int32} (ok : dt_ok T D L) (X : xa_X D L T o r (f_docs, f_size, f_asked, f_low, f_high, f_foundCount, f_built, a_text, a_starts, a_query, a_order, a_rank, a_second, a_column, a_smaller, a_counted, a_sample, a_shared, a_found)) (hij : i < j) (hj : j < dt_s L D) (h6 : x6 = nI j) (h8 : x8 = nI i + 1)
    (k : post (nI (lc_l T (dt_s L D) (o i) (o j))) (f_docs, f_size, f_asked, f_low, f_high, f_foundCount, f_built, a_text, a_starts, a_query, a_order, a_rank, a_second, a_column, a_smaller, a_counted, a_sample, a_shared, a_found)) : ∃ n, wX_common_136 post x6 f_docs f_size f_asked f_low f_high f_foundCount f_built a_text a_starts a_query a_order a_rank a_second a_column a_smaller a_counted a_sample a_shared a_found n 65 x8 := by
  have hN := dt_N65 ok
  subst h6 h8
  rw [nI_1]
  refine ⟨j + 2, ?_⟩
  refine xj_136 (m0 := 0) (lo := i) ok X hj (fun m hm => ?_) (j + 2) (i + 1) 65 (by omega) (by omega) (by omega) (fun t => ⟨fun y => ⟨y, fun j' h1 h2 => by omega⟩, fun y => y.1⟩)
  have e : m = lc_l T (dt_s L D) (o i) (o j) := by
    apply lc_ext
    intro t
    rw [hm t, df_com (dt_T10 ok) (Nat.le_trans hN (by omega)) X.1 j hij hj]
    constructor
    · intro y; exact y.2
    · intro y
      refine ⟨?_, y⟩
      have h1 := y j hij (Nat.le_refl j)
      have h2 := xj_shb (o := o) ok j
      exact Nat.le_trans h1 h2
  rw [e]; exact k
theorem xj_13 {post : Int32 → SX → Prop} (h : xa_T D L T A Q (f_docs, f_size, f_asked, f_low, f_high, f_foundCount, f_built, a_text, a_starts, a_query, a_order, a_rank, a_second, a_column, a_smaller, a_counted, a_sample, a_shared, a_found)) (ok : dt_ok T D L) (X : xa_X D L T o r (f_docs, f_size, f_asked, f_low, f_high, f_foundCount, f_built, a_text, a_starts, a_query, a_order, a_rank, a_second, a_column, a_smaller, a_counted, a_sample, a_shared, a_found))
    (k : post (nI (df_m (fun j => df_sh T (dt_s L D) o (D + 1 + j)) (dt_s L D - (D + 1)))) (f_docs, f_size, f_asked, f_low, f_high, f_foundCount, f_built, a_text, a_starts, a_query, a_order, a_rank, a_second, a_column, a_smaller, a_counted, a_sample, a_shared, a_found)) :
    ∀ n x : Nat, dt_s L D - (D + 1) - x < n → x ≤ dt_s L D - (D + 1) → wX_repeated_13 post f_docs f_size f_asked f_low f_high f_foundCount f_built a_text a_starts a_query a_order a_rank a_second a_column a_smaller a_counted a_sample a_shared a_found n (nI (df_m (fun j => df_sh T (dt_s L D) o (D + 1 + j)) x)) (nI (D + 1 + x)) := by
  have hN := dt_N65 ok
  have hb := ok.1
  intro n
  induction n with
  | zero => intro x z; omega
  | succ n ih =>
    intro x g1 g2
    refine pk_le (dt_s L D) (D + 1 + x) (fun z => ?_) (fun z => ?_) h.2.1
    · have e : x = dt_s L D - (D + 1) := by omega
      rw [e]; exact k
    · have hsb := xj_shb (o := o) ok (D + 1 + x)
      have hmb : df_m (fun j => df_sh T (dt_s L D) o (D + 1 + j)) x ≤ 65 := by
        rcases df_mi.mp (Nat.le_refl (df_m (fun j => df_sh T (dt_s L D) o (D + 1 + j)) x)) with y | ⟨i, _, y⟩
        · omega
        · exact Nat.le_trans y (xj_shb ok _)
      have ih' := ih (x + 1) (by omega) (by omega)
      rw [rp_at X.2.2.2.2.2.2.2 z (by omega)]
      refine ⟨vp_in_nI (by omega) (by omega), ?_⟩
      refine pk_le (df_sh T (dt_s L D) o (D + 1 + x)) (df_m (fun j => df_sh T (dt_s L D) o (D + 1 + j)) x) (fun y => ?_) (fun y => ?_)
      · rw [df_mt (f := fun j => df_sh T (dt_s L D) o (D + 1 + j)) y] at ih'
        exact nm_r (nI_1 _) ih'
      · rw [df_mf (f := fun j => df_sh T (dt_s L D) o (D + 1 + j)) (Nat.not_le.mpr y)] at ih'
        exact ⟨vp_in_nI (by omega) (by omega), nm_e (nm_r (nI_1 _) ih')⟩
theorem xj_11 {post : Int32 → SX → Prop} (h : xa_T D L T A Q (f_docs, f_size, f_asked, f_low, f_high, f_foundCount, f_built, a_text, a_starts, a_query, a_order, a_rank, a_second, a_column, a_smaller, a_counted, a_sample, a_shared, a_found)) (ok : dt_ok T D L) (X : xa_X D L T o r (f_docs, f_size, f_asked, f_low, f_high, f_foundCount, f_built, a_text, a_starts, a_query, a_order, a_rank, a_second, a_column, a_smaller, a_counted, a_sample, a_shared, a_found))
    (k : post (nI (cn_s (fun j => lc_l T (dt_s L D) (o j) (o j) - df_sh T (dt_s L D) o j) (dt_s L D))) (f_docs, f_size, f_asked, f_low, f_high, f_foundCount, f_built, a_text, a_starts, a_query, a_order, a_rank, a_second, a_column, a_smaller, a_counted, a_sample, a_shared, a_found)) :
    ∀ n x : Nat, dt_s L D - x < n → x ≤ dt_s L D → wX_different_11 post f_docs f_size f_asked f_low f_high f_foundCount f_built a_text a_starts a_query a_order a_rank a_second a_column a_smaller a_counted a_sample a_shared a_found n (nI (cn_s (fun j => lc_l T (dt_s L D) (o j) (o j) - df_sh T (dt_s L D) o j) x)) (nI x) := by
  have hN := dt_N65 ok
  have hb := ok.1
  intro n
  induction n with
  | zero => intro x z; omega
  | succ n ih =>
    intro x g1 g2
    refine pk_le (dt_s L D) x (fun z => ?_) (fun z => ?_) h.2.1
    · have e : x = dt_s L D := by omega
      rw [e]; exact k
    · have ih' := ih (x + 1) (by omega) (by omega)
      have hox := X.1.1.1 x z
      have hin : vp_in (nI x) 65 := vp_in_nI (by omega) (by omega)
      rw [rp_at X.2.1 z (by omega), rp_at X.2.2.2.2.2.2.2 z (by omega)]
      refine ⟨hin, ?_⟩
      obtain ⟨d, p, hd, hp, e⟩ := dt_loc hox
      have hsl := lc_slf ok hd hp
      have hle := df_shle (T := T) (N := dt_s L D) (o := o) (k := x)
      rw [cn_sS] at ih'
      rw [e, hsl] at hle ih'
      rw [e]
      have hst : a_starts (nI d).toNatClampNeg = nI (dt_s L d) := by rw [nI_clamp (by omega)]; exact h.2.2.2.2.1 d hd
      refine xb_dof h ok hd hp ⟨vp_in_nI (by omega) (by omega), xb_len h ok hd ⟨hin, hin, nm_r (e' := nI (cn_s (fun j => lc_l T (dt_s L D) (o j) (o j) - df_sh T (dt_s L D) o j) x + (L d - p - df_sh T (dt_s L D) o x))) ?_ (nm_r (nI_1 _) ih')⟩⟩
      have e2 : dt_s L d + L d - (dt_s L d + p) = L d - p := by omega
      rw [hst, nI_add, pk_sub (by omega), e2, pk_sub hle, nI_add]
end
theorem i_vc_ranked {k : Nat} {u : SX} {v : SY} (I : i_Rel k u v) (hk : k + 3 ≤ 1536) (v1 : Int32) : wpX_ranked (fun r u' => wpY_ranked (fun r' => r' = r ∧ i_Rel (k + 3) u' v) v v1) u v1 := by
  obtain ⟨f_docs, f_size, f_asked, f_low, f_high, f_foundCount, f_built, a_text, a_starts, a_query, a_order, a_rank, a_second, a_column, a_smaller, a_counted, a_sample, a_shared, a_found⟩ := u
  obtain ⟨f_docs', f_total', f_asked', a_text', a_size', a_pattern'⟩ := v
  obtain ⟨D, A, L, T, Q, ok, hA, hQ, hX, hB, hY⟩ := I
  have hb := ok.1
  have hN := dt_N65 ok
  have hge := dt_ge (L := L) D
  unfold wpX_ranked
  dsimp only
  refine xb_build hX hB ok (fun o r b1 b2 b3 b4 b5 b6 b7 b8 hX' => ?_)
  have rel : i_Rel (k + 3) (f_docs, f_size, f_asked, f_low, f_high, f_foundCount, 1, a_text, a_starts, a_query, b1, b2, b3, b4, b5, b6, b7, b8, a_found) (f_docs', f_total', f_asked', a_text', a_size', a_pattern') := ⟨D, A, L, T, Q, ok, hA, hQ, hX, Or.inr ⟨rfl, o, r, hX'⟩, hY⟩
  have hX2 : xa_T D L T A Q (f_docs, f_size, f_asked, f_low, f_high, f_foundCount, 1, a_text, a_starts, a_query, b1, b2, b3, b4, b5, b6, b7, b8, a_found) := hX
  have hR : ∀ d p, d < D → p < L d → yd_R T (dt_s L D) (dt_s L d + p) (dt_s L D) = r (dt_s L d + p) - D ∧ D ≤ r (dt_s L d + p) ∧ r (dt_s L d + p) < dt_s L D := by
    intro d p hd hp
    have h1 := dt_in (L := L) hd (Nat.le_of_lt hp)
    have h2 := (ok.2.2 d p hd hp).1
    exact ⟨df_rk ok hX'.1 h1 h2, (df_rD ok hX'.1 h1).mpr h2, (hX'.1.2.2.1 _ h1).1⟩
  dsimp only
  refine br_c (fun z => ?_) (fun z => ?_)
  · refine yb_rkd hY ok (fun d p hd hp e => ?_) (fun _ => ⟨rfl, rel⟩)
    have h1 := hR d p hd hp
    rw [← e] at z
    exact absurd z (nI_pos (by rw [h1.1]; omega))
  · obtain ⟨i, hi, rfl⟩ := nI_of z
    refine pk_le (dt_s L D - D) i (fun y => ?_) (fun y => ?_) (by rw [hX.1, hX.2.1, pk_sub hge])
    · refine yb_rkd hY ok (fun d p hd hp e => ?_) (fun _ => ⟨rfl, rel⟩)
      have h1 := hR d p hd hp
      rw [h1.1, nI_eq (by omega) hi] at e
      omega
    · have hDi : D + i < dt_s L D := by omega
      have e1 : f_docs + nI i = nI (D + i) := by rw [hX.1, nI_add]
      rw [e1, rp_at hX'.2.1 hDi (by omega)]
      refine ⟨vp_in_nI (by omega) (by omega), ?_⟩
      have hq := hX'.1.1.1 (D + i) hDi
      have hrq := hX'.1.2.1 (D + i) hDi
      have hsy := (df_rD ok hX'.1 hq).mp (by rw [hrq]; omega)
      obtain ⟨d, p, hd, hp, e⟩ := dt_loc hq
      rw [e] at hrq hsy ⊢
      have hp' := (dt_sym ok hd hp).mp hsy
      refine xb_num hX2 ok hd hp ?_
      refine yb_rkd hY ok (fun d' p' hd' hp2 e' => ?_) (fun hno => ?_)
      · have h1 := hR d' p' hd' hp2
        rw [h1.1, nI_eq (by omega) hi] at e'
        have h2 : r (dt_s L d' + p') = D + i := by omega
        have h3 := (hX'.1.2.2.1 _ (dt_in (L := L) hd' (Nat.le_of_lt hp2))).2
        rw [h2, e] at h3
        obtain ⟨rfl, rfl⟩ := dt_un hp (Nat.le_of_lt hp2) h3
        exact ⟨rfl, rel⟩
      · have h1 := hR d p hd hp'
        exact absurd (by rw [h1.1, hrq]; exact congrArg nI (by omega)) (hno d p hd hp')
theorem i_vc_rankOf {k : Nat} {u : SX} {v : SY} (I : i_Rel k u v) (hk : k + 3 ≤ 1536) (v1 : Int32) : wpX_rankOf (fun r u' => wpY_rankOf (fun r' => r' = r ∧ i_Rel (k + 3) u' v) v v1) u v1 := by
  have I0 := I
  obtain ⟨f_docs, f_size, f_asked, f_low, f_high, f_foundCount, f_built, a_text, a_starts, a_query, a_order, a_rank, a_second, a_column, a_smaller, a_counted, a_sample, a_shared, a_found⟩ := u
  obtain ⟨f_docs', f_total', f_asked', a_text', a_size', a_pattern'⟩ := v
  obtain ⟨D, A, L, T, Q, ok, hA, hQ, hX, hB, hY⟩ := I
  have hb := ok.1
  have hN := dt_N65 ok
  unfold wpX_rankOf
  dsimp only
  refine xb_tp hX ok v1 (fun hno => ?_) (fun d p hd hp e => ?_)
  · refine br_f ga_m1le ?_
    unfold wpY_rankOf
    dsimp only
    exact yb_bp hY ok (fun d p hd hp e => absurd ⟨d, p, hd, hp, e⟩ hno) (fun _ => br_f xs_ne1 ⟨rfl, I0⟩)
  · subst e
    have h60 := dt_L60 ok hd
    have hin := dt_in (L := L) hd (Nat.le_of_lt hp)
    refine br_t (nI_pos' (by omega)) ?_
    refine xb_build hX hB ok (fun o r b1 b2 b3 b4 b5 b6 b7 b8 hX' => ?_)
    have hsy := (ok.2.2 d p hd hp).1
    have hrD := (df_rD ok hX'.1 hin).mpr hsy
    have hrk := df_rk ok hX'.1 hin hsy
    dsimp only
    refine ⟨vp_in_nI (by omega) (by omega), ?_⟩
    rw [rp_at hX'.2.2.1 hin (by omega)]
    unfold wpY_rankOf
    dsimp only
    refine yb_bp hY ok (fun _ _ _ _ _ => br_t rfl ⟨by decide, by decide, ?_⟩) (fun hno => absurd ⟨d, p, hd, hp, rfl⟩ hno)
    have e1 : (64 * d + p) / 64 = d := by omega
    have e2 : (64 * d + p) % 64 = p := by omega
    rw [ga_r64 (by omega), ga_d64 (by omega), e1, e2]
    refine yb_rk hY ok hd (Nat.le_of_lt hp) ⟨?_, D, A, L, T, Q, ok, hA, hQ, hX, Or.inr ⟨rfl, o, r, hX'⟩, hY⟩
    rw [hX.1, pk_sub hrD]
    exact congrArg nI hrk
theorem i_vc_common {k : Nat} {u : SX} {v : SY} (I : i_Rel k u v) (hk : k + 3 ≤ 1536) (v1 : Int32) (v2 : Int32) : wpX_common (fun r u' => wpY_common (fun r' => r' = r ∧ i_Rel (k + 3) u' v) v v1 v2) u v1 v2 := by
  have I0 := I
  obtain ⟨f_docs, f_size, f_asked, f_low, f_high, f_foundCount, f_built, a_text, a_starts, a_query, a_order, a_rank, a_second, a_column, a_smaller, a_counted, a_sample, a_shared, a_found⟩ := u
  obtain ⟨f_docs', f_total', f_asked', a_text', a_size', a_pattern'⟩ := v
  obtain ⟨D, A, L, T, Q, ok, hA, hQ, hX, hB, hY⟩ := I
  have hb := ok.1
  have hN := dt_N65 ok
  unfold wpX_common
  dsimp only
  refine xb_tp hX ok v1 (fun hno => ?_) (fun d p hd hp e => ?_)
  · have hYc : ∀ (post : Int32 → Prop), post (-1) → wpY_common post (f_docs', f_total', f_asked', a_text', a_size', a_pattern') v1 v2 := by
      intro post hp
      unfold wpY_common
      dsimp only
      exact yb_bp hY ok (fun d p hd hp e => absurd ⟨d, p, hd, hp, e⟩ hno) (fun _ => br_f xs_ne1 hp)
    exact xb_tp hX ok v2 (fun _ => br_t ga_m1lt (hYc _ ⟨rfl, I0⟩)) (fun _ _ _ _ _ => br_t ga_m1lt (hYc _ ⟨rfl, I0⟩))
  · subst e
    have h60 := dt_L60 ok hd
    have hin := dt_in (L := L) hd (Nat.le_of_lt hp)
    refine xb_tp hX ok v2 (fun hno => ?_) (fun e q he hq e' => ?_)
    · refine br_f (nI_pos (by omega)) (br_f ga_m1le ?_)
      unfold wpY_common
      dsimp only
      exact yb_bp hY ok (fun _ _ _ _ _ => br_t rfl (yb_bp hY ok (fun d p hd hp e => absurd ⟨d, p, hd, hp, e⟩ hno) (fun _ => br_f xs_ne1 ⟨rfl, I0⟩))) (fun hno => absurd ⟨d, p, hd, hp, rfl⟩ hno)
    · subst e'
      have he60 := dt_L60 ok he
      have hin2 := dt_in (L := L) he (Nat.le_of_lt hq)
      have hYc : ∀ (post : Int32 → Prop), post (nI (lc_l T (dt_s L D) (dt_s L d + p) (dt_s L e + q))) → wpY_common post (f_docs', f_total', f_asked', a_text', a_size', a_pattern') (nI (64 * d + p)) (nI (64 * e + q)) := by
        intro post hpost
        unfold wpY_common
        dsimp only
        refine yb_bp hY ok (fun _ _ _ _ _ => br_t rfl ?_) (fun hno => absurd ⟨d, p, hd, hp, rfl⟩ hno)
        refine yb_bp hY ok (fun _ _ _ _ _ => br_t rfl ⟨by decide, by decide, by decide, by decide, ?_⟩) (fun hno => absurd ⟨e, q, he, hq, rfl⟩ hno)
        have e1 : (64 * d + p) / 64 = d := by omega
        have e2 : (64 * d + p) % 64 = p := by omega
        have e3 : (64 * e + q) / 64 = e := by omega
        have e4 : (64 * e + q) % 64 = q := by omega
        rw [ga_r64 (a := 64 * d + p) (by omega), ga_r64 (a := 64 * e + q) (by omega), ga_d64 (a := 64 * d + p) (by omega), ga_d64 (a := 64 * e + q) (by omega), e1, e2, e3, e4]
        exact yb_shr hY ok hd (Nat.le_of_lt hp) he (Nat.le_of_lt hq) hpost
      refine br_f (nI_pos (by omega)) (br_t (nI_pos' (by omega)) ?_)
      refine pk_eq (dt_s L d + p) (dt_s L e + q) (fun z => ?_) (fun z => ?_)
      · obtain ⟨rfl, rfl⟩ := dt_un (Nat.le_of_lt hp) (Nat.le_of_lt hq) z
        refine xb_dof hX ok hd (Nat.le_of_lt hp) ⟨vp_in_nI (by omega) (by omega), xb_len hX ok hd (hYc _ ⟨?_, I0⟩)⟩
        have hL := dt_lt (L := L) hd
        rw [nI_clamp (by omega), hX.2.2.2.2.1 d hd, nI_add, pk_sub (by omega), lc_slf ok hd (Nat.le_of_lt hp)]
        exact congrArg nI (by omega)
      · refine xb_build hX hB ok (fun o r b1 b2 b3 b4 b5 b6 b7 b8 hX' => ?_)
        have rel : i_Rel (k + 3) (f_docs, f_size, f_asked, f_low, f_high, f_foundCount, 1, a_text, a_starts, a_query, b1, b2, b3, b4, b5, b6, b7, b8, a_found) (f_docs', f_total', f_asked', a_text', a_size', a_pattern') := ⟨D, A, L, T, Q, ok, hA, hQ, hX, Or.inr ⟨rfl, o, r, hX'⟩, hY⟩
        have hra := hX'.1.2.2.1 _ hin
        have hrb := hX'.1.2.2.1 _ hin2
        have va : vp_in (nI (dt_s L d + p)) 65 := vp_in_nI (by omega) (by omega)
        have vb : vp_in (nI (dt_s L e + q)) 65 := vp_in_nI (by omega) (by omega)
        have ka := rp_at hX'.2.2.1 hin (by omega)
        have kb := rp_at hX'.2.2.1 hin2 (by omega)
        have hne : r (dt_s L d + p) ≠ r (dt_s L e + q) := by
          intro y
          apply z
          rw [← hra.2, ← hrb.2, y]
        dsimp only
        rw [ka, kb]
        refine ⟨va, vb, ?_⟩
        refine pk_le (r (dt_s L e + q)) (r (dt_s L d + p)) (fun y => ⟨vb, ?_⟩) (fun y => ⟨va, ?_⟩)
        · unfold wX_common_90
          rw [ka, kb]
          refine ⟨va, vb, ?_⟩
          refine pk_le (r (dt_s L e + q)) (r (dt_s L d + p)) (fun _ => ⟨va, nm_e (nm_e ?_)⟩) (fun w => by omega)
          refine xj_com (i := r (dt_s L e + q)) (j := r (dt_s L d + p)) ok hX' (by omega) hra.1 rfl rfl ?_
          rw [hra.2, hrb.2, lc_sy]
          exact hYc _ ⟨rfl, rel⟩
        · unfold wX_common_90
          rw [ka, kb]
          refine ⟨va, vb, ?_⟩
          refine pk_le (r (dt_s L e + q)) (r (dt_s L d + p)) (fun w => by omega) (fun _ => ⟨vb, nm_e (nm_e ?_)⟩)
          refine xj_com (i := r (dt_s L d + p)) (j := r (dt_s L e + q)) ok hX' (by omega) hrb.1 rfl rfl ?_
          rw [hra.2, hrb.2]
          exact hYc _ ⟨rfl, rel⟩
theorem i_vc_repeated {k : Nat} {u : SX} {v : SY} (I : i_Rel k u v) (hk : k + 3 ≤ 1536) : wpX_repeated (fun r u' => wpY_repeated (fun r' => r' = r ∧ i_Rel (k + 3) u' v) v) u := by
  obtain ⟨f_docs, f_size, f_asked, f_low, f_high, f_foundCount, f_built, a_text, a_starts, a_query, a_order, a_rank, a_second, a_column, a_smaller, a_counted, a_sample, a_shared, a_found⟩ := u
  obtain ⟨f_docs', f_total', f_asked', a_text', a_size', a_pattern'⟩ := v
  obtain ⟨D, A, L, T, Q, ok, hA, hQ, hX, hB, hY⟩ := I
  unfold wpX_repeated
  dsimp only
  refine xb_build hX hB ok (fun o r b1 b2 b3 b4 b5 b6 b7 b8 hX' => ?_)
  have rel : i_Rel (k + 3) (f_docs, f_size, f_asked, f_low, f_high, f_foundCount, 1, a_text, a_starts, a_query, b1, b2, b3, b4, b5, b6, b7, b8, a_found) (f_docs', f_total', f_asked', a_text', a_size', a_pattern') := ⟨D, A, L, T, Q, ok, hA, hQ, hX, Or.inr ⟨rfl, o, r, hX'⟩, hY⟩
  have hX2 : xa_T D L T A Q (f_docs, f_size, f_asked, f_low, f_high, f_foundCount, 1, a_text, a_starts, a_query, b1, b2, b3, b4, b5, b6, b7, b8, a_found) := hX
  refine nm_r (e' := nI (D + 1 + 0)) (by rw [hX.1, nI_1]) ⟨dt_s L D + 1, ?_⟩
  refine xj_13 (post := fun r u' => wpY_repeated (fun r' => r' = r ∧ i_Rel (k + 3) u' (f_docs', f_total', f_asked', a_text', a_size', a_pattern')) (f_docs', f_total', f_asked', a_text', a_size', a_pattern')) hX2 ok hX' ?_ (dt_s L D + 1) 0 (by omega) (by omega)
  refine yb_rep hY ok ⟨?_, rel⟩
  rw [df_rep ok hX'.1]
theorem i_vc_different {k : Nat} {u : SX} {v : SY} (I : i_Rel k u v) (hk : k + 3 ≤ 1536) : wpX_different (fun r u' => wpY_different (fun r' => r' = r ∧ i_Rel (k + 3) u' v) v) u := by
  obtain ⟨f_docs, f_size, f_asked, f_low, f_high, f_foundCount, f_built, a_text, a_starts, a_query, a_order, a_rank, a_second, a_column, a_smaller, a_counted, a_sample, a_shared, a_found⟩ := u
  obtain ⟨f_docs', f_total', f_asked', a_text', a_size', a_pattern'⟩ := v
  obtain ⟨D, A, L, T, Q, ok, hA, hQ, hX, hB, hY⟩ := I
  have hN := dt_N65 ok
  have hge := dt_ge (L := L) D
  unfold wpX_different
  dsimp only
  refine xb_build hX hB ok (fun o r b1 b2 b3 b4 b5 b6 b7 b8 hX' => ?_)
  have rel : i_Rel (k + 3) (f_docs, f_size, f_asked, f_low, f_high, f_foundCount, 1, a_text, a_starts, a_query, b1, b2, b3, b4, b5, b6, b7, b8, a_found) (f_docs', f_total', f_asked', a_text', a_size', a_pattern') := ⟨D, A, L, T, Q, ok, hA, hQ, hX, Or.inr ⟨rfl, o, r, hX'⟩, hY⟩
  have hX2 : xa_T D L T A Q (f_docs, f_size, f_asked, f_low, f_high, f_foundCount, 1, a_text, a_starts, a_query, b1, b2, b3, b4, b5, b6, b7, b8, a_found) := hX
  have e0 : cn_s (fun j => lc_l T (dt_s L D) (o j) (o j) - df_sh T (dt_s L D) o j) D = 0 := by
    refine Eq.trans (cn_scg (g := fun _ => 0) (fun j hj => ?_)) (cn_sz D)
    have hj' : j < dt_s L D := by omega
    have hm : T (o j) < 5 := by
      by_cases y : T (o j) < 5
      · exact y
      · have := (df_rD ok hX'.1 (hX'.1.1.1 j hj')).mpr (by omega)
        rw [hX'.1.2.1 j hj'] at this
        omega
    rw [lc_mk0 hm, Nat.zero_sub]
  have key := xj_11 (post := fun r u' => wpY_different (fun r' => r' = r ∧ i_Rel (k + 3) u' (f_docs', f_total', f_asked', a_text', a_size', a_pattern')) (f_docs', f_total', f_asked', a_text', a_size', a_pattern')) hX2 ok hX' ?_ (dt_s L D + 1) D (by omega) hge
  · rw [e0, ← hX.1] at key
    exact ⟨_, key⟩
  · refine yb_dif hY ok ⟨?_, rel⟩
    rw [df_sum (dt_T10 ok) (Nat.le_trans hN (by omega)) hX'.1]
end
