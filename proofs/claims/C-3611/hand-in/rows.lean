section
theorem pk_us {f : Nat → Int32} {k : Nat} {x : Int32} : upd f k x k = x := if_pos rfl
theorem pk_un {f : Nat → Int32} {k j : Nat} {x : Int32} (h : j ≠ k) : upd f k x j = f j := if_neg h
theorem pk_sub {a b : Nat} (h : b ≤ a) : nI a - nI b = nI (a - b) := by
  obtain ⟨c, rfl⟩ : ∃ c, a = c + b := ⟨a - b, by omega⟩
  rw [← nI_add, Int32.add_sub_cancel, Nat.add_sub_cancel]
theorem pk_m1 (n : Nat) : nI (n + 1) + (-1) = nI n := by
  rw [← nI_1, Int32.add_assoc, show (1 : Int32) + (-1) = 0 from rfl, Int32.add_zero]
theorem pk_mul (a b : Nat) : nI a * nI b = nI (a * b) := (Int32.ofNat_mul a b).symm
theorem pk_div {a d : Nat} (ha : a < 2 ^ 31) (h0 : 0 < d) (hd : d < 2 ^ 31) : nI a / nI d = nI (a / d) := by
  apply Int32.toInt_inj.mp
  rw [lg_idiv_nonneg (by rw [nI_toInt ha]; omega) (by rw [nI_toInt hd]; omega), nI_toInt ha, nI_toInt hd, nI_toInt (Nat.lt_of_le_of_lt (Nat.div_le_self a d) ha)]
  first | rfl | exact (Int.natCast_ediv _ _).symm
theorem pk_rem {a d : Nat} (ha : a < 2 ^ 31) (h0 : 0 < d) (hd : d < 2 ^ 31) : nI a - nI a / nI d * nI d = nI (a % d) := by
  rw [pk_div ha h0 hd, pk_mul, pk_sub (Nat.div_mul_le_self a d)]
  exact congrArg nI (by have := Nat.div_add_mod' a d; omega)
theorem pk_le {x y : Int32} {A B : Prop} (a b : Nat) (f : a ≤ b → A) (g : b < a → B) (hx : x = nI a := by rfl) (hy : y = nI b := by rfl) (ha : a < 2 ^ 31 := by omega) (hb : b < 2 ^ 31 := by omega) : (x ≤ y → A) ∧ (¬ x ≤ y → B) := by
  subst hx hy
  rw [nI_leI ha hb]
  exact ⟨f, fun z => g (by omega)⟩
theorem pk_lt {x y : Int32} {A B : Prop} (a b : Nat) (f : a < b → A) (g : b ≤ a → B) (hx : x = nI a := by rfl) (hy : y = nI b := by rfl) (ha : a < 2 ^ 31 := by omega) (hb : b < 2 ^ 31 := by omega) : (x < y → A) ∧ (¬ x < y → B) := by
  subst hx hy
  rw [nI_ltI ha hb]
  exact ⟨f, fun z => g (by omega)⟩
theorem pk_eq {x y : Int32} {A B : Prop} (a b : Nat) (f : a = b → A) (g : a ≠ b → B) (hx : x = nI a := by rfl) (hy : y = nI b := by rfl) (ha : a < 2 ^ 31 := by omega) (hb : b < 2 ^ 31 := by omega) : (x = y → A) ∧ (¬ x = y → B) := by
  subst hx hy
  rw [nI_eq ha hb]
  exact ⟨f, g⟩
theorem pk_in {x : Int32} (n N : Nat) (h : n < N) (hx : x = nI n := by rfl) (hN : N < 2 ^ 31 := by omega) : vp_in x N := by
  subst hx
  exact vp_in_nI h hN
theorem pk_cl {x : Int32} (n : Nat) (hx : x = nI n := by rfl) (h : n < 2 ^ 31 := by omega) : x.toNatClampNeg = n := by
  subst hx
  exact nI_clamp h
theorem pk_tn {n : Nat} (h : n < 2 ^ 32) : (nI n).toBitVec.toNat = n := Nat.mod_eq_of_lt h
theorem pk_shr (a s : Int32) (k : Nat) (hs : (s.toBitVec.smod 32).toNat = k) : (a >>> s).toInt = a.toInt >>> k := by
  show (a.toBitVec.sshiftRight (s.toBitVec.smod 32).toNat).toInt = _
  rw [hs, BitVec.toInt_sshiftRight]
  rfl
theorem pk_shrN {n : Nat} (h : n < 2 ^ 31) (s : Int32) (k : Nat) (hs : (s.toBitVec.smod 32).toNat = k) : nI n >>> s = nI (n / 2 ^ k) := by
  apply Int32.toInt_inj.mp
  have h2 : n / 2 ^ k ≤ n := Nat.div_le_self _ _
  rw [pk_shr _ _ k hs, nI_toInt h, nI_toInt (by omega), Int.shiftRight_eq_div_pow]
  rfl
theorem pk_vb (z : Int32) : vp_nar .byte z.toInt8.toInt32 = z.toInt8.toInt32 := by rw [vp_nar_byte]; simp
theorem pk_vs (z : Int32) : vp_nar .short z.toInt16.toInt32 = z.toInt16.toInt32 := by rw [vp_nar_short]; simp
theorem pk_ix (x : Int32) {n : Nat} (hn : n < 2 ^ 31) : x < 0 ∨ nI n ≤ x ∨ ∃ j : Nat, j < n ∧ x = nI j := by
  by_cases h : x < 0
  · exact Or.inl h
  · obtain ⟨j, hj, rfl⟩ := nI_of h
    by_cases h2 : j < n
    · exact Or.inr (Or.inr ⟨j, h2, rfl⟩)
    · exact Or.inr (Or.inl (nI_le (by omega) hj))
theorem s_l : ∀ n, n < 32 → ((nI n &&& 31).toBitVec.smod 32).toNat = n := by decide +kernel
theorem nx_and (a b : Nat) : nI a &&& nI b = nI (a &&& b) := by
  apply Int32.toBitVec_inj.1
  show BitVec.ofNat 32 a &&& BitVec.ofNat 32 b = BitVec.ofNat 32 (a &&& b)
  apply BitVec.eq_of_getLsbD_eq
  intro i hi
  simp [hi]
theorem nx_xor (a b : Nat) : nI a ^^^ nI b = nI (a ^^^ b) := by
  apply Int32.toBitVec_inj.1
  show BitVec.ofNat 32 a ^^^ BitVec.ofNat 32 b = BitVec.ofNat 32 (a ^^^ b)
  apply BitVec.eq_of_getLsbD_eq
  intro i hi
  simp [hi]
end
section
/-- a proposition as a Bool -/
noncomputable def tb_p (p : Prop) : Bool := @decide p (Classical.propDecidable p)
theorem tb_iff {p : Prop} : tb_p p = true ↔ p := by unfold tb_p; exact @decide_eq_true_iff p (Classical.propDecidable p)
theorem tb_t {p : Prop} (h : p) : tb_p p = true := tb_iff.mpr h
theorem tb_f {p : Prop} (h : ¬ p) : tb_p p = false := by
  cases e : tb_p p
  · rfl
  · exact absurd (tb_iff.mp e) h
theorem tb_c {p q : Prop} (h : p ↔ q) : tb_p p = tb_p q := by rw [propext h]
/-- how many below n have p -/
def ca_n (p : Nat → Bool) : Nat → Nat
  | 0 => 0
  | n + 1 => ca_n p n + (p n).toNat
theorem ca_s (p : Nat → Bool) (n : Nat) : ca_n p (n + 1) = ca_n p n + (p n).toNat := rfl
theorem ca_ext {p q : Nat → Bool} {n : Nat} (h : ∀ i, i < n → p i = q i) : ca_n p n = ca_n q n := by
  induction n with
  | zero => rfl
  | succ n ih => rw [ca_s, ca_s, ih (fun i hi => h i (by omega)), h n (by omega)]
theorem ca_mono {p q : Nat → Bool} {n : Nat} (h : ∀ i, i < n → p i = true → q i = true) : ca_n p n ≤ ca_n q n := by
  induction n with
  | zero => exact Nat.le_refl _
  | succ n ih =>
    have h1 := ih (fun i hi => h i (by omega))
    have h2 : (p n).toNat ≤ (q n).toNat := by
      cases e : p n
      · exact Nat.zero_le _
      · rw [h n (by omega) e]; exact Nat.le_refl _
    rw [ca_s, ca_s]
    omega
theorem ca_le (p : Nat → Bool) (n : Nat) : ca_n p n ≤ n := by
  induction n with
  | zero => exact Nat.le_refl _
  | succ n ih =>
    have h2 : (p n).toNat ≤ 1 := Bool.toNat_le _
    rw [ca_s]
    omega
theorem ca_zero {p : Nat → Bool} {n : Nat} (h : ∀ i, i < n → p i = false) : ca_n p n = 0 := by
  induction n with
  | zero => rfl
  | succ n ih => rw [ca_s, ih (fun i hi => h i (by omega)), h n (by omega)]; rfl
theorem ca_split (p q : Nat → Bool) (n : Nat) : ca_n p n = ca_n (fun i => p i && q i) n + ca_n (fun i => p i && !q i) n := by
  induction n with
  | zero => rfl
  | succ n ih =>
    have h : (p n).toNat = (p n && q n).toNat + (p n && !q n).toNat := by cases p n <;> cases q n <;> rfl
    rw [ca_s, ca_s, ca_s]
    omega
theorem ca_or (p q : Nat → Bool) (n : Nat) : ca_n (fun i => p i || q i) n + ca_n (fun i => p i && q i) n = ca_n p n + ca_n q n := by
  induction n with
  | zero => rfl
  | succ n ih =>
    have h : (p n || q n).toNat + (p n && q n).toNat = (p n).toNat + (q n).toNat := by cases p n <;> cases q n <;> rfl
    rw [ca_s, ca_s, ca_s, ca_s]
    omega
theorem ca_orle (p q : Nat → Bool) (n : Nat) : ca_n (fun i => p i || q i) n ≤ ca_n p n + ca_n q n := by
  have := ca_or p q n
  omega
theorem ca_put {p : Nat → Bool} {j : Nat} {b : Bool} {n : Nat} (h : j < n) : ca_n (fun i => if i = j then b else p i) n + (p j).toNat = ca_n p n + b.toNat := by
  induction n with
  | zero => exact absurd h (Nat.not_lt_zero j)
  | succ n ih =>
    rw [ca_s, ca_s]
    by_cases e : j = n
    · subst e
      rw [if_pos rfl, ca_ext (q := p) (fun i hi => if_neg (by omega))]
      omega
    · rw [if_neg (Ne.symm e)]
      have := ih (by omega)
      omega
theorem ca_inj {p q : Nat → Bool} {n m : Nat} (f : Nat → Nat) (h : ∀ i, i < n → p i = true → f i < m ∧ q (f i) = true) (inj : ∀ i j, i < n → j < n → p i = true → p j = true → f i = f j → i = j) : ca_n p n ≤ ca_n q m := by
  have t1 : true.toNat = 1 := rfl
  have t0 : false.toNat = 0 := rfl
  induction n generalizing q with
  | zero => exact Nat.zero_le _
  | succ n ih =>
    rw [ca_s]
    cases e : p n
    · have := ih (q := q) (fun i hi => h i (by omega)) (fun i j hi hj => inj i j (by omega) (by omega))
      omega
    · have ⟨h1, h2⟩ := h n (by omega) e
      have k := ca_put (p := q) (b := false) h1
      rw [h2] at k
      have s := ih (q := fun i => if i = f n then false else q i) (fun i hi hp => ⟨(h i (by omega) hp).1, by
        have ne : f i ≠ f n := fun z => by have := inj i n (by omega) (by omega) hp e z; omega
        show (if f i = f n then false else q (f i)) = true
        rw [if_neg ne]; exact (h i (by omega) hp).2⟩) (fun i j hi hj => inj i j (by omega) (by omega))
      omega
theorem ca_pos {p : Nat → Bool} {n i : Nat} (hi : i < n) (h : p i = true) : 1 ≤ ca_n p n := by
  have t1 : true.toNat = 1 := rfl
  have t0 : false.toNat = 0 := rfl
  have k := ca_put (p := p) (b := false) hi
  rw [h] at k
  omega
/-- the reverse order counts the same -/
theorem ca_rev (p : Nat → Bool) (n : Nat) : ca_n (fun i => p (n - 1 - i)) n = ca_n p n := by
  refine Nat.le_antisymm (ca_inj (fun i => n - 1 - i) (fun i hi hp => ⟨by omega, hp⟩) (fun i j hi hj _ _ e => by omega)) (ca_inj (fun i => n - 1 - i) (fun i hi hp => ⟨by omega, ?_⟩) (fun i j hi hj _ _ e => by omega))
  show p (n - 1 - (n - 1 - i)) = true
  rw [show n - 1 - (n - 1 - i) = i by omega]
  exact hp
/-! sets of vertices as masks below 256 -/
def ms_c (m : Nat) : Nat := ca_n (fun i => m.testBit i) 8
def ms_d (a b : Nat) : Nat := a &&& (b ^^^ 4294967295)
theorem ms_hi {a i : Nat} (h : a < 256) (hi : 8 ≤ i) : a.testBit i = false := Nat.testBit_lt_two_pow (Nat.lt_of_lt_of_le h (Nat.pow_le_pow_right (n := 2) (by decide) hi : 2 ^ 8 ≤ 2 ^ i))
theorem ms_lo {a i : Nat} (h : a < 256) (hi : a.testBit i = true) : i < 8 := by
  rcases Nat.lt_or_ge i 8 with l | l
  · exact l
  · rw [ms_hi h l] at hi; exact absurd hi (by decide)
theorem ms_ext {a b : Nat} (ha : a < 256) (hb : b < 256) (h : ∀ i, i < 8 → a.testBit i = b.testBit i) : a = b := by
  apply Nat.eq_of_testBit_eq
  intro i
  rcases Nat.lt_or_ge i 8 with l | l
  · exact h i l
  · rw [ms_hi ha l, ms_hi hb l]
theorem ms_bd {a : Nat} (b i : Nat) (h : a < 256) : (ms_d a b).testBit i = (a.testBit i && !b.testBit i) := by
  unfold ms_d
  rw [Nat.testBit_and, Nat.testBit_xor]
  rcases Nat.lt_or_ge i 8 with l | l
  · rw [show (4294967295 : Nat) = 2 ^ 32 - 1 from rfl, Nat.testBit_two_pow_sub_one, decide_eq_true (by omega), Bool.xor_true]
  · rw [ms_hi h l, Bool.false_and, Bool.false_and]
theorem ms_dlt {a : Nat} (b : Nat) (h : a < 256) : ms_d a b < 256 := Nat.lt_of_le_of_lt Nat.and_le_left h
theorem ms_alt {a : Nat} (b : Nat) (h : a < 256) : a &&& b < 256 := Nat.lt_of_le_of_lt Nat.and_le_left h
theorem ms_olt {a b : Nat} (h : a < 256) (h2 : b < 256) : a ||| b < 256 := Nat.or_lt_two_pow (n := 8) h h2
theorem ms_plt {v : Nat} (h : v < 8) : 2 ^ v < 256 := Nat.pow_lt_pow_right (by decide) h
theorem ms_bp (v i : Nat) : (2 ^ v).testBit i = decide (v = i) := Nat.testBit_two_pow
theorem ms_255 {i : Nat} (h : i < 8) : Nat.testBit 255 i = true := by
  rw [show (255 : Nat) = 2 ^ 8 - 1 from rfl, Nat.testBit_two_pow_sub_one]
  exact decide_eq_true h
theorem ms_z {a : Nat} (h : a < 256) : a = 0 ↔ ∀ i, i < 8 → a.testBit i = false := by
  constructor
  · intro e i _
    rw [e, Nat.zero_testBit]
  · intro k
    exact ms_ext h (by decide) (fun i hi => by rw [k i hi, Nat.zero_testBit])
/-- the mask of a predicate -/
def ms_of (p : Nat → Bool) : Nat → Nat
  | 0 => 0
  | n + 1 => ms_of p n ||| (if p n = true then 2 ^ n else 0)
theorem ms_obit (p : Nat → Bool) (n i : Nat) : (ms_of p n).testBit i = (decide (i < n) && p i) := by
  induction n with
  | zero => rw [decide_eq_false (Nat.not_lt_zero i)]; exact Nat.zero_testBit i
  | succ n ih =>
    show (ms_of p n ||| (if p n = true then 2 ^ n else 0)).testBit i = _
    rw [Nat.testBit_or, ih]
    by_cases e : p n = true
    · rw [if_pos e, ms_bp]
      by_cases l : n = i
      · subst l
        rw [decide_eq_false (Nat.lt_irrefl n), decide_eq_true rfl, decide_eq_true (Nat.lt_succ_self n), e]
        rfl
      · rw [decide_eq_false l, Bool.or_false]
        congr 1
        exact decide_eq_decide.mpr ⟨fun z => by omega, fun z => by omega⟩
    · rw [if_neg e, Nat.zero_testBit, Bool.or_false]
      by_cases l : n = i
      · subst l
        rw [Bool.eq_false_iff.mpr e, Bool.and_false, Bool.and_false]
      · congr 1
        exact decide_eq_decide.mpr ⟨fun z => by omega, fun z => by omega⟩
theorem ms_olt2 (p : Nat → Bool) (n : Nat) : ms_of p n < 2 ^ n := by
  apply Nat.lt_pow_two_of_testBit
  intro i hi
  rw [ms_obit, decide_eq_false (by omega), Bool.false_and]
theorem ms_ob8 (p : Nat → Bool) {i : Nat} (h : i < 8) : (ms_of p 8).testBit i = p i := by
  rw [ms_obit, decide_eq_true h, Bool.true_and]
/-! counts of masks -/
theorem ms_c8 (m : Nat) : ms_c m ≤ 8 := ca_le _ _
theorem ms_c0 : ms_c 0 = 0 := ca_zero (fun i _ => Nat.zero_testBit i)
theorem ms_cle {a b : Nat} (h : ∀ i, i < 8 → a.testBit i = true → b.testBit i = true) : ms_c a ≤ ms_c b := ca_mono h
theorem ms_cor (a b : Nat) : ms_c (a ||| b) ≤ ms_c a + ms_c b := by
  have h := ca_orle (fun i => a.testBit i) (fun i => b.testBit i) 8
  rw [ca_ext (p := fun i => a.testBit i || b.testBit i) (q := fun i => (a ||| b).testBit i) (fun i _ => (Nat.testBit_or a b i).symm)] at h
  exact h
theorem ms_c1 {v : Nat} (h : v < 8) : ms_c (2 ^ v) = 1 := by
  have k := ca_put (p := fun _ => false) (b := true) h
  rw [ca_zero (p := fun _ => false) (fun _ _ => rfl)] at k
  unfold ms_c
  rw [ca_ext (q := fun i => if i = v then true else false)]
  · have t1 : true.toNat = 1 := rfl
    have t0 : false.toNat = 0 := rfl
    omega
  · intro i _
    rw [ms_bp]
    by_cases e : i = v
    · rw [if_pos e, decide_eq_true e.symm]
    · rw [if_neg e, decide_eq_false (Ne.symm e)]
theorem ms_csub {a b : Nat} (ha : a < 256) (h : ∀ i, i < 8 → b.testBit i = true → a.testBit i = true) : ms_c (ms_d a b) + ms_c b = ms_c a := by
  have k := ca_split (fun i => a.testBit i) (fun i => b.testBit i) 8
  rw [ca_ext (p := fun i => a.testBit i && b.testBit i) (q := fun i => b.testBit i), ca_ext (p := fun i => a.testBit i && !b.testBit i) (q := fun i => (ms_d a b).testBit i)] at k
  · unfold ms_c
    omega
  · intro i _
    exact (ms_bd b i ha).symm
  · intro i hi
    show (a.testBit i && b.testBit i) = b.testBit i
    cases e : b.testBit i
    · exact Bool.and_false _
    · rw [h i hi e]; rfl
theorem ms_cdis {a b : Nat} (h : ∀ i, i < 8 → a.testBit i = true → b.testBit i = false) : ms_c (a ||| b) = ms_c a + ms_c b := by
  have k := ca_or (fun i => a.testBit i) (fun i => b.testBit i) 8
  rw [ca_ext (p := fun i => a.testBit i || b.testBit i) (q := fun i => (a ||| b).testBit i) (fun i _ => (Nat.testBit_or a b i).symm), ca_zero (p := fun i => a.testBit i && b.testBit i)] at k
  · exact k
  · intro i hi
    show (a.testBit i && b.testBit i) = false
    cases e : a.testBit i
    · rfl
    · rw [h i hi e]; rfl
theorem ms_cdel {a v : Nat} (ha : a < 256) (hv : v < 8) (h : a.testBit v = true) : ms_c (ms_d a (2 ^ v)) + 1 = ms_c a := by
  have k := ms_csub (b := 2 ^ v) ha (fun i _ z => by
    rw [ms_bp] at z
    rw [← of_decide_eq_true z]
    exact h)
  rw [ms_c1 hv] at k
  exact k
theorem ms_cpos {a v : Nat} (hv : v < 8) (h : a.testBit v = true) : 1 ≤ ms_c a := ca_pos hv h
theorem ms_cz {a : Nat} (h : ms_c a = 0) {i : Nat} (hi : i < 8) : a.testBit i = false := by
  cases e : a.testBit i
  · rfl
  · have := ms_cpos hi e
    omega
/-- the least f of those below n that have P, else 100 -/
def mi_n (P : Nat → Bool) (f : Nat → Nat) : Nat → Nat
  | 0 => 100
  | n + 1 => if P n = true then min (mi_n P f n) (f n) else mi_n P f n
theorem mi_s (P : Nat → Bool) (f : Nat → Nat) (n : Nat) : mi_n P f (n + 1) = if P n = true then min (mi_n P f n) (f n) else mi_n P f n := rfl
theorem mi_100 (P : Nat → Bool) (f : Nat → Nat) (n : Nat) : mi_n P f n ≤ 100 := by
  induction n with
  | zero => exact Nat.le_refl _
  | succ n ih =>
    rw [mi_s]
    split
    · omega
    · exact ih
theorem mi_le {P : Nat → Bool} {f : Nat → Nat} {n i : Nat} (hi : i < n) (h : P i = true) : mi_n P f n ≤ f i := by
  induction n with
  | zero => exact absurd hi (Nat.not_lt_zero i)
  | succ n ih =>
    rw [mi_s]
    by_cases e : i = n
    · subst e
      rw [if_pos h]
      omega
    · have := ih (by omega)
      split
      · omega
      · exact this
theorem mi_ex (P : Nat → Bool) (f : Nat → Nat) (n : Nat) : mi_n P f n = 100 ∨ ∃ i, i < n ∧ P i = true ∧ f i = mi_n P f n := by
  induction n with
  | zero => exact Or.inl rfl
  | succ n ih =>
    rw [mi_s]
    by_cases e : P n = true
    · rw [if_pos e]
      by_cases l : mi_n P f n ≤ f n
      · rw [Nat.min_eq_left l]
        rcases ih with z | ⟨i, a, b, c⟩
        · exact Or.inl z
        · exact Or.inr ⟨i, by omega, b, c⟩
      · rw [Nat.min_eq_right (by omega)]
        exact Or.inr ⟨n, by omega, e, rfl⟩
    · rw [if_neg e]
      rcases ih with z | ⟨i, a, b, c⟩
      · exact Or.inl z
      · exact Or.inr ⟨i, by omega, b, c⟩
theorem mi_eq {P : Nat → Bool} {f : Nat → Nat} {n r : Nat} (hr : r < 100) (h1 : ∃ i, i < n ∧ P i = true ∧ f i ≤ r) (h2 : ∀ i, i < n → P i = true → r ≤ f i) : mi_n P f n = r := by
  obtain ⟨i, a, b, c⟩ := h1
  have k := mi_le (f := f) a b
  rcases mi_ex P f n with z | ⟨j, a', b', c'⟩
  · omega
  · have := h2 j a' b'
    omega
theorem mi_no {P : Nat → Bool} {f : Nat → Nat} {n : Nat} (h : ∀ i, i < n → P i = false) : mi_n P f n = 100 := by
  rcases mi_ex P f n with z | ⟨j, a', b', c'⟩
  · exact z
  · rw [h j a'] at b'
    exact absurd b' (by decide)
/-- a least value as an answer: -1 for none -/
def mi_v (n : Nat) : Int32 := if n = 100 then -1 else nI n
end
section
/-! the ints of masks -/
theorem xb_or (a b : Nat) : nI a ||| nI b = nI (a ||| b) := by
  apply Int32.toBitVec_inj.1
  show BitVec.ofNat 32 a ||| BitVec.ofNat 32 b = BitVec.ofNat 32 (a ||| b)
  apply BitVec.eq_of_getLsbD_eq
  intro i hi
  simp [hi]
theorem xb_m1 : (-1 : Int32) = nI 4294967295 := by decide +kernel
theorem xb_not (a b : Nat) : nI a &&& (nI b ^^^ (-1)) = nI (ms_d a b) := by
  rw [xb_m1, nx_xor, nx_and]
  rfl
theorem xb_shl : ∀ v, v < 8 → (1 : Int32) <<< (nI v &&& 31) = nI (2 ^ v) := by decide +kernel
theorem xb_bit {a v : Nat} (ha : a < 2 ^ 31) (hv : v < 32) : ((nI a >>> (nI v &&& 31)) &&& 1) = nI (a.testBit v).toNat := by
  rw [pk_shrN ha _ v (s_l v hv)]
  show nI (a / 2 ^ v) &&& nI 1 = _
  rw [nx_and, Nat.and_one_is_mod, Nat.toNat_testBit]
theorem xb_s0 : ∀ m, m < 256 → (nI m).toInt16.toInt32 = nI m := by decide +kernel
theorem xb_b0 : ∀ m, m < 128 → (nI m).toInt8.toInt32 = nI m := by decide +kernel
theorem xb_sh {m : Nat} (h : m < 256) : vp_nar .short (nI m).toInt16.toInt32 = nI m := by rw [pk_vs, xb_s0 m h]
theorem xb_by {m : Nat} (h : m < 128) : vp_nar .byte (nI m).toInt8.toInt32 = nI m := by rw [pk_vb, xb_b0 m h]
theorem xb_by1 {m : Nat} (h : m < 128) : vp_nar .byte (nI m) = nI m := by rw [vp_nar_byte, xb_b0 m h]
theorem xb_bym : vp_nar .byte (-1) = -1 := by rw [vp_nar_byte]; decide
theorem xb_by0 : vp_nar .byte 0 = 0 := by rw [vp_nar_byte]; decide
theorem x8_le : (8 : Int32) ≤ nI 8 := nI_le (a := 8) (b := 8) (by decide) (by decide)
theorem x8_nle {i : Nat} (h : i < 8) : ¬ (8 : Int32) ≤ nI i := nI_ge (b := 8) h (by decide)
theorem x8_in {i : Nat} (h : i < 8) : vp_in (nI i) 8 := vp_in_nI h (by decide)
theorem xb_mv {n : Nat} (h : n < 100) : mi_v n = nI n := if_neg (by omega)
/-! the graph -/
def gr_ok (g : Nat → Nat) : Prop := (∀ v, v < 8 → g v < 256) ∧ (∀ v w, v < 8 → w < 8 → (g v).testBit w = (g w).testBit v) ∧ (∀ v, v < 8 → (g v).testBit v = false)
def gr_at (aj : Nat → Int32) (g : Nat → Nat) : Prop := ∀ j, j < 8 → aj j = nI (g j)
theorem gr_get {aj : Nat → Int32} {g : Nat → Nat} (ha : gr_at aj g) {i : Nat} (h : i < 8) : aj (nI i).toNatClampNeg = nI (g i) := by
  rw [nI_clamp (by omega)]
  exact ha i h
def gr_cov (g : Nat → Nat) (S : Nat) : Prop := ∀ v, v < 8 → S.testBit v = true ∨ ms_d (g v) S = 0
theorem gr_cov_iff {g : Nat → Nat} (hg : gr_ok g) (S : Nat) : gr_cov g S ↔ ∀ v w, v < 8 → w < 8 → (g v).testBit w = true → S.testBit v = true ∨ S.testBit w = true := by
  constructor
  · intro h v w hv hw e
    rcases h v hv with k | k
    · exact Or.inl k
    · have z := (ms_z (ms_dlt S (hg.1 v hv))).mp k w hw
      rw [ms_bd _ _ (hg.1 v hv), e, Bool.true_and] at z
      exact Or.inr (by simpa using z)
  · intro h v hv
    cases e : S.testBit v
    · refine Or.inr ((ms_z (ms_dlt S (hg.1 v hv))).mpr ?_)
      intro w hw
      rw [ms_bd _ _ (hg.1 v hv)]
      cases k : (g v).testBit w
      · rfl
      · rcases h v w hv hw k with z | z
        · rw [e] at z; exact absurd z (by decide)
        · rw [z]; rfl
    · exact Or.inl rfl
/-! small walks -/
theorem xw_in {post : Int32 → Prop} {a v : Nat} (ha : a < 256) (hv : v < 8) (h0 : a.testBit v = false → post 0) (h1 : a.testBit v = true → post 1) : wpX_in post (nI a) (nI v) := by
  unfold wpX_in
  rw [xb_bit (by omega) (by omega)]
  cases e : a.testBit v
  · exact br_t (by decide) (h0 e)
  · exact br_f (by decide) (h1 e)
theorem xw_isV {post : Int32 → Prop} (x : Int32) (h0 : (¬ ∃ j, j < 8 ∧ x = nI j) → post 0) (h1 : ∀ j, j < 8 → x = nI j → post 1) : wpX_isVertex post x := by
  unfold wpX_isVertex
  rcases pk_ix x (n := 8) (by decide) with h | h | ⟨j, hj, e⟩
  · refine br_t h (h0 ?_)
    rintro ⟨j, hj, rfl⟩
    exact nI_pos (by omega) h
  · have k : ¬ ∃ j, j < 8 ∧ x = nI j := by
      rintro ⟨j, hj, rfl⟩
      exact x8_nle hj h
    by_cases z : x < 0
    · exact br_t z (h0 k)
    · exact br_f z (br_t h (h0 k))
  · subst e
    exact br_f (nI_pos (by omega)) (br_f (x8_nle hj) (h1 j hj rfl))
theorem yw_V {post : Int32 → Prop} {n t h : Nat → Int32} (x : Int32) (h0 : (¬ ∃ j, j < 8 ∧ x = nI j) → post 0) (h1 : ∀ j, j < 8 → x = nI j → post 1) : wpY_vertex post (n, t, h) x := by
  unfold wpY_vertex
  rcases pk_ix x (n := 8) (by decide) with h | h | ⟨j, hj, e⟩
  · refine br_t h (h0 ?_)
    rintro ⟨j, hj, rfl⟩
    exact nI_pos (by omega) h
  · have k : ¬ ∃ j, j < 8 ∧ x = nI j := by
      rintro ⟨j, hj, rfl⟩
      exact x8_nle hj h
    by_cases z : x < 0
    · exact br_t z (h0 k)
    · obtain ⟨j, hj, rfl⟩ := nI_of z
      refine br_f z (br_t ?_ (h0 k))
      exact nI_lt (a := 7) (Nat.lt_of_not_le (fun l => k ⟨j, by omega, rfl⟩)) hj
  · subst e
    exact br_f (nI_pos (by omega)) (br_f (nI_nlt (a := 7) (by omega) (by omega)) (h1 j hj rfl))
theorem xw_ones4 {post : Int32 → Prop} {m : Nat} (hm : m < 256) (h : post (nI (ms_c m))) : ∀ d i, i + d = 8 → wX_ones_4 post (nI m) (d + 1) (nI (ca_n (fun i => m.testBit i) i)) (nI i) := by
  intro d
  induction d with
  | zero =>
    intro i hi
    have e : i = 8 := by omega
    subst e
    exact br_t x8_le h
  | succ d ih =>
    intro i hi
    refine br_f (x8_nle (by omega)) (nm_r (e' := nI (ca_n (fun i => m.testBit i) (i + 1))) ?_ (nm_r (nI_1 i) (ih (i + 1) (by omega))))
    rw [xb_bit (by omega) (by omega), nI_add]
    rfl
theorem xw_ones {post : Int32 → Prop} {m : Nat} (hm : m < 256) (h : post (nI (ms_c m))) : wpX_ones post (nI m) := ⟨9, xw_ones4 hm h 8 0 rfl⟩
theorem yw_count4 {post : Int32 → Prop} {a b c : Nat → Int32} {m : Nat} (hm : m < 256) (h : post (nI (ms_c m))) : ∀ d i, i + d = 8 → wY_count_4 post (nI m) a b c (d + 1) (nI (ca_n (fun i => m.testBit i) i)) (nI i) := by
  intro d
  induction d with
  | zero =>
    intro i hi
    have e : i = 8 := by omega
    subst e
    exact br_t x8_le h
  | succ d ih =>
    intro i hi
    refine br_f (x8_nle (by omega)) (nm_r (e' := nI (ca_n (fun i => m.testBit i) (i + 1))) ?_ (nm_r (nI_1 i) (ih (i + 1) (by omega))))
    rw [xb_bit (by omega) (by omega), nI_add]
    rfl
theorem yw_count {post : Int32 → Prop} {a b c : Nat → Int32} {m : Nat} (hm : m < 256) (h : post (nI (ms_c m))) : wpY_count post (a, b, c) (nI m) := ⟨9, yw_count4 hm h 8 0 rfl⟩
section
variable {fb : Int32} {aj lo tk pa cf li pr ch op ps : Nat → Int32} {g : Nat → Nat}
theorem xw_isCover2 (hg : gr_ok g) (ha : gr_at aj g) {post : Int32 → Prop} {S : Nat} (hS : S < 256) (h1 : gr_cov g S → post 1) (h0 : ¬ gr_cov g S → post 0) : ∀ d i, i + d = 8 → (∀ v, v < i → S.testBit v = true ∨ ms_d (g v) S = 0) → wX_isCover_2 post (nI S) fb aj lo tk pa cf li pr ch op ps (d + 1) (nI i) := by
  intro d
  induction d with
  | zero =>
    intro i hi k
    have e : i = 8 := by omega
    subst e
    exact br_t x8_le (h1 k)
  | succ d ih =>
    intro i hi k
    refine br_f (x8_nle (by omega)) (xw_in hS (by omega) (fun e => br_t rfl ⟨x8_in (by omega), ?_⟩) (fun e => br_f (by decide) (nm_r (nI_1 i) (ih (i + 1) (by omega) (lt_s k (Or.inl e))))))
    rw [gr_get ha (by omega), xb_not]
    have l := ms_dlt S (hg.1 i (by omega))
    refine pk_eq (ms_d (g i) S) 0 (fun z => nm_r (nI_1 i) (ih (i + 1) (by omega) (lt_s k (Or.inr z)))) (fun z => h0 (fun c => ?_))
    rcases c i (by omega) with y | y
    · rw [e] at y; exact absurd y (by decide)
    · exact z y
theorem xw_isCover (hg : gr_ok g) (ha : gr_at aj g) {post : Int32 → Prop} {S : Nat} (hS : S < 256) (h1 : gr_cov g S → post 1) (h0 : ¬ gr_cov g S → post 0) : wpX_isCover post (fb, aj, lo, tk, pa, cf, li, pr, ch, op, ps) (nI S) := ⟨9, xw_isCover2 hg ha hS h1 h0 8 0 rfl lt_0⟩
/-- all neighbours of a set -/
def gr_N (g : Nat → Nat) (o : Nat) : Nat → Nat
  | 0 => 0
  | n + 1 => gr_N g o n ||| (if o.testBit n = true then g n else 0)
theorem gr_Nlt (hg : gr_ok g) (o : Nat) : ∀ n, n ≤ 8 → gr_N g o n < 256 := by
  intro n
  induction n with
  | zero => intro _; exact (by decide : 0 < 256)
  | succ n ih =>
    intro h
    refine ms_olt (ih (by omega)) ?_
    split
    · exact hg.1 n (by omega)
    · decide
theorem gr_Nbit (o w : Nat) : ∀ n, (gr_N g o n).testBit w = true ↔ ∃ v, v < n ∧ o.testBit v = true ∧ (g v).testBit w = true := by
  intro n
  induction n with
  | zero =>
    constructor
    · intro h
      exact absurd h (by rw [show gr_N g o 0 = 0 from rfl, Nat.zero_testBit]; decide)
    · rintro ⟨v, hv, _⟩
      exact absurd hv (Nat.not_lt_zero v)
  | succ n ih =>
    show (gr_N g o n ||| (if o.testBit n = true then g n else 0)).testBit w = true ↔ _
    rw [Nat.testBit_or, Bool.or_eq_true, ih]
    constructor
    · rintro (⟨v, a, b, c⟩ | h)
      · exact ⟨v, by omega, b, c⟩
      · by_cases e : o.testBit n = true
        · rw [if_pos e] at h
          exact ⟨n, by omega, e, h⟩
        · rw [if_neg e, Nat.zero_testBit] at h
          exact absurd h (by decide)
    · rintro ⟨v, a, b, c⟩
      by_cases e : v = n
      · subst e
        rw [if_pos b]
        exact Or.inr c
      · exact Or.inl ⟨v, by omega, b, c⟩
theorem xw_allN4 (ha : gr_at aj g) {post : Int32 → Prop} {o : Nat} (ho : o < 256) (h : post (nI (gr_N g o 8))) : ∀ d i, i + d = 8 → wX_allNeighbours_4 post (nI o) fb aj lo tk pa cf li pr ch op ps (d + 1) (nI (gr_N g o i)) (nI i) := by
  intro d
  induction d with
  | zero =>
    intro i hi
    have e : i = 8 := by omega
    subst e
    exact br_t x8_le h
  | succ d ih =>
    intro i hi
    refine br_f (x8_nle (by omega)) (xw_in ho (by omega) (fun e => br_t rfl (nm_r (e' := nI (gr_N g o (i + 1))) ?_ (nm_r (nI_1 i) (ih (i + 1) (by omega))))) (fun e => br_f (by decide) ⟨x8_in (by omega), nm_r (e' := nI (gr_N g o (i + 1))) ?_ (nm_r (nI_1 i) (ih (i + 1) (by omega)))⟩))
    · show nI (gr_N g o i) ||| nI 0 = nI (gr_N g o i ||| (if o.testBit i = true then g i else 0))
      rw [e, xb_or]
      rfl
    · show nI (gr_N g o i) ||| _ = nI (gr_N g o i ||| (if o.testBit i = true then g i else 0))
      rw [gr_get ha (by omega), xb_or, e]
      rfl
theorem xw_allN (ha : gr_at aj g) {post : Int32 → Prop} {o : Nat} (ho : o < 256) (h : post (nI (gr_N g o 8))) : wpX_allNeighbours post (fb, aj, lo, tk, pa, cf, li, pr, ch, op, ps) (nI o) := ⟨9, xw_allN4 ha ho h 8 0 rfl⟩
theorem xw_push {post : SX → Prop} {n l t : Nat} (hn : n < 64) (hl : l < 256) (ht : t < 128) (h : post (nI (n + 1), aj, upd lo n (nI l), upd tk n (nI t), pa, cf, li, pr, ch, op, ps)) : wpX_push post (nI n, aj, lo, tk, pa, cf, li, pr, ch, op, ps) (nI l) (nI t) := by
  refine ⟨vp_in_nI hn (by decide), nm_r (e' := upd lo n (nI l)) ?_ ⟨vp_in_nI hn (by decide), nm_r (e' := upd tk n (nI t)) ?_ (nm_r (nI_1 n) h)⟩⟩
  · rw [nI_clamp (by omega), xb_sh hl]
  · rw [nI_clamp (by omega), xb_by ht]
/-- the neighbours of v within U, none for v outside -/
def gr_deg (g : Nat → Nat) (U v : Nat) : Nat := if U.testBit v = true then ms_c (g v &&& U) else 0
theorem xw_lone8 (hg : gr_ok g) (ha : gr_at aj g) {post : Int32 → Prop} {U : Nat} (hU : U < 256) (h : ∀ r, ((r = -1 ∧ ∀ v, v < 8 → gr_deg g U v ≠ 1) ∨ ∃ b, b < 8 ∧ r = nI b ∧ gr_deg g U b = 1) → post r) : ∀ d i x3 x4, i + d = 8 → ((x3 = -1 ∧ ∀ v, v < i → gr_deg g U v ≠ 1) ∨ ∃ b, b < 8 ∧ x3 = nI b ∧ gr_deg g U b = 1) → wX_withNeighbours_8 post (nI U) 1 fb aj lo tk pa cf li pr ch op ps (d + 1) x3 x4 (nI i) := by
  intro d
  induction d with
  | zero =>
    intro i x3 x4 hi k
    have e : i = 8 := by omega
    subst e
    exact br_t x8_le (h _ k)
  | succ d ih =>
    intro i x3 x4 hi k
    have st : ∀ z, z ≤ 8 → gr_deg g U i = z → wX_withNeighbours_40 post (wX_withNeighbours_8 post (nI U) 1 fb aj lo tk pa cf li pr ch op ps (d + 1)) (nI U) 1 x3 x4 (nI i) (nI z) fb aj lo tk pa cf li pr ch op ps := by
      intro z hz ez
      refine br_f (by decide) (pk_eq z 1 (fun e => nm_r (nI_1 i) (ih (i + 1) _ _ (by omega) (Or.inr ⟨i, by omega, rfl, by omega⟩))) (fun e => nm_r (nI_1 i) (ih (i + 1) _ _ (by omega) ?_)))
      rcases k with ⟨a, b⟩ | k
      · exact Or.inl ⟨a, lt_s b (by omega)⟩
      · exact Or.inr k
    refine br_f (x8_nle (by omega)) (xw_in hU (by omega) (fun e => br_t rfl (st 0 (by omega) (if_neg (by rw [e]; decide)))) (fun e => br_f (by decide) ⟨x8_in (by omega), ?_⟩))
    rw [gr_get ha (by omega), nx_and]
    exact xw_ones (ms_alt _ (hg.1 i (by omega))) (st _ (ms_c8 _) (if_pos e))
theorem xw_lone (hg : gr_ok g) (ha : gr_at aj g) {post : Int32 → Prop} {U : Nat} (hU : U < 256) (h : ∀ r, ((r = -1 ∧ ∀ v, v < 8 → gr_deg g U v ≠ 1) ∨ ∃ b, b < 8 ∧ r = nI b ∧ gr_deg g U b = 1) → post r) : wpX_withNeighbours post (fb, aj, lo, tk, pa, cf, li, pr, ch, op, ps) (nI U) 1 := ⟨9, xw_lone8 hg ha hU h 8 0 (-1) 0 rfl (Or.inl ⟨rfl, lt_0⟩)⟩
theorem xw_busy8 (hg : gr_ok g) (ha : gr_at aj g) {post : Int32 → Prop} {U : Nat} (hU : U < 256) (h : ∀ r, ((r = -1 ∧ ∀ v, v < 8 → gr_deg g U v = 0) ∨ ∃ b, b < 8 ∧ r = nI b ∧ 1 ≤ gr_deg g U b) → post r) : ∀ d i x3 m, i + d = 8 → m ≤ 8 → ((x3 = -1 ∧ m = 0 ∧ ∀ v, v < i → gr_deg g U v = 0) ∨ ∃ b, b < 8 ∧ x3 = nI b ∧ 1 ≤ gr_deg g U b) → wX_withNeighbours_8 post (nI U) 0 fb aj lo tk pa cf li pr ch op ps (d + 1) x3 (nI m) (nI i) := by
  intro d
  induction d with
  | zero =>
    intro i x3 m hi hm k
    have e : i = 8 := by omega
    subst e
    refine br_t x8_le (h _ ?_)
    rcases k with ⟨a, b, c⟩ | k
    · exact Or.inl ⟨a, c⟩
    · exact Or.inr k
  | succ d ih =>
    intro i x3 m hi hm k
    have st : ∀ z, z ≤ 8 → gr_deg g U i = z → wX_withNeighbours_40 post (wX_withNeighbours_8 post (nI U) 0 fb aj lo tk pa cf li pr ch op ps (d + 1)) (nI U) 0 x3 (nI m) (nI i) (nI z) fb aj lo tk pa cf li pr ch op ps := by
      intro z hz ez
      refine br_t rfl (pk_le z m (fun e => nm_r (nI_1 i) (ih (i + 1) _ _ (by omega) hm ?_)) (fun e => nm_r (nI_1 i) (ih (i + 1) _ _ (by omega) hz (Or.inr ⟨i, by omega, rfl, by omega⟩))))
      rcases k with ⟨a, b, c⟩ | k
      · exact Or.inl ⟨a, b, lt_s c (by omega)⟩
      · exact Or.inr k
    refine br_f (x8_nle (by omega)) (xw_in hU (by omega) (fun e => br_t rfl (st 0 (by omega) (if_neg (by rw [e]; decide)))) (fun e => br_f (by decide) ⟨x8_in (by omega), ?_⟩))
    rw [gr_get ha (by omega), nx_and]
    exact xw_ones (ms_alt _ (hg.1 i (by omega))) (st _ (ms_c8 _) (if_pos e))
theorem xw_busy (hg : gr_ok g) (ha : gr_at aj g) {post : Int32 → Prop} {U : Nat} (hU : U < 256) (h : ∀ r, ((r = -1 ∧ ∀ v, v < 8 → gr_deg g U v = 0) ∨ ∃ b, b < 8 ∧ r = nI b ∧ 1 ≤ gr_deg g U b) → post r) : wpX_withNeighbours post (fb, aj, lo, tk, pa, cf, li, pr, ch, op, ps) (nI U) 0 := ⟨9, xw_busy8 hg ha hU h 8 0 (-1) 0 rfl (by omega) (Or.inl ⟨rfl, rfl, lt_0⟩)⟩
end
end
section
/-! least covers within a set -/
theorem ms_cex {a : Nat} (h : 1 ≤ ms_c a) : ∃ i, i < 8 ∧ a.testBit i = true := by
  apply Classical.byContradiction
  intro n
  have z : ms_c a = 0 := ca_zero (fun i hi => by
    cases e : a.testBit i
    · rfl
    · exact absurd ⟨i, hi, e⟩ n)
  omega
theorem ms_c1u {a : Nat} (ha : a < 256) (h : ms_c a = 1) : ∃ u, u < 8 ∧ a.testBit u = true ∧ ∀ w, w < 8 → a.testBit w = true → w = u := by
  obtain ⟨u, hu, e⟩ := ms_cex (a := a) (by omega)
  refine ⟨u, hu, e, ?_⟩
  intro w hw k
  have d := ms_cdel ha hu e
  have z := ms_cz (a := ms_d a (2 ^ u)) (by omega) hw
  rw [ms_bd _ _ ha, k, ms_bp, Bool.true_and] at z
  by_cases q : u = w
  · exact q.symm
  · rw [decide_eq_false q] at z
    exact absurd z (by decide)
theorem ms_in {a b i : Nat} : (a &&& b).testBit i = true ↔ a.testBit i = true ∧ b.testBit i = true := by rw [Nat.testBit_and, Bool.and_eq_true]
theorem ms_un {a b i : Nat} : (a ||| b).testBit i = true ↔ a.testBit i = true ∨ b.testBit i = true := by rw [Nat.testBit_or, Bool.or_eq_true]
theorem ms_df {a b i : Nat} (ha : a < 256) : (ms_d a b).testBit i = true ↔ a.testBit i = true ∧ ¬ b.testBit i = true := by
  rw [ms_bd _ _ ha, Bool.and_eq_true]
  cases b.testBit i <;> simp
theorem ms_on {v i : Nat} : (2 ^ v).testBit i = true ↔ v = i := by rw [ms_bp]; exact decide_eq_true_iff
def gr_cu (g : Nat → Nat) (U S : Nat) : Prop := ∀ v w, v < 8 → w < 8 → U.testBit v = true → U.testBit w = true → (g v).testBit w = true → S.testBit v = true ∨ S.testBit w = true
noncomputable def mv_n (g : Nat → Nat) (U : Nat) : Nat := mi_n (fun S => tb_p (gr_cu g U S)) ms_c 256
theorem mv_le {g : Nat → Nat} {U S : Nat} (hS : S < 256) (h : gr_cu g U S) : mv_n g U ≤ ms_c S := mi_le (P := fun S => tb_p (gr_cu g U S)) hS (tb_t h)
theorem mv_c {g : Nat → Nat} {U : Nat} (hU : U < 256) : mv_n g U ≤ ms_c U := mv_le hU (fun _ _ _ _ a _ _ => Or.inl a)
theorem mv_ex {g : Nat → Nat} {U : Nat} (hU : U < 256) : ∃ S, S < 256 ∧ gr_cu g U S ∧ ms_c S = mv_n g U := by
  rcases mi_ex (fun S => tb_p (gr_cu g U S)) ms_c 256 with z | ⟨S, a, b, c⟩
  · have h1 := mv_c (g := g) hU
    have h2 := ms_c8 U
    unfold mv_n at h1
    omega
  · exact ⟨S, a, tb_iff.mp b, c⟩
theorem gr_deg1 {g : Nat → Nat} {U v w : Nat} (hw : w < 8) (hv : U.testBit v = true) (h : U.testBit w = true) (k : (g v).testBit w = true) : 1 ≤ gr_deg g U v := by
  unfold gr_deg
  rw [if_pos hv]
  exact ms_cpos hw (ms_in.mpr ⟨k, h⟩)
theorem gr_degU {g : Nat → Nat} {U v : Nat} (h : 1 ≤ gr_deg g U v) : U.testBit v = true ∧ gr_deg g U v = ms_c (g v &&& U) := by
  unfold gr_deg at h ⊢
  by_cases e : U.testBit v = true
  · exact ⟨e, if_pos e⟩
  · rw [if_neg e] at h
    omega
theorem mv_zero {g : Nat → Nat} {U : Nat} (h : ∀ v, v < 8 → gr_deg g U v = 0) : mv_n g U = 0 := by
  have k : mv_n g U ≤ ms_c 0 := mv_le (by decide) (fun v w hv hw a b c => by
    have z := gr_deg1 hw a b c
    have y := h v hv
    omega)
  rw [ms_c0] at k
  omega
theorem mv_pos {g : Nat → Nat} {U b : Nat} (hU : U < 256) (hb : b < 8) (h : 1 ≤ gr_deg g U b) : 1 ≤ mv_n g U := by
  obtain ⟨a, e⟩ := gr_degU h
  obtain ⟨w, hw, k⟩ := ms_cex (a := g b &&& U) (by omega)
  obtain ⟨k1, k2⟩ := ms_in.mp k
  obtain ⟨S, hS, c, q⟩ := mv_ex (g := g) hU
  rcases c b w hb hw a k2 k1 with z | z
  · have := ms_cpos hb z
    omega
  · have := ms_cpos hw z
    omega
theorem mv_lone {g : Nat → Nat} (hg : gr_ok g) {U b : Nat} (hU : U < 256) (hb : b < 8) (h : gr_deg g U b = 1) : mv_n g U = mv_n g (ms_d U (g b)) + 1 ∧ ms_c (ms_d U (g b)) + 1 ≤ ms_c U := by
  obtain ⟨ub, e⟩ := gr_degU (g := g) (U := U) (v := b) (by omega)
  obtain ⟨u, hu, k, uq⟩ := ms_c1u (ms_alt U (hg.1 b hb)) (by omega)
  obtain ⟨k1, k2⟩ := ms_in.mp k
  have U1 : ∀ i, (ms_d U (g b)).testBit i = true ↔ U.testBit i = true ∧ ¬ (g b).testBit i = true := fun i => ms_df hU
  have sz : ms_c (ms_d U (g b)) + 1 ≤ ms_c U := by
    have d := ms_cdel hU hu k2
    have l : ms_c (ms_d U (g b)) ≤ ms_c (ms_d U (2 ^ u)) := ms_cle (fun i hi z => by
      rw [ms_df hU, ms_on]
      obtain ⟨z1, z2⟩ := (U1 i).mp z
      exact ⟨z1, fun q => z2 (q ▸ k1)⟩)
    omega
  refine ⟨Nat.le_antisymm ?_ ?_, sz⟩
  · obtain ⟨S, hS, c, q⟩ := mv_ex (g := g) (ms_dlt (g b) hU)
    have l : mv_n g U ≤ ms_c (S ||| 2 ^ u) := mv_le (ms_olt hS (ms_plt hu)) (fun v w hv hw a1 a2 a3 => by
      rw [ms_un, ms_un, ms_on, ms_on]
      by_cases v1 : u = v
      · exact Or.inl (Or.inr v1)
      · by_cases w1 : u = w
        · exact Or.inr (Or.inr w1)
        · rcases c v w hv hw ((U1 v).mpr ⟨a1, fun z => v1 (uq v hv (ms_in.mpr ⟨z, a1⟩)).symm⟩) ((U1 w).mpr ⟨a2, fun z => w1 (uq w hw (ms_in.mpr ⟨z, a2⟩)).symm⟩) a3 with z | z
          · exact Or.inl (Or.inl z)
          · exact Or.inr (Or.inl z))
    have l2 := ms_cor S (2 ^ u)
    rw [ms_c1 hu] at l2
    omega
  · obtain ⟨S, hS, c, q⟩ := mv_ex (g := g) hU
    have l : mv_n g (ms_d U (g b)) ≤ ms_c (ms_d S (2 ^ b ||| 2 ^ u)) := mv_le (ms_dlt _ hS) (fun v w hv hw a1 a2 a3 => by
      obtain ⟨v1, v2⟩ := (U1 v).mp a1
      obtain ⟨w1, w2⟩ := (U1 w).mp a2
      have nbv : ¬ b = v := fun z => w2 (z ▸ a3)
      have nbw : ¬ b = w := fun z => v2 (by rw [hg.2.1 b v hb hv, z]; exact a3)
      have nuv : ¬ u = v := fun z => v2 (z ▸ k1)
      have nuw : ¬ u = w := fun z => w2 (z ▸ k1)
      rw [ms_df hS, ms_df hS, ms_un, ms_un, ms_on, ms_on, ms_on, ms_on]
      rcases c v w hv hw v1 w1 a3 with z | z
      · exact Or.inl ⟨z, fun y => y.elim nbv nuv⟩
      · exact Or.inr ⟨z, fun y => y.elim nbw nuw⟩)
    rcases c b u hb hu ub k2 k1 with z | z
    · have d := ms_cdel hS hb z
      have l2 : ms_c (ms_d S (2 ^ b ||| 2 ^ u)) ≤ ms_c (ms_d S (2 ^ b)) := ms_cle (fun i hi y => by
        rw [ms_df hS, ms_un] at y
        rw [ms_df hS]
        exact ⟨y.1, fun x => y.2 (Or.inl x)⟩)
      omega
    · have d := ms_cdel hS hu z
      have l2 : ms_c (ms_d S (2 ^ b ||| 2 ^ u)) ≤ ms_c (ms_d S (2 ^ u)) := ms_cle (fun i hi y => by
        rw [ms_df hS, ms_un] at y
        rw [ms_df hS]
        exact ⟨y.1, fun x => y.2 (Or.inr x)⟩)
      omega
theorem mv_br {g : Nat → Nat} (hg : gr_ok g) {U b : Nat} (hU : U < 256) (hb : b < 8) (h : U.testBit b = true) : mv_n g U ≤ mv_n g (ms_d U (2 ^ b)) + 1 ∧ mv_n g U ≤ mv_n g (ms_d (ms_d U (g b &&& U)) (2 ^ b)) + ms_c (g b &&& U) ∧ (mv_n g (ms_d U (2 ^ b)) + 1 ≤ mv_n g U ∨ mv_n g (ms_d (ms_d U (g b &&& U)) (2 ^ b)) + ms_c (g b &&& U) ≤ mv_n g U) ∧ ms_c (ms_d U (2 ^ b)) + 1 = ms_c U ∧ ms_c (ms_d (ms_d U (g b &&& U)) (2 ^ b)) + ms_c (g b &&& U) + 1 = ms_c U := by
  have hA : g b &&& U < 256 := ms_alt U (hg.1 b hb)
  have hUA : ms_d U (g b &&& U) < 256 := ms_dlt _ hU
  have U1 : ∀ i, (ms_d U (2 ^ b)).testBit i = true ↔ U.testBit i = true ∧ ¬ b = i := fun i => by rw [ms_df hU, ms_on]
  have U2 : ∀ i, (ms_d (ms_d U (g b &&& U)) (2 ^ b)).testBit i = true ↔ (U.testBit i = true ∧ ¬ ((g b).testBit i = true ∧ U.testBit i = true)) ∧ ¬ b = i := fun i => by rw [ms_df hUA, ms_df hU, ms_on, ms_in]
  refine ⟨?_, ?_, ?_, ms_cdel hU hb h, ?_⟩
  · obtain ⟨S, hS, c, q⟩ := mv_ex (g := g) (ms_dlt (2 ^ b) hU)
    have l : mv_n g U ≤ ms_c (S ||| 2 ^ b) := mv_le (ms_olt hS (ms_plt hb)) (fun v w hv hw a1 a2 a3 => by
      rw [ms_un, ms_un, ms_on, ms_on]
      by_cases v1 : b = v
      · exact Or.inl (Or.inr v1)
      · by_cases w1 : b = w
        · exact Or.inr (Or.inr w1)
        · rcases c v w hv hw ((U1 v).mpr ⟨a1, v1⟩) ((U1 w).mpr ⟨a2, w1⟩) a3 with z | z
          · exact Or.inl (Or.inl z)
          · exact Or.inr (Or.inl z))
    have l2 := ms_cor S (2 ^ b)
    rw [ms_c1 hb] at l2
    omega
  · obtain ⟨S, hS, c, q⟩ := mv_ex (g := g) (ms_dlt (2 ^ b) hUA)
    have l : mv_n g U ≤ ms_c (S ||| (g b &&& U)) := mv_le (ms_olt hS hA) (fun v w hv hw a1 a2 a3 => by
      rw [ms_un, ms_un, ms_in, ms_in]
      by_cases v1 : (g b).testBit v = true
      · exact Or.inl (Or.inr ⟨v1, a1⟩)
      · by_cases w1 : (g b).testBit w = true
        · exact Or.inr (Or.inr ⟨w1, a2⟩)
        · have nbv : ¬ b = v := fun z => w1 (z ▸ a3)
          have nbw : ¬ b = w := fun z => v1 (by rw [hg.2.1 b v hb hv, z]; exact a3)
          rcases c v w hv hw ((U2 v).mpr ⟨⟨a1, fun z => v1 z.1⟩, nbv⟩) ((U2 w).mpr ⟨⟨a2, fun z => w1 z.1⟩, nbw⟩) a3 with z | z
          · exact Or.inl (Or.inl z)
          · exact Or.inr (Or.inl z))
    have l2 := ms_cor S (g b &&& U)
    omega
  · obtain ⟨S, hS, c, q⟩ := mv_ex (g := g) hU
    by_cases z : S.testBit b = true
    · refine Or.inl ?_
      have d := ms_cdel hS hb z
      have l : mv_n g (ms_d U (2 ^ b)) ≤ ms_c (ms_d S (2 ^ b)) := mv_le (ms_dlt _ hS) (fun v w hv hw a1 a2 a3 => by
        obtain ⟨v1, v2⟩ := (U1 v).mp a1
        obtain ⟨w1, w2⟩ := (U1 w).mp a2
        rw [ms_df hS, ms_df hS, ms_on, ms_on]
        rcases c v w hv hw v1 w1 a3 with y | y
        · exact Or.inl ⟨y, v2⟩
        · exact Or.inr ⟨y, w2⟩)
      omega
    · refine Or.inr ?_
      have d := ms_csub (a := S) (b := g b &&& U) hS (fun i hi y => by
        obtain ⟨y1, y2⟩ := ms_in.mp y
        rcases c b i hb hi h y2 y1 with x | x
        · exact absurd x z
        · exact x)
      have l : mv_n g (ms_d (ms_d U (g b &&& U)) (2 ^ b)) ≤ ms_c (ms_d S (g b &&& U)) := mv_le (ms_dlt _ hS) (fun v w hv hw a1 a2 a3 => by
        obtain ⟨⟨v1, v2⟩, v3⟩ := (U2 v).mp a1
        obtain ⟨⟨w1, w2⟩, w3⟩ := (U2 w).mp a2
        rw [ms_df hS, ms_df hS, ms_in, ms_in]
        rcases c v w hv hw v1 w1 a3 with y | y
        · exact Or.inl ⟨y, v2⟩
        · exact Or.inr ⟨y, w2⟩)
      omega
  · have d1 := ms_csub (a := U) (b := g b &&& U) hU (fun i hi y => (ms_in.mp y).2)
    have d2 := ms_cdel hUA hb ((ms_df hU).mpr ⟨h, fun y => by
      have := (ms_in.mp y).1
      rw [hg.2.2 b hb] at this
      exact absurd this (by decide)⟩)
    omega
/-! the stack of branches -/
def nu_f (f : Nat → Nat) (k x : Nat) : Nat → Nat := fun j => if j = k then x else f j
theorem nu_s {f : Nat → Nat} {k x : Nat} : nu_f f k x k = x := if_pos rfl
theorem nu_n {f : Nat → Nat} {k x j : Nat} (h : j ≠ k) : nu_f f k x j = f j := if_neg h
def so_at (f : Nat → Int32) (l : Nat → Nat) (n : Nat) : Prop := ∀ i, i < n → f i = nI (l i)
theorem so_push {f : Nat → Int32} {l : Nat → Nat} {n : Nat} (x : Nat) (h : so_at f l n) : so_at (upd f n (nI x)) (nu_f l n x) (n + 1) := by
  intro i hi
  by_cases e : i = n
  · subst e
    rw [pk_us, nu_s]
  · rw [pk_un e, nu_n e]
    exact h i (by omega)
theorem so_pop {f : Nat → Int32} {l : Nat → Nat} {n : Nat} (h : so_at f l (n + 1)) : so_at f l n := fun i hi => h i (by omega)
def so_w (l : Nat → Nat) : Nat → Nat
  | 0 => 0
  | n + 1 => so_w l n + (2 ^ (ms_c (l n) + 1) - 1)
theorem so_ws (l : Nat → Nat) (n : Nat) : so_w l (n + 1) = so_w l n + (2 ^ (ms_c (l n) + 1) - 1) := rfl
theorem so_wext {l l' : Nat → Nat} {n : Nat} (h : ∀ i, i < n → l i = l' i) : so_w l n = so_w l' n := by
  induction n with
  | zero => rfl
  | succ n ih => rw [so_ws, so_ws, ih (fun i hi => h i (by omega)), h n (by omega)]
theorem so_pw {a c : Nat} (h : a + 1 ≤ c) : 2 ^ (a + 1) ≤ 2 ^ c := Nat.pow_le_pow_right (by decide) h
theorem so_pos (c : Nat) : 1 ≤ 2 ^ c := Nat.one_le_two_pow
theorem so_p2 (c : Nat) : 2 ^ (c + 1) = 2 * 2 ^ c := by rw [Nat.pow_succ]; omega
def so_I (g : Nat → Nat) (T n B R : Nat) (l t : Nat → Nat) : Prop := n ≤ 9 ∧ (∀ i, i < n → l i < 256 ∧ i + ms_c (l i) ≤ 8 ∧ t i + ms_c (l i) ≤ 8 ∧ T ≤ t i + mv_n g (l i)) ∧ T ≤ B ∧ B ≤ 100 ∧ (B = T ∨ ∃ i, i < n ∧ t i + mv_n g (l i) = T) ∧ R + so_w l n ≤ 511
theorem so_keep {g : Nat → Nat} {T m B B' R : Nat} {l t : Nat → Nat} (h : so_I g T (m + 1) B R l t) (h1 : T ≤ B') (h2 : B' ≤ 100) (h3 : B = T → B' = T) (h4 : t m + mv_n g (l m) = T → B' = T) : so_I g T m B' (R + 1) l t := by
  obtain ⟨a, b, c, d, e, f⟩ := h
  refine ⟨by omega, fun i hi => b i (by omega), h1, h2, ?_, ?_⟩
  · rcases e with e | ⟨i, hi, e⟩
    · exact Or.inl (h3 e)
    · by_cases q : i = m
      · subst q
        exact Or.inl (h4 e)
      · exact Or.inr ⟨i, by omega, e⟩
  · rw [so_ws] at f
    have := so_pos (ms_c (l m))
    have := so_p2 (ms_c (l m))
    omega
theorem so_drop {g : Nat → Nat} {T m B R : Nat} {l t : Nat → Nat} (h : so_I g T (m + 1) B R l t) (k : 1 ≤ mv_n g (l m)) (q : B ≤ t m + 1) : so_I g T m B (R + 1) l t := by
  have h1 := h.2.2.1
  have h2 := h.2.2.2.1
  exact so_keep h h1 h2 id (fun z => by omega)
theorem so_leaf1 {g : Nat → Nat} {T m B R : Nat} {l t : Nat → Nat} (h : so_I g T (m + 1) B R l t) (k : mv_n g (l m) = 0) (q : B ≤ t m) : so_I g T m B (R + 1) l t := by
  have h1 := h.2.2.1
  have h2 := h.2.2.2.1
  exact so_keep h h1 h2 id (fun z => by omega)
theorem so_leaf2 {g : Nat → Nat} {T m B R : Nat} {l t : Nat → Nat} (h : so_I g T (m + 1) B R l t) (k : mv_n g (l m) = 0) (q : t m < B) : so_I g T m (t m) (R + 1) l t := by
  have h1 := h.2.2.1
  have h2 := h.2.2.2.1
  have h3 := (h.2.1 m (by omega)).2.2.2
  exact so_keep h (by omega) (by omega) (fun z => by omega) (fun z => by omega)
theorem so_one {g : Nat → Nat} {T m B R U' : Nat} {l t : Nat → Nat} (h : so_I g T (m + 1) B R l t) (hU : U' < 256) (k : mv_n g (l m) = mv_n g U' + 1) (q : ms_c U' + 1 ≤ ms_c (l m)) : so_I g T (m + 1) B (R + 1) (nu_f l m U') (nu_f t m (t m + 1)) := by
  obtain ⟨a, b, c, d, e, f⟩ := h
  have hm := b m (by omega)
  refine ⟨a, fun i hi => ?_, c, d, ?_, ?_⟩
  · by_cases z : i = m
    · subst z
      rw [nu_s, nu_s]
      exact ⟨hU, by omega, by omega, by omega⟩
    · rw [nu_n z, nu_n z]
      exact b i hi
  · rcases e with e | ⟨i, hi, e⟩
    · exact Or.inl e
    · refine Or.inr ⟨i, hi, ?_⟩
      by_cases z : i = m
      · subst z
        rw [nu_s, nu_s]
        omega
      · rw [nu_n z, nu_n z]
        exact e
  · rw [so_ws, nu_s, so_wext (l' := l) (fun i hi => nu_n (by omega))]
    rw [so_ws] at f
    have := so_pw q
    have := so_pos (ms_c (l m))
    have := so_p2 (ms_c (l m))
    omega
theorem so_two {g : Nat → Nat} {T m B R U1 U2 c : Nat} {l t : Nat → Nat} (h : so_I g T (m + 1) B R l t) (h1 : U1 < 256) (h2 : U2 < 256) (k1 : mv_n g (l m) ≤ mv_n g U1 + 1) (k2 : mv_n g (l m) ≤ mv_n g U2 + c) (k3 : mv_n g U1 + 1 ≤ mv_n g (l m) ∨ mv_n g U2 + c ≤ mv_n g (l m)) (q1 : ms_c U1 + 1 = ms_c (l m)) (q2 : ms_c U2 + c + 1 = ms_c (l m)) : so_I g T (m + 2) B (R + 1) (nu_f (nu_f l m U2) (m + 1) U1) (nu_f (nu_f t m (t m + c)) (m + 1) (t m + 1)) := by
  obtain ⟨a, b, d, d', e, f⟩ := h
  have hm := b m (by omega)
  have ne : m ≠ m + 1 := by omega
  refine ⟨by omega, fun i hi => ?_, d, d', ?_, ?_⟩
  · by_cases z : i = m + 1
    · subst z
      rw [nu_s, nu_s]
      exact ⟨h1, by omega, by omega, by omega⟩
    · rw [nu_n z, nu_n z]
      by_cases y : i = m
      · subst y
        rw [nu_s, nu_s]
        exact ⟨h2, by omega, by omega, by omega⟩
      · rw [nu_n y, nu_n y]
        exact b i (by omega)
  · rcases e with e | ⟨i, hi, e⟩
    · exact Or.inl e
    · refine Or.inr ?_
      by_cases z : i = m
      · subst z
        rcases k3 with k | k
        · refine ⟨i + 1, by omega, ?_⟩
          rw [nu_s, nu_s]
          omega
        · refine ⟨i, by omega, ?_⟩
          rw [nu_n ne, nu_n ne, nu_s, nu_s]
          omega
      · refine ⟨i, by omega, ?_⟩
        have y : i ≠ m + 1 := by omega
        rw [nu_n y, nu_n y, nu_n z, nu_n z]
        exact e
  · rw [so_ws, so_ws, nu_s, nu_n ne, nu_s, so_wext (l' := l) (fun i hi => by rw [nu_n (show i ≠ m + 1 by omega), nu_n (show i ≠ m by omega)])]
    rw [so_ws] at f
    have p1 := so_pw (a := ms_c U1) (c := ms_c (l m)) (by omega)
    have p2 := so_pw (a := ms_c U2) (c := ms_c (l m)) (by omega)
    have p3 := so_p2 (ms_c (l m))
    have p4 := so_pos (ms_c U1 + 1)
    have p5 := so_pos (ms_c U2 + 1)
    omega
theorem so_init {g : Nat → Nat} {U : Nat} (hU : U < 256) (l t : Nat → Nat) : so_I g (mv_n g U) 1 100 0 (nu_f l 0 U) (nu_f t 0 0) := by
  have h1 := mv_c (g := g) hU
  have h2 := ms_c8 U
  refine ⟨by omega, fun i hi => ?_, by omega, by omega, Or.inr ⟨0, by omega, ?_⟩, ?_⟩
  · have e : i = 0 := by omega
    subst e
    rw [nu_s, nu_s]
    exact ⟨hU, by omega, by omega, by omega⟩
  · rw [nu_s, nu_s]
    omega
  · rw [so_ws, nu_s]
    have p : 2 ^ (ms_c U + 1) ≤ 2 ^ 9 := Nat.pow_le_pow_right (by decide) (by omega)
    have q : so_w (nu_f l 0 U) 0 = 0 := rfl
    omega
end
section
section
variable {fb : Int32} {aj lo tk pa cf li pr ch op ps : Nat → Int32} {g : Nat → Nat}
theorem xw_solve16 (hg : gr_ok g) (ha : gr_at aj g) {post : Int32 → SX → Prop} {T : Nat} (h : ∀ fb lo tk, post (nI T) (fb, aj, lo, tk, pa, cf, li, pr, ch, op, ps)) : ∀ (d n B R : Nat) (l t : Nat → Nat) (lo tk : Nat → Int32), so_I g T n B R l t → 512 ≤ R + d → so_at lo l n → so_at tk t n → wX_solve_16 post (d + 1) (nI B) (nI R) (nI n) aj lo tk pa cf li pr ch op ps := by
  intro d
  induction d with
  | zero =>
    intro n B R l t lo tk I hR
    have := I.2.2.2.2.2
    omega
  | succ d ih =>
    intro n B R l t lo tk I hR hl ht
    have hR5 := I.2.2.2.2.2
    have hB := I.2.2.2.1
    refine br_f (nI_ge (b := 512) (by omega) (by decide)) ?_
    cases n with
    | zero =>
      have e : B = T := by
        rcases I.2.2.2.2.1 with e | ⟨i, hi, _⟩
        · exact e
        · exact absurd hi (Nat.not_lt_zero i)
      subst e
      exact br_t (nI_le (a := 0) (b := 0) (by omega) (by omega)) (h _ _ _)
    | succ m =>
      have h9 := I.1
      obtain ⟨m1, m2, m3, m4⟩ := I.2.1 m (by omega)
      have ins : vp_in (nI m) 64 := vp_in_nI (by omega) (by decide)
      refine br_f (nI_nle (by omega) (by omega)) (nm_r (nI_pred m) ⟨ins, nm_r (e' := nI (l m)) (by rw [nI_clamp (by omega)]; exact hl m (by omega)) ⟨ins, nm_r (e' := nI (t m)) (by rw [nI_clamp (by omega)]; exact ht m (by omega)) ?_⟩⟩)
      refine xw_lone hg ha m1 (fun r1 k1 => xw_busy hg ha m1 (fun r2 k2 => ?_))
      rcases k2 with ⟨rfl, k2⟩ | ⟨b, hb, rfl, k2⟩
      · have z := mv_zero k2
        exact br_f (by decide) (pk_le B (t m) (fun e => nm_r (nI_1 R) (ih m B (R + 1) l t lo tk (so_leaf1 I z e) (by omega) (so_pop hl) (so_pop ht))) (fun e => nm_r (nI_1 R) (ih m (t m) (R + 1) l t lo tk (so_leaf2 I z e) (by omega) (so_pop hl) (so_pop ht))))
      · have p := mv_pos m1 hb k2
        obtain ⟨ub, eb⟩ := gr_degU k2
        have s137 : wX_solve_137 post (wX_solve_16 post (d + 1)) (nI B) (nI R) (nI (l m)) (nI (t m)) (nI b) (nI m) aj lo tk pa cf li pr ch op ps := by
          refine pk_le B (t m + 1) (fun e => nm_r (nI_1 R) (ih m B (R + 1) l t lo tk (so_drop I p e) (by omega) (so_pop hl) (so_pop ht))) (fun e => ⟨x8_in hb, nm_r (e' := nI (g b &&& l m)) ?_ ?_⟩) rfl (nI_1 (t m))
          · rw [gr_get ha hb, nx_and]
          · obtain ⟨q1, q2, q3, q4, q5⟩ := mv_br hg m1 hb ub
            have hA := ms_alt (l m) (hg.1 b hb)
            have h1 := ms_dlt (2 ^ b) m1
            have h2 := ms_dlt (2 ^ b) (ms_dlt (g b &&& l m) m1)
            refine xw_ones hA ?_
            rw [xb_shl b hb, xb_not, xb_not, xb_not, nI_add, nI_1 (t m)]
            refine xw_push (by omega) h2 (by omega) ?_
            refine xw_push (by omega) h1 (by omega) ?_
            exact nm_r (nI_1 R) (ih (m + 2) B (R + 1) _ _ _ _ (so_two I h1 h2 q1 q2 q3 q4 q5) (by omega) (so_push _ (so_push _ (so_pop hl))) (so_push _ (so_push _ (so_pop ht))))
        refine br_t (nI_pos' (by omega)) (pk_le B (t m + 1) (fun e => s137) (fun e => ?_) rfl (nI_1 (t m)))
        rcases k1 with ⟨rfl, k1⟩ | ⟨c, hc, rfl, k1⟩
        · exact br_t (by decide) s137
        · obtain ⟨q1, q2⟩ := mv_lone hg m1 hc k1
          refine br_f (nI_pos (by omega)) ⟨x8_in hc, ?_⟩
          have h1 := ms_dlt (g c) m1
          rw [gr_get ha hc, xb_not, nI_1 (t m)]
          refine xw_push (by omega) h1 (by omega) ?_
          exact nm_r (nI_1 R) (ih (m + 1) B (R + 1) _ _ _ _ (so_one I h1 q1 q2) (by omega) (so_push _ (so_pop hl)) (so_push _ (so_pop ht)))
theorem xw_solve (hg : gr_ok g) (ha : gr_at aj g) {post : Int32 → SX → Prop} {U : Nat} (hU : U < 256) (h : ∀ fb lo tk, post (nI (mv_n g U)) (fb, aj, lo, tk, pa, cf, li, pr, ch, op, ps)) : wpX_solve post (fb, aj, lo, tk, pa, cf, li, pr, ch, op, ps) (nI U) := by
  unfold wpX_solve
  refine xw_push (n := 0) (t := 0) (by omega) hU (by omega) ?_
  exact ⟨513, xw_solve16 hg ha h 512 1 100 0 _ _ _ _ (so_init hU (fun _ => 0) (fun _ => 0)) (by omega) (so_push (n := 0) U (fun i hi => absurd hi (Nat.not_lt_zero i))) (so_push (n := 0) 0 (fun i hi => absurd hi (Nat.not_lt_zero i)))⟩
theorem xw_least (hg : gr_ok g) (ha : gr_at aj g) {post : Int32 → SX → Prop} (h : ∀ fb lo tk, post (nI (mv_n g 255)) (fb, aj, lo, tk, pa, cf, li, pr, ch, op, ps)) : wpX_least post (fb, aj, lo, tk, pa, cf, li, pr, ch, op, ps) := by
  unfold wpX_least
  exact xw_solve (U := 255) hg ha (by decide) h
/-! covers with some vertices and without others -/
def lf_P (g : Nat → Nat) (i o S : Nat) : Prop := ms_d i S = 0 ∧ o &&& S = 0 ∧ gr_cov g S
noncomputable def lf_m (g : Nat → Nat) (i o : Nat) : Nat := mi_n (fun S => tb_p (lf_P g i o S)) ms_c 256
theorem lf_Piff (hg : gr_ok g) {i o : Nat} (hi : i < 256) (ho : o < 256) (S : Nat) : lf_P g i o S ↔ (∀ v, v < 8 → i.testBit v = true → S.testBit v = true) ∧ (∀ v, v < 8 → o.testBit v = true → ¬ S.testBit v = true) ∧ ∀ v w, v < 8 → w < 8 → (g v).testBit w = true → S.testBit v = true ∨ S.testBit w = true := by
  unfold lf_P
  rw [gr_cov_iff hg, ms_z (ms_dlt S hi), ms_z (ms_alt S ho)]
  constructor
  · rintro ⟨a, b, c⟩
    refine ⟨fun v hv e => ?_, fun v hv e k => ?_, c⟩
    · have := a v hv
      rw [ms_bd _ _ hi, e] at this
      simpa using this
    · have := b v hv
      rw [Nat.testBit_and, e, k] at this
      exact absurd this (by decide)
  · rintro ⟨a, b, c⟩
    refine ⟨fun v hv => ?_, fun v hv => ?_, c⟩
    · rw [ms_bd _ _ hi]
      cases e : i.testBit v
      · rfl
      · rw [a v hv e]; rfl
    · rw [Nat.testBit_and]
      cases e : o.testBit v
      · rfl
      · have := b v hv e
        rw [Bool.eq_false_iff.mpr this]
        rfl
theorem lf_must (hg : gr_ok g) {i o S : Nat} (hi : i < 256) (ho : o < 256) (h : lf_P g i o S) : ∀ v, v < 8 → (i ||| gr_N g o 8).testBit v = true → S.testBit v = true := by
  obtain ⟨a, b, c⟩ := (lf_Piff hg hi ho S).mp h
  intro v hv e
  rcases ms_un.mp e with e | e
  · exact a v hv e
  · obtain ⟨w, hw, e1, e2⟩ := (gr_Nbit o v 8).mp e
    rcases c w v hw hv e2 with z | z
    · exact absurd z (b w hw e1)
    · exact z
theorem lf_no (hg : gr_ok g) {i o : Nat} (hi : i < 256) (ho : o < 256) (h : (i ||| gr_N g o 8) &&& o ≠ 0) : lf_m g i o = 100 := by
  have hm : i ||| gr_N g o 8 < 256 := ms_olt hi (gr_Nlt hg o 8 (by omega))
  refine mi_no (fun S hS => tb_f (fun k => h ((ms_z (ms_alt o hm)).mpr (fun v hv => ?_))))
  have m := lf_must hg hi ho k v hv
  have b := ((lf_Piff hg hi ho S).mp k).2.1 v hv
  rw [Nat.testBit_and]
  cases e : (i ||| gr_N g o 8).testBit v
  · rfl
  · cases e2 : o.testBit v
    · rfl
    · exact absurd (m e) (b e2)
theorem lf_yes (hg : gr_ok g) {i o : Nat} (hi : i < 256) (ho : o < 256) (h : (i ||| gr_N g o 8) &&& o = 0) : lf_m g i o = ms_c (i ||| gr_N g o 8) + mv_n g (ms_d (ms_d 255 (i ||| gr_N g o 8)) o) ∧ ms_c (i ||| gr_N g o 8) + mv_n g (ms_d (ms_d 255 (i ||| gr_N g o 8)) o) < 100 := by
  have hm : i ||| gr_N g o 8 < 256 := ms_olt hi (gr_Nlt hg o 8 (by omega))
  have nb : ∀ v w, v < 8 → o.testBit v = true → (g v).testBit w = true → (i ||| gr_N g o 8).testBit w = true := fun v w hv e k => ms_un.mpr (Or.inr ((gr_Nbit o w 8).mpr ⟨v, hv, e, k⟩))
  have mi : ∀ v, v < 8 → i.testBit v = true → (i ||| gr_N g o 8).testBit v = true := fun v _ e => ms_un.mpr (Or.inl e)
  have dj : ∀ v, v < 8 → (i ||| gr_N g o 8).testBit v = true → ¬ o.testBit v = true := fun v hv e k => by
    have := (ms_z (ms_alt o hm)).mp h v hv
    rw [Nat.testBit_and, e, k] at this
    exact absurd this (by decide)
  have mst := fun S => lf_must (S := S) hg hi ho
  generalize i ||| gr_N g o 8 = M at hm nb mi dj mst ⊢
  have hD : ms_d 255 M < 256 := ms_dlt _ (by decide)
  have W : ∀ v, v < 8 → ((ms_d (ms_d 255 M) o).testBit v = true ↔ ¬ M.testBit v = true ∧ ¬ o.testBit v = true) := fun v hv => by
    rw [ms_df hD, ms_df (by decide), ms_255 hv]
    simp
  have c1 := ms_c8 M
  have hW : ms_d (ms_d 255 M) o < 256 := ms_dlt o hD
  have c2 := mv_c (g := g) hW
  have c3 := ms_c8 (ms_d (ms_d 255 M) o)
  refine ⟨mi_eq (by omega) ?_ ?_, by omega⟩
  · obtain ⟨S, hS, c, q⟩ := mv_ex (g := g) hW
    refine ⟨M ||| (S &&& ms_d (ms_d 255 M) o), ms_olt hm (ms_alt _ hS), tb_t ((lf_Piff hg hi ho _).mpr ⟨fun v hv e => ms_un.mpr (Or.inl (mi v hv e)), fun v hv e k => ?_, fun v w hv hw e => ?_⟩), ?_⟩
    · rcases ms_un.mp k with k | k
      · exact dj v hv k e
      · exact ((W v hv).mp (ms_in.mp k).2).2 e
    · rw [ms_un, ms_un, ms_in, ms_in]
      by_cases v1 : M.testBit v = true
      · exact Or.inl (Or.inl v1)
      · by_cases w1 : M.testBit w = true
        · exact Or.inr (Or.inl w1)
        · have v2 : ¬ o.testBit v = true := fun z => w1 (nb v w hv z e)
          have w2 : ¬ o.testBit w = true := fun z => v1 (nb w v hw z (by rw [hg.2.1 w v hw hv]; exact e))
          have v3 := (W v hv).mpr ⟨v1, v2⟩
          have w3 := (W w hw).mpr ⟨w1, w2⟩
          rcases c v w hv hw v3 w3 e with z | z
          · exact Or.inl (Or.inr ⟨z, v3⟩)
          · exact Or.inr (Or.inr ⟨z, w3⟩)
    · have l1 := ms_cor M (S &&& ms_d (ms_d 255 M) o)
      have l2 : ms_c (S &&& ms_d (ms_d 255 M) o) ≤ ms_c S := ms_cle (fun v _ k => (ms_in.mp k).1)
      omega
  · intro S hS k
    have k := tb_iff.mp k
    have m := mst S k
    have c := ((lf_Piff hg hi ho S).mp k).2.2
    have d := ms_csub (a := S) (b := M) hS m
    have l : mv_n g (ms_d (ms_d 255 M) o) ≤ ms_c (ms_d S M) := mv_le (ms_dlt _ hS) (fun v w hv hw a1 a2 a3 => by
      rw [ms_df hS, ms_df hS]
      rcases c v w hv hw a3 with z | z
      · exact Or.inl ⟨z, ((W v hv).mp a1).1⟩
      · exact Or.inr ⟨z, ((W w hw).mp a2).1⟩)
    omega
theorem lf_00 (hg : gr_ok g) : lf_m g 0 0 = mv_n g 255 := by
  have z : 0 ||| gr_N g 0 8 = 0 := by
    rw [Nat.zero_or, ms_z (gr_Nlt hg 0 8 (by omega))]
    intro w hw
    cases e : (gr_N g 0 8).testBit w
    · rfl
    · obtain ⟨v, hv, a, b⟩ := (gr_Nbit 0 w 8).mp e
      rw [Nat.zero_testBit] at a
      exact absurd a (by decide)
  have k := (lf_yes (i := 0) (o := 0) hg (by decide) (by decide) (by rw [z]; rfl)).1
  rw [z, ms_c0, show ms_d (ms_d 255 0) 0 = 255 by decide, Nat.zero_add] at k
  exact k
theorem lf_lt (hg : gr_ok g) : lf_m g 0 0 < 100 := by
  have h1 := mv_c (g := g) (U := 255) (by decide)
  have h2 := ms_c8 255
  rw [lf_00 hg]
  omega
theorem xw_forced (hg : gr_ok g) (ha : gr_at aj g) {post : Int32 → SX → Prop} {i o : Nat} (hi : i < 256) (ho : o < 256) (h : ∀ fb lo tk, post (mi_v (lf_m g i o)) (fb, aj, lo, tk, pa, cf, li, pr, ch, op, ps)) : wpX_forced post (fb, aj, lo, tk, pa, cf, li, pr, ch, op, ps) (nI i) (nI o) := by
  unfold wpX_forced
  have hm : i ||| gr_N g o 8 < 256 := ms_olt hi (gr_Nlt hg o 8 (by omega))
  refine xw_allN ha ho (nm_r (xb_or i (gr_N g o 8)) ?_)
  rw [nx_and]
  refine pk_eq ((i ||| gr_N g o 8) &&& o) 0 (fun z => ?_) (fun z => ?_) rfl rfl (by have := ms_alt o hm; omega)
  · obtain ⟨e, l⟩ := lf_yes hg hi ho z
    refine xw_ones hm ?_
    rw [show (255 : Int32) = nI 255 from rfl, xb_not, xb_not]
    refine xw_solve hg ha (ms_dlt _ (ms_dlt _ (by decide))) (fun fb lo tk => ?_)
    have k := h fb lo tk
    rw [e, xb_mv l, ← nI_add] at k
    exact k
  · have k := h fb lo tk
    rw [lf_no hg hi ho z] at k
    exact k
end
end
section
section
variable {a b c : Nat → Int32} {g : Nat → Nat}
theorem yw_cov0 {post : Int32 → Prop} {x : Int32} (h : post 0) : ∀ d i, i + d = 8 → wY_covers_19 post x a b c (d + 1) 0 (nI i) := by
  intro d
  induction d with
  | zero =>
    intro i hi
    have e : i = 8 := by omega
    subst e
    exact br_t x8_le ⟨narrow_b0, h⟩
  | succ d ih =>
    intro i hi
    exact br_f (x8_nle (by omega)) (br_t rfl (nm_r (nI_1 i) (ih (i + 1) (by omega))))
theorem yw_cov1 (hg : gr_ok g) (ha : gr_at a g) {post : Int32 → Prop} {S : Nat} (hS : S < 256) (h1 : gr_cov g S → post 1) (h0 : ¬ gr_cov g S → post 0) : ∀ d i, i + d = 8 → (∀ v, v < i → S.testBit v = true ∨ ms_d (g v) S = 0) → wY_covers_19 post (nI S) a b c (d + 1) 1 (nI i) := by
  intro d
  induction d with
  | zero =>
    intro i hi k
    have e : i = 8 := by omega
    subst e
    exact br_t x8_le ⟨narrow_b1, h1 k⟩
  | succ d ih =>
    intro i hi k
    refine br_f (x8_nle (by omega)) (br_f (by decide) ?_)
    rw [xb_bit (by omega) (by omega)]
    cases e : S.testBit i
    · refine br_f (by decide) ⟨x8_in (by omega), ?_⟩
      rw [gr_get ha (by omega), xb_not]
      have l := ms_dlt S (hg.1 i (by omega))
      refine pk_eq (ms_d (g i) S) 0 (fun z => nm_r (nI_1 i) (ih (i + 1) (by omega) (lt_s k (Or.inr z)))) (fun z => nm_r (nI_1 i) (yw_cov0 (h0 (fun q => ?_)) d (i + 1) (by omega)))
      rcases q i (by omega) with y | y
      · rw [e] at y; exact absurd y (by decide)
      · exact z y
    · exact br_t (by decide) (nm_r (nI_1 i) (ih (i + 1) (by omega) (lt_s k (Or.inl e))))
theorem yw_covers (hg : gr_ok g) (ha : gr_at a g) {post : Int32 → Prop} {S : Nat} (hS : S < 256) (h1 : gr_cov g S → post 1) (h0 : ¬ gr_cov g S → post 0) : wpY_covers post (a, b, c) (nI S) :=
  br_f (nI_pos (by omega)) (br_f (nI_nlt (a := 255) (by omega) (by omega)) ⟨9, yw_cov1 hg ha hS h1 h0 8 0 rfl lt_0⟩)
theorem x256_le : (256 : Int32) ≤ nI 256 := nI_le (a := 256) (b := 256) (by decide) (by decide)
theorem x256_nle {i : Nat} (h : i < 256) : ¬ (256 : Int32) ≤ nI i := nI_ge (b := 256) h (by decide)
theorem yw_lo5 (hg : gr_ok g) (ha : gr_at a g) {post : Int32 → Prop} {i o : Nat} (hi : i < 256) (ho : o < 256) (h : post (mi_v (lf_m g i o))) : ∀ d k, k + d = 256 → wY_leastOf_5 post (nI i) (nI o) a b c (d + 1) (mi_v (mi_n (fun S => tb_p (lf_P g i o S)) ms_c k)) (nI k) := by
  intro d
  induction d with
  | zero =>
    intro k hk
    have e : k = 256 := by omega
    subst e
    exact br_t x256_le h
  | succ d ih =>
    intro k hk
    have l1 := ms_dlt k hi
    have l2 := ms_alt k ho
    have sk : ¬ lf_P g i o k → wY_leastOf_5 post (nI i) (nI o) a b c (d + 1) (mi_v (mi_n (fun S => tb_p (lf_P g i o S)) ms_c k)) (nI (k + 1)) := by
      intro z
      have q := ih (k + 1) (by omega)
      rw [mi_s, if_neg (by rw [tb_f z]; decide)] at q
      exact q
    refine br_f (x256_nle (by omega)) ?_
    rw [xb_not, nx_and]
    refine pk_eq (ms_d i k) 0 (fun z1 => pk_eq (o &&& k) 0 (fun z2 => yw_covers hg ha (by omega) (fun z3 => br_f (by decide) (yw_count (by omega) ?_)) (fun z3 => br_t rfl (nm_r (nI_1 k) (sk (fun y => z3 y.2.2))))) (fun z2 => nm_r (nI_1 k) (sk (fun y => z2 y.2.1)))) (fun z1 => nm_r (nI_1 k) (sk (fun y => z1 y.1)))
    have q := ih (k + 1) (by omega)
    rw [mi_s, if_pos (tb_t ⟨z1, z2, z3⟩)] at q
    have m100 := mi_100 (fun S => tb_p (lf_P g i o S)) ms_c k
    have c8 := ms_c8 k
    generalize mi_n (fun S => tb_p (lf_P g i o S)) ms_c k = m at q m100 ⊢
    by_cases e : m = 100
    · subst e
      rw [Nat.min_eq_right (by omega), xb_mv (by omega)] at q
      exact br_t (by decide) (nm_r (nI_1 k) q)
    · rw [xb_mv (n := m) (by omega)]
      refine br_f (nI_pos (by omega)) (pk_le m (ms_c k) (fun z => nm_r (nI_1 k) ?_) (fun z => nm_r (nI_1 k) ?_))
      · rw [Nat.min_eq_left z, xb_mv (by omega)] at q
        exact q
      · rw [Nat.min_eq_right (by omega), xb_mv (by omega)] at q
        exact q
theorem yw_leastOf (hg : gr_ok g) (ha : gr_at a g) {post : Int32 → Prop} {i o : Nat} (hi : i < 256) (ho : o < 256) (h : post (mi_v (lf_m g i o))) : wpY_leastOf post (a, b, c) (nI i) (nI o) := ⟨257, yw_lo5 hg ha hi ho h 256 0 rfl⟩
theorem yw_lo00 (hg : gr_ok g) (ha : gr_at a g) {post : Int32 → Prop} (h : post (nI (lf_m g 0 0))) : wpY_leastOf post (a, b, c) 0 0 := yw_leastOf (i := 0) (o := 0) hg ha (by decide) (by decide) (by rw [xb_mv (lf_lt hg)]; exact h)
/-! least covers as sets -/
def lc_s (g : Nat → Nat) (S : Nat) : Prop := gr_cov g S ∧ ms_c S = lf_m g 0 0
theorem lf_P00 {S : Nat} : lf_P g 0 0 S ↔ gr_cov g S := by
  unfold lf_P
  constructor
  · exact fun h => h.2.2
  · intro h
    refine ⟨?_, Nat.zero_and _, h⟩
    unfold ms_d
    exact Nat.zero_and _
theorem lf_ge {S : Nat} (hS : S < 256) (h : gr_cov g S) : lf_m g 0 0 ≤ ms_c S := mi_le (P := fun S => tb_p (lf_P g 0 0 S)) hS (tb_t (lf_P00.mpr h))
theorem lf_goal (hg : gr_ok g) (i o : Nat) : lf_m g i o = lf_m g 0 0 ↔ ∃ S, S < 256 ∧ lc_s g S ∧ ms_d i S = 0 ∧ o &&& S = 0 := by
  have l := lf_lt hg
  constructor
  · intro h
    rcases mi_ex (fun S => tb_p (lf_P g i o S)) ms_c 256 with z | ⟨S, x, y, z⟩
    · have : lf_m g i o = 100 := z
      omega
    · obtain ⟨p, q, r⟩ := tb_iff.mp y
      exact ⟨S, x, ⟨r, z.trans h⟩, p, q⟩
  · rintro ⟨S, hS, ⟨k1, k2⟩, p, q⟩
    exact mi_eq l ⟨S, hS, tb_t ⟨p, q, k1⟩, by omega⟩ (fun S' h' k => lf_ge h' (tb_iff.mp k).2.2)
theorem lc_ex (hg : gr_ok g) : ∃ S, S < 256 ∧ lc_s g S := by
  obtain ⟨S, a, b, _⟩ := (lf_goal hg 0 0).mp rfl
  exact ⟨S, a, b⟩
theorem lf_out (hg : gr_ok g) {v : Nat} (hv : v < 8) : lf_m g 0 (2 ^ v) = lf_m g 0 0 ↔ ∃ S, S < 256 ∧ lc_s g S ∧ S.testBit v = false := by
  rw [lf_goal hg]
  have e : ∀ S, (2 ^ v &&& S = 0 ↔ S.testBit v = false) := fun S => by
    rw [ms_z (ms_alt S (ms_plt hv))]
    constructor
    · intro h
      have := h v hv
      rw [Nat.testBit_and, ms_bp, decide_eq_true rfl, Bool.true_and] at this
      exact this
    · intro h i hi
      rw [Nat.testBit_and, ms_bp]
      by_cases q : v = i
      · subst q
        rw [h, Bool.and_false]
      · rw [decide_eq_false q, Bool.false_and]
  constructor
  · rintro ⟨S, a, b, _, c⟩
    exact ⟨S, a, b, (e S).mp c⟩
  · rintro ⟨S, a, b, c⟩
    exact ⟨S, a, b, by unfold ms_d; exact Nat.zero_and _, (e S).mpr c⟩
theorem lf_in (hg : gr_ok g) {v : Nat} (hv : v < 8) : lf_m g (2 ^ v) 0 = lf_m g 0 0 ↔ ∃ S, S < 256 ∧ lc_s g S ∧ S.testBit v = true := by
  rw [lf_goal hg]
  have e : ∀ S, (ms_d (2 ^ v) S = 0 ↔ S.testBit v = true) := fun S => by
    rw [ms_z (ms_dlt S (ms_plt hv))]
    constructor
    · intro h
      have := h v hv
      rw [ms_bd _ _ (ms_plt hv), ms_bp, decide_eq_true rfl, Bool.true_and] at this
      simpa using this
    · intro h i hi
      rw [ms_bd _ _ (ms_plt hv), ms_bp]
      by_cases q : v = i
      · subst q
        rw [h]
        exact Bool.and_false _
      · rw [decide_eq_false q, Bool.false_and]
  constructor
  · rintro ⟨S, a, b, c, _⟩
    exact ⟨S, a, b, (e S).mp c⟩
  · rintro ⟨S, a, b, c⟩
    exact ⟨S, a, b, (e S).mpr c, Nat.zero_and _⟩
theorem ms_ltb {S M v : Nat} (h0 : S.testBit v = false) (h1 : M.testBit v = true) (h : ∀ i, v < i → S.testBit i = M.testBit i) : S < M := by
  have e : S / 2 ^ (v + 1) = M / 2 ^ (v + 1) := Nat.eq_of_testBit_eq (fun i => by rw [Nat.testBit_div_two_pow, Nat.testBit_div_two_pow]; exact h _ (by omega))
  have p := Nat.toNat_testBit S v
  have q := Nat.toNat_testBit M v
  rw [h0] at p
  rw [h1] at q
  rw [Nat.pow_succ, ← Nat.div_div_eq_div_mul, ← Nat.div_div_eq_div_mul] at e
  apply Nat.lt_of_div_lt_div (c := 2 ^ v)
  have t1 : true.toNat = 1 := rfl
  have t0 : false.toNat = 0 := rfl
  generalize S / 2 ^ v = s at *
  generalize M / 2 ^ v = t at *
  omega
/-- the first least cover -/
theorem lc_first (hg : gr_ok g) : ∃ M, M < 256 ∧ lc_s g M ∧ ∀ S, S < M → ¬ lc_s g S := by
  obtain ⟨S, hS, h⟩ := lc_ex hg
  have k : ∀ n, ∀ S, S < n → lc_s g S → ∃ M, M ≤ S ∧ lc_s g M ∧ ∀ S, S < M → ¬ lc_s g S := by
    intro n
    induction n with
    | zero => intro S z; exact absurd z (Nat.not_lt_zero S)
    | succ n ih =>
      intro S z q
      by_cases w : ∃ S', S' < S ∧ lc_s g S'
      · obtain ⟨S', w1, w2⟩ := w
        obtain ⟨M, m1, m2, m3⟩ := ih S' (by omega) w2
        exact ⟨M, by omega, m2, m3⟩
      · exact ⟨S, Nat.le_refl S, q, fun S' w1 w2 => w ⟨S', w1, w2⟩⟩
  obtain ⟨M, m1, m2, m3⟩ := k (S + 1) S (by omega) h
  exact ⟨M, by omega, m2, m3⟩
def lc_i (M j : Nat) : Nat := ms_of (fun i => decide (j ≤ i) && M.testBit i) 8
def lc_o (M j : Nat) : Nat := ms_of (fun i => decide (j ≤ i) && !M.testBit i) 8
theorem lc_ilt (M j : Nat) : lc_i M j < 256 := ms_olt2 _ 8
theorem lc_olt (M j : Nat) : lc_o M j < 256 := ms_olt2 _ 8
theorem lc_ib (M j : Nat) {i : Nat} (h : i < 8) : (lc_i M j).testBit i = (decide (j ≤ i) && M.testBit i) := ms_ob8 (fun i => decide (j ≤ i) && M.testBit i) h
theorem lc_ob (M j : Nat) {i : Nat} (h : i < 8) : (lc_o M j).testBit i = (decide (j ≤ i) && !M.testBit i) := ms_ob8 (fun i => decide (j ≤ i) && !M.testBit i) h
theorem lc_i8 (M : Nat) : lc_i M 8 = 0 := (ms_z (lc_ilt M 8)).mpr (fun i hi => by rw [lc_ib M 8 hi, decide_eq_false (by omega), Bool.false_and])
theorem lc_o8 (M : Nat) : lc_o M 8 = 0 := (ms_z (lc_olt M 8)).mpr (fun i hi => by rw [lc_ob M 8 hi, decide_eq_false (by omega), Bool.false_and])
theorem lc_i0 {M : Nat} (h : M < 256) : lc_i M 0 = M := ms_ext (lc_ilt M 0) h (fun i hi => by rw [lc_ib M 0 hi, decide_eq_true (by omega), Bool.true_and])
theorem lc_is {M v : Nat} (hv : v < 8) (h : M.testBit v = true) : lc_i M (v + 1) ||| 2 ^ v = lc_i M v := by
  apply ms_ext (ms_olt (lc_ilt _ _) (ms_plt hv)) (lc_ilt _ _)
  intro i hi
  rw [Nat.testBit_or, lc_ib _ _ hi, lc_ib _ _ hi, ms_bp]
  by_cases e : v = i
  · subst e
    rw [decide_eq_false (by omega), decide_eq_true rfl, decide_eq_true (Nat.le_refl v), h]
    rfl
  · rw [decide_eq_false e, Bool.or_false]
    congr 1
    exact decide_eq_decide.mpr ⟨fun z => by omega, fun z => by omega⟩
theorem lc_ik {M v : Nat} (h : M.testBit v = false) : lc_i M (v + 1) = lc_i M v := by
  apply ms_ext (lc_ilt _ _) (lc_ilt _ _)
  intro i hi
  rw [lc_ib _ _ hi, lc_ib _ _ hi]
  by_cases e : v = i
  · subst e
    rw [h, Bool.and_false, Bool.and_false]
  · congr 1
    exact decide_eq_decide.mpr ⟨fun z => by omega, fun z => by omega⟩
theorem lc_os {M v : Nat} (hv : v < 8) (h : M.testBit v = false) : lc_o M (v + 1) ||| 2 ^ v = lc_o M v := by
  apply ms_ext (ms_olt (lc_olt _ _) (ms_plt hv)) (lc_olt _ _)
  intro i hi
  rw [Nat.testBit_or, lc_ob _ _ hi, lc_ob _ _ hi, ms_bp]
  by_cases e : v = i
  · subst e
    rw [decide_eq_false (by omega), decide_eq_true rfl, decide_eq_true (Nat.le_refl v), h]
    rfl
  · rw [decide_eq_false e, Bool.or_false]
    congr 1
    exact decide_eq_decide.mpr ⟨fun z => by omega, fun z => by omega⟩
theorem lc_ok {M v : Nat} (h : M.testBit v = true) : lc_o M (v + 1) = lc_o M v := by
  apply ms_ext (lc_olt _ _) (lc_olt _ _)
  intro i hi
  rw [lc_ob _ _ hi, lc_ob _ _ hi]
  by_cases e : v = i
  · subst e
    rw [h]
    simp
  · congr 1
    exact decide_eq_decide.mpr ⟨fun z => by omega, fun z => by omega⟩
/-- leaving v out reaches the goal exactly where the first least cover has it not -/
theorem lc_dec (hg : gr_ok g) {M v : Nat} (hM : M < 256) (h1 : lc_s g M) (h2 : ∀ S, S < M → ¬ lc_s g S) (hv : v < 8) : lf_m g (lc_i M (v + 1)) (lc_o M (v + 1) ||| 2 ^ v) = lf_m g 0 0 ↔ M.testBit v = false := by
  rw [lf_goal hg]
  have ho : lc_o M (v + 1) ||| 2 ^ v < 256 := ms_olt (lc_olt _ _) (ms_plt hv)
  constructor
  · rintro ⟨S, hS, k, p, q⟩
    cases e : M.testBit v
    · rfl
    · exfalso
      rw [ms_z (ms_dlt S (lc_ilt _ _))] at p
      rw [ms_z (ms_alt S ho)] at q
      refine h2 S (ms_ltb (v := v) ?_ e ?_) k
      · have := q v hv
        rw [Nat.testBit_and, Nat.testBit_or, ms_bp, decide_eq_true rfl, Bool.or_true, Bool.true_and] at this
        exact this
      · intro i hi
        rcases Nat.lt_or_ge i 8 with l | l
        · have p1 := p i l
          have q1 := q i l
          rw [ms_bd _ _ (lc_ilt _ _), lc_ib _ _ l, decide_eq_true (by omega), Bool.true_and] at p1
          rw [Nat.testBit_and, Nat.testBit_or, lc_ob _ _ l, decide_eq_true (by omega), Bool.true_and, ms_bp, decide_eq_false (by omega), Bool.or_false] at q1
          cases e1 : M.testBit i
          · rw [e1] at q1
            simpa using q1
          · rw [e1] at p1
            simpa using p1
        · rw [ms_hi hS l, ms_hi hM l]
  · intro e
    refine ⟨M, hM, h1, ?_, ?_⟩
    · rw [ms_z (ms_dlt M (lc_ilt _ _))]
      intro i hi
      rw [ms_bd _ _ (lc_ilt _ _), lc_ib _ _ hi]
      cases M.testBit i <;> simp
    · rw [lc_os hv e, ms_z (ms_alt M (lc_olt _ _))]
      intro i hi
      rw [Nat.testBit_and, lc_ob _ _ hi]
      cases M.testBit i <;> simp
theorem yw_lc9 (hg : gr_ok g) (ha : gr_at a g) {post : Int32 → Prop} {M : Nat} (hM : M < 256) (h1 : lc_s g M) (h2 : ∀ S, S < M → ¬ lc_s g S) (h : post (nI M)) : ∀ d k, k + d = M → wY_leastCover_9 post (nI (lf_m g 0 0)) a b c (d + 1) (nI k) := by
  have l := lf_lt hg
  intro d
  induction d with
  | zero =>
    intro k hk
    have e : k = M := by omega
    subst e
    have c8 := ms_c8 k
    exact br_f (x256_nle hM) (yw_count hM (pk_eq (ms_c k) (lf_m g 0 0) (fun z => yw_covers hg ha hM (fun y => br_f (by decide) h) (fun y => absurd h1.1 y)) (fun z => absurd h1.2 z)))
  | succ d ih =>
    intro k hk
    have c8 := ms_c8 k
    have n := h2 k (by omega)
    exact br_f (x256_nle (by omega)) (yw_count (by omega) (pk_eq (ms_c k) (lf_m g 0 0) (fun z => yw_covers hg ha (by omega) (fun y => absurd ⟨y, z⟩ n) (fun y => br_t rfl (nm_r (nI_1 k) (ih (k + 1) (by omega))))) (fun z => nm_r (nI_1 k) (ih (k + 1) (by omega)))))
/-- in all least covers below k -/
noncomputable def lc_all (g : Nat → Nat) (k : Nat) : Nat := ms_of (fun v => tb_p (∀ S, S < k → lc_s g S → S.testBit v = true)) 8
noncomputable def lc_any (g : Nat → Nat) (k : Nat) : Nat := ms_of (fun v => tb_p (∃ S, S < k ∧ lc_s g S ∧ S.testBit v = true)) 8
theorem lc_allb {k v : Nat} (hv : v < 8) : (lc_all g k).testBit v = true ↔ ∀ S, S < k → lc_s g S → S.testBit v = true := by
  unfold lc_all
  rw [ms_ob8 _ hv, tb_iff]
theorem lc_anyb {k v : Nat} (hv : v < 8) : (lc_any g k).testBit v = true ↔ ∃ S, S < k ∧ lc_s g S ∧ S.testBit v = true := by
  unfold lc_any
  rw [ms_ob8 _ hv, tb_iff]
theorem lc_alllt (g : Nat → Nat) (k : Nat) : lc_all g k < 256 := ms_olt2 _ 8
theorem lc_anylt (g : Nat → Nat) (k : Nat) : lc_any g k < 256 := ms_olt2 _ 8
theorem ms_ext2 {a b : Nat} (ha : a < 256) (hb : b < 256) (h : ∀ i, i < 8 → (a.testBit i = true ↔ b.testBit i = true)) : a = b := ms_ext ha hb (fun i hi => by
  have := h i hi
  cases e : a.testBit i
  · cases k : b.testBit i
    · rfl
    · exact absurd (this.mpr k) (by rw [e]; decide)
  · exact (this.mp e).symm)
theorem lc_all0 : lc_all g 0 = 255 := ms_ext2 (lc_alllt g 0) (by decide) (fun i hi => ⟨fun _ => ms_255 hi, fun _ => (lc_allb hi).mpr (fun S z => absurd z (Nat.not_lt_zero S))⟩)
theorem lc_any0 : lc_any g 0 = 0 := ms_ext2 (lc_anylt g 0) (by decide) (fun i hi => ⟨fun z => by
  obtain ⟨S, z, _⟩ := (lc_anyb hi).mp z
  exact absurd z (Nat.not_lt_zero S), fun z => by rw [Nat.zero_testBit] at z; exact absurd z (by decide)⟩)
theorem lc_allk {k : Nat} (h : ¬ lc_s g k) : lc_all g (k + 1) = lc_all g k := ms_ext2 (lc_alllt _ _) (lc_alllt _ _) (fun i hi => by
  rw [lc_allb hi, lc_allb hi]
  constructor
  · exact fun z S l => z S (by omega)
  · intro z S l q
    by_cases e : S = k
    · subst e; exact absurd q h
    · exact z S (by omega) q)
theorem lc_alls {k : Nat} (h : lc_s g k) : lc_all g (k + 1) = lc_all g k &&& k := ms_ext2 (lc_alllt _ _) (ms_alt _ (lc_alllt _ _)) (fun i hi => by
  rw [ms_in, lc_allb hi, lc_allb hi]
  constructor
  · exact fun z => ⟨fun S l => z S (by omega), z k (by omega) h⟩
  · intro z S l q
    by_cases e : S = k
    · subst e; exact z.2
    · exact z.1 S (by omega) q)
theorem lc_anyk {k : Nat} (h : ¬ lc_s g k) : lc_any g (k + 1) = lc_any g k := ms_ext2 (lc_anylt _ _) (lc_anylt _ _) (fun i hi => by
  rw [lc_anyb hi, lc_anyb hi]
  constructor
  · rintro ⟨S, l, q, r⟩
    by_cases e : S = k
    · subst e; exact absurd q h
    · exact ⟨S, by omega, q, r⟩
  · rintro ⟨S, l, q, r⟩
    exact ⟨S, by omega, q, r⟩)
theorem lc_anys {k : Nat} (hk : k < 256) (h : lc_s g k) : lc_any g (k + 1) = lc_any g k ||| k := ms_ext2 (lc_anylt _ _) (ms_olt (lc_anylt _ _) hk) (fun i hi => by
  rw [ms_un, lc_anyb hi, lc_anyb hi]
  constructor
  · rintro ⟨S, l, q, r⟩
    by_cases e : S = k
    · subst e; exact Or.inr r
    · exact Or.inl ⟨S, by omega, q, r⟩
  · rintro (⟨S, l, q, r⟩ | r)
    · exact ⟨S, by omega, q, r⟩
    · exact ⟨k, by omega, h, r⟩)
theorem yw_al13 (hg : gr_ok g) (ha : gr_at a g) {post : Int32 → Prop} (h : post (nI (lc_all g 256))) : ∀ d k, k + d = 256 → wY_always_13 post (nI (lf_m g 0 0)) a b c (d + 1) (nI (lc_all g k)) (nI k) := by
  have l := lf_lt hg
  intro d
  induction d with
  | zero =>
    intro k hk
    have e : k = 256 := by omega
    subst e
    exact br_t x256_le h
  | succ d ih =>
    intro k hk
    have c8 := ms_c8 k
    have q := ih (k + 1) (by omega)
    refine br_f (x256_nle (by omega)) (yw_count (by omega) (pk_eq (ms_c k) (lf_m g 0 0) (fun z => yw_covers hg ha (by omega) (fun y => br_f (by decide) (nm_r (e' := nI (lc_all g (k + 1))) ?_ (nm_r (nI_1 k) q))) (fun y => br_t rfl (nm_r (nI_1 k) ?_))) (fun z => nm_r (nI_1 k) ?_)))
    · rw [nx_and, lc_alls ⟨y, z⟩]
    · rw [lc_allk (fun w => y w.1)] at q
      exact q
    · rw [lc_allk (fun w => z w.2)] at q
      exact q
theorem yw_ne11 (hg : gr_ok g) (ha : gr_at a g) {post : Int32 → Prop} (h : post (nI (ms_d 255 (lc_any g 256)))) : ∀ d k, k + d = 256 → wY_never_11 post (nI (lf_m g 0 0)) a b c (d + 1) (nI (lc_any g k)) (nI k) := by
  have l := lf_lt hg
  intro d
  induction d with
  | zero =>
    intro k hk
    have e : k = 256 := by omega
    subst e
    refine br_t x256_le ?_
    rw [show (255 : Int32) = nI 255 from rfl, xb_not]
    exact h
  | succ d ih =>
    intro k hk
    have c8 := ms_c8 k
    have q := ih (k + 1) (by omega)
    refine br_f (x256_nle (by omega)) (yw_count (by omega) (pk_eq (ms_c k) (lf_m g 0 0) (fun z => yw_covers hg ha (by omega) (fun y => br_f (by decide) (nm_r (e' := nI (lc_any g (k + 1))) ?_ (nm_r (nI_1 k) q))) (fun y => br_t rfl (nm_r (nI_1 k) ?_))) (fun z => nm_r (nI_1 k) ?_)))
    · rw [xb_or, lc_anys (by omega) ⟨y, z⟩]
    · rw [lc_anyk (fun w => y w.1)] at q
      exact q
    · rw [lc_anyk (fun w => z w.2)] at q
      exact q
theorem yw_always (hg : gr_ok g) (ha : gr_at a g) {post : Int32 → Prop} (h : post (nI (lc_all g 256))) : wpY_always post (a, b, c) := by
  unfold wpY_always
  have q := yw_al13 (b := b) (c := c) hg ha h 256 0 rfl
  rw [lc_all0] at q
  exact yw_lo00 hg ha ⟨257, q⟩
theorem yw_never (hg : gr_ok g) (ha : gr_at a g) {post : Int32 → Prop} (h : post (nI (ms_d 255 (lc_any g 256)))) : wpY_never post (a, b, c) := by
  unfold wpY_never
  have q := yw_ne11 (b := b) (c := c) hg ha h 256 0 rfl
  rw [lc_any0] at q
  exact yw_lo00 hg ha ⟨257, q⟩
end
end
section
section
variable {fb : Int32} {aj lo tk pa cf li pr ch op ps : Nat → Int32} {g : Nat → Nat}
theorem mi_vn {x y : Nat} (hy : y < 100) (hx : x ≤ 100) (h : x ≠ y) : ¬ mi_v x = nI y := by
  intro z
  by_cases e : x = 100
  · subst e
    have k : ¬ nI y < 0 := nI_pos (by omega)
    rw [← z] at k
    exact k (by decide)
  · rw [xb_mv (by omega), nI_eq (by omega) (by omega)] at z
    exact h z
theorem xw_lc13 (hg : gr_ok g) (ha : gr_at aj g) {post : Int32 → SX → Prop} {M : Nat} (hM : M < 256) (h1 : lc_s g M) (h2 : ∀ S, S < M → ¬ lc_s g S) (h : ∀ fb lo tk, post (nI M) (fb, aj, lo, tk, pa, cf, li, pr, ch, op, ps)) : ∀ j : Nat, j ≤ 8 → ∀ fb lo tk, wX_leastCover_13 post (nI (lf_m g 0 0)) (j + 1) (nI (lc_i M j)) (nI (lc_o M j)) (nI j + (-1)) fb aj lo tk pa cf li pr ch op ps := by
  intro j
  induction j with
  | zero =>
    intro _ fb lo tk
    refine br_t (by decide) ?_
    rw [lc_i0 hM]
    exact h fb lo tk
  | succ v ih =>
    intro hv fb lo tk
    rw [pk_m1]
    refine br_f (nI_pos (by omega)) ?_
    rw [xb_shl v (by omega), xb_or (lc_o M (v + 1)) (2 ^ v), xb_or (lc_i M (v + 1)) (2 ^ v)]
    refine xw_forced hg ha (lc_ilt _ _) (ms_olt (lc_olt _ _) (ms_plt (by omega))) (fun fb lo tk => ?_)
    have z := ih (by omega) fb lo tk
    have q := lc_dec hg hM h1 h2 (v := v) (by omega)
    cases e : M.testBit v
    · rw [q.mpr e, xb_mv (lf_lt hg)]
      refine br_t rfl (nm_e (nm_e ?_))
      rw [← lc_ik e, ← lc_os (by omega) e] at z
      exact z
    · refine br_f (mi_vn (lf_lt hg) (mi_100 _ _ _) (fun y => ?_)) (nm_e (nm_e ?_))
      · rw [q.mp y] at e
        exact absurd e (by decide)
      · rw [← lc_ok e, ← lc_is (by omega) e] at z
        exact z
theorem xw_leastCover (hg : gr_ok g) (ha : gr_at aj g) {post : Int32 → SX → Prop} {M : Nat} (hM : M < 256) (h1 : lc_s g M) (h2 : ∀ S, S < M → ¬ lc_s g S) (h : ∀ fb lo tk, post (nI M) (fb, aj, lo, tk, pa, cf, li, pr, ch, op, ps)) : wpX_leastCover post (fb, aj, lo, tk, pa, cf, li, pr, ch, op, ps) := by
  unfold wpX_leastCover
  refine xw_least hg ha (fun fb lo tk => ?_)
  have k := xw_lc13 hg ha hM h1 h2 h 8 (by omega) fb lo tk
  rw [lc_i8, lc_o8, lf_00 hg] at k
  exact ⟨9, k⟩
theorem xw_al9 (hg : gr_ok g) (ha : gr_at aj g) {post : Int32 → SX → Prop} (h : ∀ fb lo tk, post (nI (ms_of (fun v => tb_p (¬ lf_m g 0 (2 ^ v) = lf_m g 0 0)) 8)) (fb, aj, lo, tk, pa, cf, li, pr, ch, op, ps)) : ∀ d i, i + d = 8 → ∀ fb lo tk, wX_always_9 post (nI (lf_m g 0 0)) (d + 1) (nI (ms_of (fun v => tb_p (¬ lf_m g 0 (2 ^ v) = lf_m g 0 0)) i)) (nI i) fb aj lo tk pa cf li pr ch op ps := by
  intro d
  induction d with
  | zero =>
    intro i hi fb lo tk
    have e : i = 8 := by omega
    subst e
    exact br_t x8_le (h fb lo tk)
  | succ d ih =>
    intro i hi fb lo tk
    refine br_f (x8_nle (by omega)) ?_
    rw [xb_shl i (by omega)]
    refine xw_forced (i := 0) hg ha (by decide) (ms_plt (by omega)) (fun fb lo tk => ?_)
    have z := ih (i + 1) (by omega) fb lo tk
    by_cases e : lf_m g 0 (2 ^ i) = lf_m g 0 0
    · rw [e, xb_mv (lf_lt hg)]
      refine br_t rfl (nm_r (e' := nI (ms_of (fun v => tb_p (¬ lf_m g 0 (2 ^ v) = lf_m g 0 0)) (i + 1))) ?_ (nm_r (nI_1 i) z))
      show nI _ ||| nI 0 = nI (ms_of _ i ||| (if tb_p (¬ lf_m g 0 (2 ^ i) = lf_m g 0 0) = true then 2 ^ i else 0))
      rw [xb_or, if_neg (by rw [tb_f (fun y => y e)]; decide)]
    · refine br_f (mi_vn (lf_lt hg) (mi_100 _ _ _) e) (nm_r (e' := nI (ms_of (fun v => tb_p (¬ lf_m g 0 (2 ^ v) = lf_m g 0 0)) (i + 1))) ?_ (nm_r (nI_1 i) z))
      show nI _ ||| nI (2 ^ i) = nI (ms_of _ i ||| (if tb_p (¬ lf_m g 0 (2 ^ i) = lf_m g 0 0) = true then 2 ^ i else 0))
      rw [xb_or, if_pos (tb_t e)]
theorem xw_ne9 (hg : gr_ok g) (ha : gr_at aj g) {post : Int32 → SX → Prop} (h : ∀ fb lo tk, post (nI (ms_of (fun v => tb_p (¬ lf_m g (2 ^ v) 0 = lf_m g 0 0)) 8)) (fb, aj, lo, tk, pa, cf, li, pr, ch, op, ps)) : ∀ d i, i + d = 8 → ∀ fb lo tk, wX_never_9 post (nI (lf_m g 0 0)) (d + 1) (nI (ms_of (fun v => tb_p (¬ lf_m g (2 ^ v) 0 = lf_m g 0 0)) i)) (nI i) fb aj lo tk pa cf li pr ch op ps := by
  intro d
  induction d with
  | zero =>
    intro i hi fb lo tk
    have e : i = 8 := by omega
    subst e
    exact br_t x8_le (h fb lo tk)
  | succ d ih =>
    intro i hi fb lo tk
    refine br_f (x8_nle (by omega)) ?_
    rw [xb_shl i (by omega)]
    refine xw_forced (o := 0) hg ha (ms_plt (by omega)) (by decide) (fun fb lo tk => ?_)
    have z := ih (i + 1) (by omega) fb lo tk
    by_cases e : lf_m g (2 ^ i) 0 = lf_m g 0 0
    · rw [e, xb_mv (lf_lt hg)]
      refine br_t rfl (nm_r (e' := nI (ms_of (fun v => tb_p (¬ lf_m g (2 ^ v) 0 = lf_m g 0 0)) (i + 1))) ?_ (nm_r (nI_1 i) z))
      show nI _ ||| nI 0 = nI (ms_of _ i ||| (if tb_p (¬ lf_m g (2 ^ i) 0 = lf_m g 0 0) = true then 2 ^ i else 0))
      rw [xb_or, if_neg (by rw [tb_f (fun y => y e)]; decide)]
    · refine br_f (mi_vn (lf_lt hg) (mi_100 _ _ _) e) (nm_r (e' := nI (ms_of (fun v => tb_p (¬ lf_m g (2 ^ v) 0 = lf_m g 0 0)) (i + 1))) ?_ (nm_r (nI_1 i) z))
      show nI _ ||| nI (2 ^ i) = nI (ms_of _ i ||| (if tb_p (¬ lf_m g (2 ^ i) 0 = lf_m g 0 0) = true then 2 ^ i else 0))
      rw [xb_or, if_pos (tb_t e)]
theorem lc_alleq (hg : gr_ok g) : ms_of (fun v => tb_p (¬ lf_m g 0 (2 ^ v) = lf_m g 0 0)) 8 = lc_all g 256 := ms_ext2 (ms_olt2 _ 8) (lc_alllt _ _) (fun i hi => by
  rw [ms_ob8 _ hi, tb_iff, lf_out hg hi, lc_allb hi]
  constructor
  · intro h S hS k
    cases e : S.testBit i
    · exact absurd ⟨S, hS, k, e⟩ h
    · rfl
  · rintro h ⟨S, hS, k, e⟩
    rw [h S hS k] at e
    exact absurd e (by decide))
theorem lc_anyeq (hg : gr_ok g) : ms_of (fun v => tb_p (¬ lf_m g (2 ^ v) 0 = lf_m g 0 0)) 8 = ms_d 255 (lc_any g 256) := ms_ext2 (ms_olt2 _ 8) (ms_dlt _ (by decide)) (fun i hi => by
  rw [ms_ob8 _ hi, tb_iff, lf_in hg hi, ms_df (by decide), lc_anyb hi]
  exact ⟨fun h => ⟨ms_255 hi, h⟩, fun h => h.2⟩)
theorem xw_always (hg : gr_ok g) (ha : gr_at aj g) {post : Int32 → SX → Prop} (h : ∀ fb lo tk, post (nI (lc_all g 256)) (fb, aj, lo, tk, pa, cf, li, pr, ch, op, ps)) : wpX_always post (fb, aj, lo, tk, pa, cf, li, pr, ch, op, ps) := by
  unfold wpX_always
  rw [← lc_alleq hg] at h
  refine xw_least hg ha (fun fb lo tk => ?_)
  have k := xw_al9 hg ha h 8 0 rfl fb lo tk
  rw [lf_00 hg] at k
  exact ⟨9, k⟩
theorem xw_never (hg : gr_ok g) (ha : gr_at aj g) {post : Int32 → SX → Prop} (h : ∀ fb lo tk, post (nI (ms_d 255 (lc_any g 256))) (fb, aj, lo, tk, pa, cf, li, pr, ch, op, ps)) : wpX_never post (fb, aj, lo, tk, pa, cf, li, pr, ch, op, ps) := by
  unfold wpX_never
  rw [← lc_anyeq hg] at h
  refine xw_least hg ha (fun fb lo tk => ?_)
  have k := xw_ne9 hg ha h 8 0 rfl fb lo tk
  rw [lf_00 hg] at k
  exact ⟨9, k⟩
end
/-! the relation and the plain methods -/
def i_Rel (_k : Nat) (u : SX) (v : SY) : Prop := u.2.1 = v.1 ∧ ∃ g, gr_ok g ∧ gr_at v.1 g
theorem i_up {k : Nat} {u : SX} {v : SY} (h : i_Rel k u v) : i_Rel (k + 4) u v := h
theorem i_vc0 : wpX_init (fun u => wpY_init (fun v => i_Rel 0 u v)) := by
  refine ⟨rfl, fun _ => 0, ⟨fun _ _ => (by decide : 0 < 256), fun _ _ _ _ => ?_, fun _ _ => Nat.zero_testBit _⟩, fun _ _ => rfl⟩
  show Nat.testBit 0 _ = Nat.testBit 0 _
  rw [Nat.zero_testBit, Nat.zero_testBit]
theorem re_el {P : SX → SY → Prop} {k : Nat} {u : SX} {v : SY} (I : i_Rel k u v) (h : ∀ (fb : Int32) (aj lo tk pa cf li pr ch op ps b c : Nat → Int32) (g : Nat → Nat), gr_ok g → gr_at aj g → P (fb, aj, lo, tk, pa, cf, li, pr, ch, op, ps) (aj, b, c)) : P u v := by
  obtain ⟨fb, aj, lo, tk, pa, cf, li, pr, ch, op, ps⟩ := u
  obtain ⟨a, b, c⟩ := v
  obtain ⟨e, g, hg, ha⟩ := I
  have e : aj = a := e
  subst e
  exact h fb aj lo tk pa cf li pr ch op ps b c g hg ha
theorem re_in {k : Nat} {fb : Int32} {aj lo tk pa cf li pr ch op ps b c : Nat → Int32} {g : Nat → Nat} (hg : gr_ok g) (ha : gr_at aj g) : i_Rel k (fb, aj, lo, tk, pa, cf, li, pr, ch, op, ps) (aj, b, c) := ⟨rfl, g, hg, ha⟩
theorem i_vc_least {k : Nat} {u : SX} {v : SY} (I : i_Rel k u v) (hk : k + 4 ≤ 2048) : wpX_least (fun r u' => wpY_least (fun r' => r' = r ∧ i_Rel (k + 4) u' v) v) u := by
  refine re_el (P := fun u v => wpX_least (fun r u' => wpY_least (fun r' => r' = r ∧ i_Rel (k + 4) u' v) v) u) I ?_
  intro fb aj lo tk pa cf li pr ch op ps b c g hg ha
  refine xw_least hg ha (fun fb lo tk => ?_)
  unfold wpY_least
  exact yw_lo00 hg ha ⟨by rw [lf_00 hg], re_in hg ha⟩
theorem i_vc_leastCover {k : Nat} {u : SX} {v : SY} (I : i_Rel k u v) (hk : k + 4 ≤ 2048) : wpX_leastCover (fun r u' => wpY_leastCover (fun r' => r' = r ∧ i_Rel (k + 4) u' v) v) u := by
  refine re_el (P := fun u v => wpX_leastCover (fun r u' => wpY_leastCover (fun r' => r' = r ∧ i_Rel (k + 4) u' v) v) u) I ?_
  intro fb aj lo tk pa cf li pr ch op ps b c g hg ha
  obtain ⟨M, hM, h1, h2⟩ := lc_first hg
  refine xw_leastCover hg ha hM h1 h2 (fun fb lo tk => ?_)
  unfold wpY_leastCover
  exact yw_lo00 hg ha ⟨M + 1, yw_lc9 hg ha hM h1 h2 ⟨rfl, re_in hg ha⟩ M 0 (Nat.zero_add M)⟩
theorem i_vc_always {k : Nat} {u : SX} {v : SY} (I : i_Rel k u v) (hk : k + 4 ≤ 2048) : wpX_always (fun r u' => wpY_always (fun r' => r' = r ∧ i_Rel (k + 4) u' v) v) u := by
  refine re_el (P := fun u v => wpX_always (fun r u' => wpY_always (fun r' => r' = r ∧ i_Rel (k + 4) u' v) v) u) I ?_
  intro fb aj lo tk pa cf li pr ch op ps b c g hg ha
  exact xw_always hg ha (fun fb lo tk => yw_always hg ha ⟨rfl, re_in hg ha⟩)
theorem i_vc_never {k : Nat} {u : SX} {v : SY} (I : i_Rel k u v) (hk : k + 4 ≤ 2048) : wpX_never (fun r u' => wpY_never (fun r' => r' = r ∧ i_Rel (k + 4) u' v) v) u := by
  refine re_el (P := fun u v => wpX_never (fun r u' => wpY_never (fun r' => r' = r ∧ i_Rel (k + 4) u' v) v) u) I ?_
  intro fb aj lo tk pa cf li pr ch op ps b c g hg ha
  exact xw_never hg ha (fun fb lo tk => yw_never hg ha ⟨rfl, re_in hg ha⟩)
theorem i_vc_leastWith {k : Nat} {u : SX} {v : SY} (I : i_Rel k u v) (hk : k + 4 ≤ 2048) (v1 : Int32) (v2 : Int32) : wpX_leastWith (fun r u' => wpY_leastWith (fun r' => r' = r ∧ i_Rel (k + 4) u' v) v v1 v2) u v1 v2 := by
  refine re_el (P := fun u v => wpX_leastWith (fun r u' => wpY_leastWith (fun r' => r' = r ∧ i_Rel (k + 4) u' v) v v1 v2) u v1 v2) I ?_
  intro fb aj lo tk pa cf li pr ch op ps b c g hg ha
  by_cases a0 : v1 < 0
  · exact br_t a0 (br_t a0 ⟨rfl, re_in hg ha⟩)
  by_cases a1 : 255 < v1
  · exact br_f a0 (br_t a1 (br_f a0 (br_t a1 ⟨rfl, re_in hg ha⟩)))
  by_cases b0 : v2 < 0
  · exact br_f a0 (br_f a1 (br_t b0 (br_f a0 (br_f a1 (br_t b0 ⟨rfl, re_in hg ha⟩)))))
  by_cases b1 : v2 ≤ 255
  · obtain ⟨i, hi, rfl⟩ := nI_of2 (n := 255) (M := 255) (by decide) a0 (Int32.not_lt.mp a1)
    obtain ⟨o, ho, rfl⟩ := nI_of2 (n := 255) (M := 255) (by decide) b0 b1
    refine br_f a0 (br_f a1 (br_f b0 (br_t b1 ?_)))
    refine xw_forced hg ha (by omega) (by omega) (fun fb lo tk => ?_)
    refine br_f a0 (br_f a1 (br_f b0 (br_t b1 ?_)))
    exact yw_leastOf hg ha (by omega) (by omega) ⟨rfl, re_in hg ha⟩
  · exact br_f a0 (br_f a1 (br_f b0 (br_f b1 (br_f a0 (br_f a1 (br_f b0 (br_f b1 ⟨rfl, re_in hg ha⟩)))))))
end
section
/-! join -/
theorem gr_join {g : Nat → Nat} (hg : gr_ok g) {a b x y : Nat} {on : Bool} (ha : a < 8) (hb : b < 8) (ne : a ≠ b) (lx : x < 256) (ly : y < 256) (hx : ∀ w, w < 8 → x.testBit w = if w = b then on else (g a).testBit w) (hy : ∀ w, w < 8 → y.testBit w = if w = a then on else (g b).testBit w) : gr_ok (nu_f (nu_f g a x) b y) := by
  have fa : nu_f (nu_f g a x) b y a = x := by rw [nu_n ne, nu_s]
  have fb : nu_f (nu_f g a x) b y b = y := nu_s
  have fo : ∀ v, v ≠ a → v ≠ b → nu_f (nu_f g a x) b y v = g v := fun v h1 h2 => by rw [nu_n h2, nu_n h1]
  refine ⟨fun v hv => ?_, fun v w hv hw => ?_, fun v hv => ?_⟩
  · by_cases e1 : v = a
    · subst e1; rw [fa]; exact lx
    · by_cases e2 : v = b
      · subst e2; rw [fb]; exact ly
      · rw [fo v e1 e2]; exact hg.1 v hv
  · by_cases v1 : v = a
    · subst v1
      rw [fa, hx w hw]
      by_cases w1 : w = v
      · subst w1
        rw [fa, hx w hw]
      · by_cases w2 : w = b
        · subst w2
          rw [fb, hy v hv, if_pos rfl, if_pos rfl]
        · rw [fo w w1 w2, if_neg w2]
          exact hg.2.1 v w hv hw
    · by_cases v2 : v = b
      · subst v2
        rw [fb, hy w hw]
        by_cases w1 : w = a
        · subst w1
          rw [fa, hx v hv, if_pos rfl, if_pos rfl]
        · by_cases w2 : w = v
          · subst w2
            rw [fb, hy w hw]
          · rw [fo w w1 w2, if_neg w1]
            exact hg.2.1 v w hv hw
      · rw [fo v v1 v2]
        by_cases w1 : w = a
        · subst w1
          rw [fa, hx v hv, if_neg v2]
          exact hg.2.1 v w hv hw
        · by_cases w2 : w = b
          · subst w2
            rw [fb, hy v hv, if_neg v1]
            exact hg.2.1 v w hv hw
          · rw [fo w w1 w2]
            exact hg.2.1 v w hv hw
  · by_cases e1 : v = a
    · subst e1
      rw [fa, hx v hv, if_neg ne]
      exact hg.2.2 v hv
    · by_cases e2 : v = b
      · subst e2
        rw [fb, hy v hv, if_neg (Ne.symm ne)]
        exact hg.2.2 v hv
      · rw [fo v e1 e2]
        exact hg.2.2 v hv
theorem gr_bon {m b : Nat} (w : Nat) : (m ||| 2 ^ b).testBit w = if w = b then true else m.testBit w := by
  rw [Nat.testBit_or, ms_bp]
  by_cases e : w = b
  · rw [if_pos e, decide_eq_true e.symm, Bool.or_true]
  · rw [if_neg e, decide_eq_false (Ne.symm e), Bool.or_false]
theorem gr_boff {m b : Nat} (hm : m < 256) (w : Nat) : (ms_d m (2 ^ b)).testBit w = if w = b then false else m.testBit w := by
  rw [ms_bd _ _ hm, ms_bp]
  by_cases e : w = b
  · rw [if_pos e, decide_eq_true e.symm]
    exact Bool.and_false _
  · rw [if_neg e, decide_eq_false (Ne.symm e)]
    exact Bool.and_true _
theorem gr_at2 {aj : Nat → Int32} {g : Nat → Nat} (h : gr_at aj g) (a b x y : Nat) : gr_at (upd (upd aj a (nI x)) b (nI y)) (nu_f (nu_f g a x) b y) := by
  intro j hj
  by_cases e : j = b
  · subst e
    rw [pk_us, nu_s]
  · rw [pk_un e, nu_n e]
    by_cases e2 : j = a
    · subst e2
      rw [pk_us, nu_s]
    · rw [pk_un e2, nu_n e2]
      exact h j hj
section
variable {fb : Int32} {aj lo tk pa cf li pr ch op ps : Nat → Int32} {b' c' : Nat → Int32} {g : Nat → Nat}
theorem xw_joinF {post : Int32 → SX → Prop} {v1 v2 p : Int32} (h : ¬ ∃ a b, a < 8 ∧ b < 8 ∧ a ≠ b ∧ v1 = nI a ∧ v2 = nI b) (k : post 0 (fb, aj, lo, tk, pa, cf, li, pr, ch, op, ps)) : wpX_join post (fb, aj, lo, tk, pa, cf, li, pr, ch, op, ps) v1 v2 p := by
  unfold wpX_join
  refine xw_isV v1 (fun _ => br_t rfl k) (fun a ha ea => br_f (by decide) (xw_isV v2 (fun _ => br_t rfl k) (fun b hb eb => br_f (by decide) ?_)))
  by_cases e : v1 = v2
  · exact br_t e k
  · exact absurd ⟨a, b, ha, hb, fun z => e (by rw [ea, eb, z]), ea, eb⟩ h
theorem yw_joinF {post : Int32 → SY → Prop} {v1 v2 p : Int32} (h : ¬ ∃ a b, a < 8 ∧ b < 8 ∧ a ≠ b ∧ v1 = nI a ∧ v2 = nI b) (k : post 0 (aj, b', c')) : wpY_join post (aj, b', c') v1 v2 p := by
  unfold wpY_join
  by_cases e : v1 = v2
  · exact br_t e k
  · refine br_f e (yw_V v1 (fun _ => br_t rfl k) (fun a ha ea => br_f (by decide) (yw_V v2 (fun _ => br_t rfl k) (fun b hb eb => ?_))))
    exact absurd ⟨a, b, ha, hb, fun z => e (by rw [ea, eb, z]), ea, eb⟩ h
theorem xw_join1 (hg : gr_ok g) (hat : gr_at aj g) {post : Int32 → SX → Prop} {a b : Nat} (ha : a < 8) (hb : b < 8) (ne : a ≠ b) (k : post 1 (fb, upd (upd aj a (nI (g a ||| 2 ^ b))) b (nI (g b ||| 2 ^ a)), lo, tk, pa, cf, li, pr, ch, op, ps)) : wpX_join post (fb, aj, lo, tk, pa, cf, li, pr, ch, op, ps) (nI a) (nI b) 1 := by
  unfold wpX_join
  refine xw_isV _ (fun z => absurd ⟨a, ha, rfl⟩ z) (fun _ _ _ => br_f (by decide) (xw_isV _ (fun z => absurd ⟨b, hb, rfl⟩ z) (fun _ _ _ => br_f (by decide) (pk_eq a b (fun e => absurd e ne) (fun _ => br_f (by decide) ⟨x8_in ha, ?_⟩)))))
  refine ⟨x8_in ha, nm_r (e' := upd aj a (nI (g a ||| 2 ^ b))) ?_ (br_f (by decide) ⟨x8_in hb, x8_in hb, nm_r (e' := upd (upd aj a (nI (g a ||| 2 ^ b))) b (nI (g b ||| 2 ^ a))) ?_ k⟩)⟩
  · rw [gr_get hat ha, xb_shl b hb, xb_or, xb_sh (ms_olt (hg.1 a ha) (ms_plt hb)), nI_clamp (by omega)]
  · rw [nI_clamp (n := b) (by omega), pk_un (Ne.symm ne), hat b hb, xb_shl a ha, xb_or, xb_sh (ms_olt (hg.1 b hb) (ms_plt ha))]
theorem xw_join0 (hg : gr_ok g) (hat : gr_at aj g) {post : Int32 → SX → Prop} {a b : Nat} (ha : a < 8) (hb : b < 8) (ne : a ≠ b) (k : post 1 (fb, upd (upd aj a (nI (ms_d (g a) (2 ^ b)))) b (nI (ms_d (g b) (2 ^ a))), lo, tk, pa, cf, li, pr, ch, op, ps)) : wpX_join post (fb, aj, lo, tk, pa, cf, li, pr, ch, op, ps) (nI a) (nI b) 0 := by
  unfold wpX_join
  refine xw_isV _ (fun z => absurd ⟨a, ha, rfl⟩ z) (fun _ _ _ => br_f (by decide) (xw_isV _ (fun z => absurd ⟨b, hb, rfl⟩ z) (fun _ _ _ => br_f (by decide) (pk_eq a b (fun e => absurd e ne) (fun _ => br_t rfl ⟨x8_in ha, ?_⟩)))))
  refine ⟨x8_in ha, nm_r (e' := upd aj a (nI (ms_d (g a) (2 ^ b)))) ?_ (br_t rfl ⟨x8_in hb, x8_in hb, nm_r (e' := upd (upd aj a (nI (ms_d (g a) (2 ^ b)))) b (nI (ms_d (g b) (2 ^ a)))) ?_ k⟩)⟩
  · rw [gr_get hat ha, xb_shl b hb, xb_not, xb_sh (ms_dlt _ (hg.1 a ha)), nI_clamp (by omega)]
  · rw [nI_clamp (n := b) (by omega), pk_un (Ne.symm ne), hat b hb, xb_shl a ha, xb_not, xb_sh (ms_dlt _ (hg.1 b hb))]
theorem yw_join1 (hat : gr_at aj g) {post : Int32 → SY → Prop} {a b : Nat} (ha : a < 8) (hb : b < 8) (ne : a ≠ b) (k : post 1 (upd (upd aj a (nI (g a ||| 2 ^ b))) b (nI (g b ||| 2 ^ a)), b', c')) : wpY_join post (aj, b', c') (nI a) (nI b) 1 := by
  unfold wpY_join
  refine pk_eq a b (fun e => absurd e ne) (fun _ => yw_V _ (fun z => absurd ⟨a, ha, rfl⟩ z) (fun _ _ _ => br_f (by decide) (yw_V _ (fun z => absurd ⟨b, hb, rfl⟩ z) (fun _ _ _ => br_f (by decide) (br_f (by decide) ⟨x8_in ha, ?_⟩)))))
  refine ⟨x8_in ha, nm_r (e' := upd aj a (nI (g a ||| 2 ^ b))) ?_ (br_f (by decide) ⟨x8_in hb, x8_in hb, nm_r (e' := upd (upd aj a (nI (g a ||| 2 ^ b))) b (nI (g b ||| 2 ^ a))) ?_ k⟩)⟩
  · rw [gr_get hat ha, xb_shl b hb, xb_or, nI_clamp (by omega)]
  · rw [nI_clamp (n := b) (by omega), pk_un (Ne.symm ne), hat b hb, xb_shl a ha, xb_or]
theorem yw_join0 (hat : gr_at aj g) {post : Int32 → SY → Prop} {a b : Nat} (ha : a < 8) (hb : b < 8) (ne : a ≠ b) (k : post 1 (upd (upd aj a (nI (ms_d (g a) (2 ^ b)))) b (nI (ms_d (g b) (2 ^ a))), b', c')) : wpY_join post (aj, b', c') (nI a) (nI b) 0 := by
  unfold wpY_join
  refine pk_eq a b (fun e => absurd e ne) (fun _ => yw_V _ (fun z => absurd ⟨a, ha, rfl⟩ z) (fun _ _ _ => br_f (by decide) (yw_V _ (fun z => absurd ⟨b, hb, rfl⟩ z) (fun _ _ _ => br_f (by decide) (br_t rfl ⟨x8_in ha, ?_⟩)))))
  refine ⟨x8_in ha, nm_r (e' := upd aj a (nI (ms_d (g a) (2 ^ b)))) ?_ (br_t rfl ⟨x8_in hb, x8_in hb, nm_r (e' := upd (upd aj a (nI (ms_d (g a) (2 ^ b)))) b (nI (ms_d (g b) (2 ^ a)))) ?_ k⟩)⟩
  · rw [gr_get hat ha, xb_shl b hb, xb_not, nI_clamp (by omega)]
  · rw [nI_clamp (n := b) (by omega), pk_un (Ne.symm ne), hat b hb, xb_shl a ha, xb_not]
/-! edges -/
def gr_e (g : Nat → Nat) : Nat → Nat
  | 0 => 0
  | n + 1 => gr_e g n + ms_c (g n)
theorem xw_ed4 (hg : gr_ok g) (ha : gr_at aj g) {post : Int32 → Prop} (h : post (nI (gr_e g 8) / 2)) : ∀ d i, i + d = 8 → wX_edges_4 post fb aj lo tk pa cf li pr ch op ps (d + 1) (nI (gr_e g i)) (nI i) := by
  intro d
  induction d with
  | zero =>
    intro i hi
    have e : i = 8 := by omega
    subst e
    exact br_t x8_le ⟨by decide, h⟩
  | succ d ih =>
    intro i hi
    refine br_f (x8_nle (by omega)) ⟨x8_in (by omega), ?_⟩
    rw [gr_get ha (by omega)]
    refine xw_ones (hg.1 i (by omega)) (nm_r (e' := nI (gr_e g (i + 1))) ?_ (nm_r (nI_1 i) (ih (i + 1) (by omega))))
    rw [nI_add]
    rfl
theorem yw_ed4 (hg : gr_ok g) (ha : gr_at aj g) {post : Int32 → Prop} (h : post (nI (gr_e g 8) / 2)) : ∀ d i, i + d = 8 → wY_edges_4 post aj b' c' (d + 1) (nI (gr_e g i)) (nI i) := by
  intro d
  induction d with
  | zero =>
    intro i hi
    have e : i = 8 := by omega
    subst e
    exact br_t x8_le ⟨by decide, h⟩
  | succ d ih =>
    intro i hi
    refine br_f (x8_nle (by omega)) ⟨x8_in (by omega), ?_⟩
    rw [gr_get ha (by omega)]
    refine yw_count (hg.1 i (by omega)) (nm_r (e' := nI (gr_e g (i + 1))) ?_ (nm_r (nI_1 i) (ih (i + 1) (by omega))))
    rw [nI_add]
    rfl
end
theorem i_vc_join {k : Nat} {u : SX} {v : SY} (I : i_Rel k u v) (hk : k + 4 ≤ 2048) (v1 : Int32) (v2 : Int32) (v3 : Int32) : wpX_join (fun r u' => wpY_join (fun r' v' => r' = r ∧ i_Rel (k + 4) u' v') v v1 v2 (lw_bz v3)) u v1 v2 (lw_bz v3) := by
  refine re_el (P := fun u v => wpX_join (fun r u' => wpY_join (fun r' v' => r' = r ∧ i_Rel (k + 4) u' v') v v1 v2 (lw_bz v3)) u v1 v2 (lw_bz v3)) I ?_
  intro fb aj lo tk pa cf li pr ch op ps b c g hg hat
  by_cases z : ∃ a b, a < 8 ∧ b < 8 ∧ a ≠ b ∧ v1 = nI a ∧ v2 = nI b
  · obtain ⟨x, y, hx, hy, ne, rfl, rfl⟩ := z
    rcases lw_bz_01 v3 with e | e
    · rw [e]
      exact xw_join0 hg hat hx hy ne (yw_join0 hat hx hy ne ⟨rfl, re_in (gr_join (on := false) hg hx hy ne (ms_dlt _ (hg.1 x hx)) (ms_dlt _ (hg.1 y hy)) (fun w _ => gr_boff (hg.1 x hx) w) (fun w _ => gr_boff (hg.1 y hy) w)) (gr_at2 hat x y _ _)⟩)
    · rw [e]
      exact xw_join1 hg hat hx hy ne (yw_join1 hat hx hy ne ⟨rfl, re_in (gr_join (on := true) hg hx hy ne (ms_olt (hg.1 x hx) (ms_plt hy)) (ms_olt (hg.1 y hy) (ms_plt hx)) (fun w _ => gr_bon w) (fun w _ => gr_bon w)) (gr_at2 hat x y _ _)⟩)
  · exact xw_joinF z (yw_joinF z ⟨rfl, re_in hg hat⟩)
theorem i_vc_neighbours {k : Nat} {u : SX} {v : SY} (I : i_Rel k u v) (hk : k + 4 ≤ 2048) (v1 : Int32) : wpX_neighbours (fun r => wpY_neighbours (fun r' => r' = r ∧ i_Rel (k + 4) u v) v v1) u v1 := by
  refine re_el (P := fun u v => wpX_neighbours (fun r => wpY_neighbours (fun r' => r' = r ∧ i_Rel (k + 4) u v) v v1) u v1) I ?_
  intro fb aj lo tk pa cf li pr ch op ps b c g hg ha
  unfold wpX_neighbours wpY_neighbours
  refine xw_isV v1 (fun z => br_t rfl (yw_V v1 (fun _ => br_t rfl ⟨rfl, re_in hg ha⟩) (fun j hj e => absurd ⟨j, hj, e⟩ z))) (fun j hj e => ?_)
  subst e
  exact br_f (by decide) ⟨x8_in hj, yw_V _ (fun z => absurd ⟨j, hj, rfl⟩ z) (fun _ _ _ => br_f (by decide) ⟨x8_in hj, rfl, re_in hg ha⟩)⟩
theorem i_vc_edges {k : Nat} {u : SX} {v : SY} (I : i_Rel k u v) (hk : k + 4 ≤ 2048) : wpX_edges (fun r => wpY_edges (fun r' => r' = r ∧ i_Rel (k + 4) u v) v) u := by
  refine re_el (P := fun u v => wpX_edges (fun r => wpY_edges (fun r' => r' = r ∧ i_Rel (k + 4) u v) v) u) I ?_
  intro fb aj lo tk pa cf li pr ch op ps b c g hg ha
  exact ⟨9, xw_ed4 hg ha ⟨9, yw_ed4 hg ha ⟨rfl, re_in hg ha⟩ 8 0 rfl⟩ 8 0 rfl⟩
theorem i_vc_covers {k : Nat} {u : SX} {v : SY} (I : i_Rel k u v) (hk : k + 4 ≤ 2048) (v1 : Int32) : wpX_covers (fun r => wpY_covers (fun r' => r' = r ∧ i_Rel (k + 4) u v) v v1) u v1 := by
  refine re_el (P := fun u v => wpX_covers (fun r => wpY_covers (fun r' => r' = r ∧ i_Rel (k + 4) u v) v v1) u v1) I ?_
  intro fb aj lo tk pa cf li pr ch op ps b c g hg ha
  by_cases a0 : v1 < 0
  · exact br_t a0 (br_t a0 ⟨9, yw_cov0 ⟨rfl, re_in hg ha⟩ 8 0 rfl⟩)
  by_cases a1 : 255 < v1
  · exact br_f a0 (br_t a1 (br_f a0 (br_t a1 ⟨9, yw_cov0 ⟨rfl, re_in hg ha⟩ 8 0 rfl⟩)))
  obtain ⟨i, hi, rfl⟩ := nI_of2 (n := 255) (M := 255) (by decide) a0 (Int32.not_lt.mp a1)
  refine br_f a0 (br_f a1 ?_)
  exact xw_isCover hg ha (by omega) (fun z => br_f (by decide) (yw_covers hg ha (by omega) (fun _ => ⟨rfl, re_in hg ha⟩) (fun y => absurd z y))) (fun z => br_t rfl (yw_covers hg ha (by omega) (fun y => absurd y z) (fun _ => ⟨rfl, re_in hg ha⟩)))
end
section
/-! matchings between left and right copies -/
def kg_M (g : Nat → Nat) (L R k : Nat) (q : Nat → Nat) : Prop := (∀ w, w < 8 → q w < 8 → q w < k ∧ L.testBit (q w) = true ∧ R.testBit w = true ∧ (g (q w)).testBit w = true) ∧ (∀ w w', w < 8 → w' < 8 → q w < 8 → q w = q w' → w = w')
def kg_c (q : Nat → Nat) : Nat := ca_n (fun w => decide (q w < 8)) 8
def kg_V (g : Nat → Nat) (L R k : Nat) (A B : Nat → Bool) : Prop := ∀ u w, u < 8 → w < 8 → u < k → L.testBit u = true → R.testBit w = true → (g u).testBit w = true → A u = true ∨ B w = true
theorem kg_weak {g : Nat → Nat} {L R k : Nat} {q : Nat → Nat} {A B : Nat → Bool} (hM : kg_M g L R k q) (hV : kg_V g L R k A B) : kg_c q ≤ ca_n A 8 + ca_n B 8 := by
  have s := ca_split (fun w => decide (q w < 8)) B 8
  have h1 : ca_n (fun w => decide (q w < 8) && B w) 8 ≤ ca_n B 8 := ca_mono (fun i _ h => by
    rw [Bool.and_eq_true] at h
    exact h.2)
  have h2 : ca_n (fun w => decide (q w < 8) && !B w) 8 ≤ ca_n A 8 := by
    refine ca_inj q (fun w hw h => ?_) (fun w w' hw hw' h _ e => ?_)
    · rw [Bool.and_eq_true] at h
      have l := of_decide_eq_true h.1
      obtain ⟨a, b, c, d⟩ := hM.1 w hw l
      refine ⟨l, ?_⟩
      rcases hV (q w) w l hw a b c d with z | z
      · exact z
      · have := h.2
        rw [z] at this
        exact absurd this (by decide)
    · rw [Bool.and_eq_true] at h
      exact hM.2 w w' hw hw' (of_decide_eq_true h.1) e
  unfold kg_c
  omega
theorem kg_cput (p : Nat → Nat) {w x : Nat} (hw : w < 8) : kg_c (nu_f p w x) + (decide (p w < 8)).toNat = kg_c p + (decide (x < 8)).toNat := by
  have k := ca_put (p := fun w => decide (p w < 8)) (b := decide (x < 8)) hw
  unfold kg_c
  rw [ca_ext (p := fun w' => decide (nu_f p w x w' < 8)) (q := fun i => if i = w then decide (x < 8) else decide (p i < 8))]
  · exact k
  · intro i _
    by_cases e : i = w
    · subst e
      rw [nu_s, if_pos rfl]
    · rw [nu_n e, if_neg e]
/-- nothing more can be reached from k -/
def kg_F (g : Nat → Nat) (R k : Nat) (q : Nat → Nat) : Prop := ∃ (Z : Nat → Bool) (s : Nat), Z k = true ∧ (∀ u w, u < 8 → w < 8 → Z u = true → R.testBit w = true → (g u).testBit w = true → s.testBit w = true) ∧ (∀ w, w < 8 → s.testBit w = true → q w < 8 ∧ Z (q w) = true)
theorem kg_fail {g : Nat → Nat} {L R k : Nat} {q : Nat → Nat} {n : Nat} (hM : kg_M g L R k q) (hF : kg_F g R k q) (hV : ∃ A B, kg_V g L R k A B ∧ ca_n A 8 + ca_n B 8 ≤ n) : ∃ A B, kg_V g L R (k + 1) A B ∧ ca_n A 8 + ca_n B 8 ≤ n := by
  obtain ⟨Z, s, z1, z2, z3⟩ := hF
  obtain ⟨A, B, hV, hn⟩ := hV
  refine ⟨fun u => A u && !Z u, fun w => B w || s.testBit w, ?_, ?_⟩
  · intro u w hu hw hk a b c
    by_cases e : Z u = true
    · refine Or.inr ?_
      show (B w || s.testBit w) = true
      rw [z2 u w hu hw e b c, Bool.or_true]
    · have uk : u ≠ k := fun y => e (y ▸ z1)
      rcases hV u w hu hw (by omega) a b c with y | y
      · refine Or.inl ?_
        show (A u && !Z u) = true
        rw [y, Bool.eq_false_iff.mpr e]
        rfl
      · refine Or.inr ?_
        show (B w || s.testBit w) = true
        rw [y, Bool.true_or]
  · have h1 := ca_split A Z 8
    have h2 := ca_or B (fun w => s.testBit w) 8
    have h3 := ca_split (fun w => s.testBit w) B 8
    have h4 : ca_n (fun w => s.testBit w && B w) 8 = ca_n (fun w => B w && s.testBit w) 8 := ca_ext (fun i _ => Bool.and_comm _ _)
    have h5 : ca_n (fun w => s.testBit w && !B w) 8 ≤ ca_n (fun u => A u && Z u) 8 := by
      refine ca_inj q (fun w hw h => ?_) (fun w w' hw hw' h _ e => ?_)
      · rw [Bool.and_eq_true] at h
        obtain ⟨y1, y2⟩ := z3 w hw h.1
        obtain ⟨a, b, c, d⟩ := hM.1 w hw y1
        refine ⟨y1, ?_⟩
        rcases hV (q w) w y1 hw a b c d with y | y
        · show (A (q w) && Z (q w)) = true
          rw [y, y2]
          rfl
        · have := h.2
          rw [y] at this
          exact absurd this (by decide)
      · rw [Bool.and_eq_true] at h
        exact hM.2 w w' hw hw' (z3 w hw h.1).1 e
    omega
theorem kg_succ {g : Nat → Nat} {L R k n : Nat} (hk : k < 8) (hV : ∃ A B, kg_V g L R k A B ∧ ca_n A 8 + ca_n B 8 ≤ n) : ∃ A B, kg_V g L R (k + 1) A B ∧ ca_n A 8 + ca_n B 8 ≤ n + 1 := by
  obtain ⟨A, B, hV, hn⟩ := hV
  refine ⟨fun u => if u = k then true else A u, B, ?_, ?_⟩
  · intro u w hu hw l a b c
    by_cases e : u = k
    · exact Or.inl (if_pos e)
    · rcases hV u w hu hw (by omega) a b c with y | y
      · exact Or.inl ((if_neg e).trans y)
      · exact Or.inr y
  · have h := ca_put (p := A) (b := true) hk
    have t1 : true.toNat = 1 := rfl
    omega
theorem kg_skip {g : Nat → Nat} {L R k n : Nat} (hL : L.testBit k = false) (hV : ∃ A B, kg_V g L R k A B ∧ ca_n A 8 + ca_n B 8 ≤ n) : ∃ A B, kg_V g L R (k + 1) A B ∧ ca_n A 8 + ca_n B 8 ≤ n := by
  obtain ⟨A, B, hV, hn⟩ := hV
  refine ⟨A, B, fun u w hu hw l a b c => ?_, hn⟩
  have uk : u ≠ k := fun y => by
    subst y
    rw [hL] at a
    exact absurd a (by decide)
  exact hV u w hu hw (by omega) a b c
theorem kg_Mup {g : Nat → Nat} {L R k : Nat} {q : Nat → Nat} (h : kg_M g L R k q) : kg_M g L R (k + 1) q := ⟨fun w hw l => by
  obtain ⟨a, b⟩ := h.1 w hw l
  exact ⟨by omega, b⟩, h.2⟩
/-! the search: the line z, the seen s, where each came from -/
def kg_B (g : Nat → Nat) (R : Nat) (q : Nat → Nat) (k s e : Nat) (z : Nat → Nat) (cf : Nat → Int32) : Prop := s < 256 ∧ e = 1 + ms_c s ∧ z 0 = k ∧ (∀ j, j < e → z j < 8) ∧ (∀ i j, i < e → j < e → z i = z j → i = j) ∧ (∀ j, 1 ≤ j → j < e → ∃ w, w < 8 ∧ s.testBit w = true ∧ q w = z j) ∧ (∀ w, w < 8 → s.testBit w = true → q w < 8 ∧ R.testBit w = true ∧ ∃ i j, i < j ∧ j < e ∧ cf w = nI (z i) ∧ q w = z j ∧ (g (z i)).testBit w = true)
theorem kg_B0 {g : Nat → Nat} {R : Nat} {q : Nat → Nat} {k : Nat} (hk : k < 8) (z : Nat → Nat) (cf : Nat → Int32) : kg_B g R q k 0 1 (nu_f z 0 k) cf := by
  refine ⟨by decide, by rw [ms_c0], nu_s, fun j hj => ?_, fun i j hi hj _ => by omega, fun j h1 h2 => by omega, fun w _ h => ?_⟩
  · have e : j = 0 := by omega
    subst e
    rw [nu_s]
    exact hk
  · rw [Nat.zero_testBit] at h
    exact absurd h (by decide)
theorem kg_Bs {g : Nat → Nat} {L R : Nat} {q : Nat → Nat} {k s e : Nat} {z : Nat → Nat} {cf : Nat → Int32} (hM : kg_M g L R k q) (hB : kg_B g R q k s e z cf) {i w : Nat} (hi : i < e) (hw : w < 8) (h1 : R.testBit w = true) (h2 : (g (z i)).testBit w = true) (h3 : s.testBit w = false) (h4 : q w < 8) : kg_B g R q k (s ||| 2 ^ w) (e + 1) (nu_f z e (q w)) (upd cf w (nI (z i))) := by
  obtain ⟨b1, b2, b3, b4, b5, b6, b7⟩ := hB
  have zl : ∀ j, j < e → nu_f z e (q w) j = z j := fun j hj => nu_n (by omega)
  have sz : ms_c (s ||| 2 ^ w) = ms_c s + 1 := by
    rw [ms_cdis, ms_c1 hw]
    intro j _ y
    rw [ms_bp]
    refine decide_eq_false (fun x => ?_)
    subst x
    rw [h3] at y
    exact absurd y (by decide)
  have nw : ∀ j, j < e → z j ≠ q w := by
    intro j hj y
    by_cases j0 : j = 0
    · subst j0
      have := (hM.1 w hw h4).1
      omega
    · obtain ⟨w', x1, x2, x3⟩ := b6 j (by omega) hj
      have := hM.2 w w' hw x1 h4 (by omega)
      subst this
      rw [h3] at x2
      exact absurd x2 (by decide)
  refine ⟨ms_olt b1 (ms_plt hw), by omega, by rw [zl 0 (by omega)]; exact b3, ?_, ?_, ?_, ?_⟩
  · intro j hj
    by_cases y : j = e
    · subst y; rw [nu_s]; exact h4
    · rw [zl j (by omega)]; exact b4 j (by omega)
  · intro x y hx hy f
    by_cases x1 : x = e
    · by_cases y1 : y = e
      · omega
      · subst x1
        rw [nu_s, zl y (by omega)] at f
        exact absurd f.symm (nw y (by omega))
    · by_cases y1 : y = e
      · subst y1
        rw [nu_s, zl x (by omega)] at f
        exact absurd f (nw x (by omega))
      · rw [zl x (by omega), zl y (by omega)] at f
        exact b5 x y (by omega) (by omega) f
  · intro j j1 j2
    by_cases y : j = e
    · subst y
      exact ⟨w, hw, ms_un.mpr (Or.inr (ms_on.mpr rfl)), nu_s.symm⟩
    · obtain ⟨w', x1, x2, x3⟩ := b6 j j1 (by omega)
      exact ⟨w', x1, ms_un.mpr (Or.inl x2), by rw [zl j (by omega)]; exact x3⟩
  · intro x hx y
    by_cases xw : x = w
    · subst xw
      exact ⟨h4, h1, i, e, hi, by omega, by rw [pk_us, zl i hi], nu_s.symm, by rw [zl i hi]; exact h2⟩
    · have sx : s.testBit x = true := by
        rcases ms_un.mp y with y | y
        · exact y
        · exact absurd (ms_on.mp y).symm xw
      obtain ⟨c1, c2, i', j', c3, c4, c5, c6, c7⟩ := b7 x hx sx
      exact ⟨c1, c2, i', j', c3, by omega, by rw [pk_un xw, zl i' (by omega)]; exact c5, by rw [zl j' (by omega)]; exact c6, by rw [zl i' (by omega)]; exact c7⟩
/-- all neighbours of the first i of the line are seen -/
def kg_K (g : Nat → Nat) (R s i : Nat) (z : Nat → Nat) : Prop := ∀ j, j < i → ∀ w, w < 8 → R.testBit w = true → (g (z j)).testBit w = true → s.testBit w = true
theorem kg_BF {g : Nat → Nat} {R : Nat} {q : Nat → Nat} {k s e : Nat} {z : Nat → Nat} {cf : Nat → Int32} (hB : kg_B g R q k s e z cf) (hK : kg_K g R s e z) : kg_F g R k q := by
  obtain ⟨b1, b2, b3, b4, b5, b6, b7⟩ := hB
  refine ⟨fun u => tb_p (∃ j, j < e ∧ z j = u), s, tb_t ⟨0, by omega, b3⟩, fun u w _ hw h1 h2 h3 => ?_, fun w hw h => ?_⟩
  · obtain ⟨j, j1, j2⟩ := tb_iff.mp h1
    subst j2
    exact hK j j1 w hw h2 h3
  · obtain ⟨c1, c2, i', j', c3, c4, c5, c6, c7⟩ := b7 w hw h
    exact ⟨c1, tb_t ⟨j', c4, c6.symm⟩⟩
/-! the chain of changes: w is to get z i, p are the partners so far -/
def kg_C (g : Nat → Nat) (L R k : Nat) (q z : Nat → Nat) (cf : Nat → Int32) (e n : Nat) (p : Nat → Nat) (w i : Nat) : Prop := w < 8 ∧ i < e ∧ R.testBit w = true ∧ cf w = nI (z i) ∧ (g (z i)).testBit w = true ∧ kg_M g L R k (nu_f p w 8) ∧ kg_c (nu_f p w 8) = n ∧ (8 ≤ p w ∨ ∃ j, i < j ∧ j < e ∧ p w = z j) ∧ (∀ w', w' < 8 → p w' = q w' ∨ (∃ j, i < j ∧ j < e ∧ p w' = z j) ∧ (8 ≤ q w' ∨ ∃ j, i < j ∧ j < e ∧ q w' = z j))
theorem kg_Cend {g : Nat → Nat} {L R k : Nat} {q z : Nat → Nat} {cf : Nat → Int32} {e n : Nat} {p : Nat → Nat} {w : Nat} (hk : k < 8) (hL : L.testBit k = true) (hz : z 0 = k) (h : kg_C g L R k q z cf e n p w 0) : kg_M g L R (k + 1) (nu_f p w k) ∧ kg_c (nu_f p w k) = n + 1 := by
  obtain ⟨c1, c2, c3, c4, c5, c6, c7, c8, c9⟩ := h
  have ot : ∀ x, x ≠ w → nu_f p w 8 x = p x := fun x hx => nu_n hx
  refine ⟨⟨fun x hx l => ?_, fun x y hx hy l f => ?_⟩, ?_⟩
  · by_cases xw : x = w
    · subst xw
      rw [nu_s]
      rw [hz] at c5
      exact ⟨by omega, hL, c3, c5⟩
    · rw [nu_n xw] at l ⊢
      have := c6.1 x hx (by rw [ot x xw]; exact l)
      rw [ot x xw] at this
      exact ⟨by omega, this.2⟩
  · by_cases xw : x = w
    · by_cases yw : y = w
      · omega
      · subst xw
        rw [nu_s, nu_n yw] at f
        have := c6.1 y hy (by rw [ot y yw]; omega)
        rw [ot y yw] at this
        omega
    · by_cases yw : y = w
      · subst yw
        rw [nu_s, nu_n xw] at f
        have := c6.1 x hx (by rw [ot x xw]; omega)
        rw [ot x xw] at this
        omega
      · rw [nu_n xw, nu_n yw] at f
        rw [nu_n xw] at l
        exact c6.2 x y hx hy (by rw [ot x xw]; exact l) (by rw [ot x xw, ot y yw]; exact f)
  · have h1 := kg_cput p (x := 8) c1
    have h2 := kg_cput p (x := k) c1
    rw [decide_eq_false (show ¬ 8 < 8 by omega)] at h1
    rw [decide_eq_true hk] at h2
    have t1 : true.toNat = 1 := rfl
    have t0 : false.toNat = 0 := rfl
    omega
theorem kg_Cstep {g : Nat → Nat} {L R k s : Nat} {q z : Nat → Nat} {cf0 cf : Nat → Int32} {e n : Nat} {p : Nat → Nat} {w i : Nat} (hM : kg_M g L R k q) (hB : kg_B g R q k s e z cf0) (hcf : ∀ w, w < 8 → s.testBit w = true → cf w = cf0 w) (h : kg_C g L R k q z cf e n p w i) (i1 : 1 ≤ i) : ∃ w', w' < 8 ∧ p w' = z i ∧ (∀ x, x < 8 → p x = z i → x = w') ∧ ∃ i', i' < i ∧ kg_C g L R k q z cf e n (nu_f p w (z i)) w' i' := by
  obtain ⟨b1, b2, b3, b4, b5, b6, b7⟩ := hB
  obtain ⟨c1, c2, c3, c4, c5, c6, c7, c8, c9⟩ := h
  obtain ⟨w', x1, x2, x3⟩ := b6 i i1 c2
  have z8 := b4 i c2
  have pw' : p w' = z i := by
    rcases c9 w' x1 with y | ⟨_, y | ⟨j, y1, y2, y3⟩⟩
    · omega
    · omega
    · have := b5 i j c2 y2 (by omega)
      omega
  have uq : ∀ x, x < 8 → p x = z i → x = w' := by
    intro x hx y
    rcases c9 x hx with v | ⟨⟨j, v1, v2, v3⟩, _⟩
    · exact hM.2 x w' hx x1 (by omega) (by omega)
    · have := b5 i j c2 v2 (by omega)
      omega
  have pw : p w ≠ z i := by
    rcases c8 with y | ⟨j, y1, y2, y3⟩
    · omega
    · intro v
      have := b5 i j c2 y2 (by omega)
      omega
  have ne : w' ≠ w := fun y => pw (y ▸ pw')
  obtain ⟨d1, d2, i', j', d3, d4, d5, d6, d7⟩ := b7 w' x1 x2
  have ji : j' = i := b5 j' i d4 c2 (by omega)
  subst ji
  have ot : ∀ x, x ≠ w → nu_f p w 8 x = p x := fun x hx => nu_n hx
  have mw := c6.1 w' x1 (by rw [ot w' ne]; omega)
  rw [ot w' ne, pw'] at mw
  refine ⟨w', x1, pw', uq, i', d3, x1, by omega, d2, by rw [hcf w' x1 x2]; exact d5, d7, ⟨fun x hx l => ?_, fun x y hx hy l f => ?_⟩, ?_, Or.inr ⟨j', d3, d4, by rw [nu_n ne]; exact pw'⟩, fun x hx => ?_⟩
  · by_cases xw' : x = w'
    · subst xw'
      rw [nu_s] at l
      omega
    · rw [nu_n xw'] at l ⊢
      by_cases xw : x = w
      · subst xw
        rw [nu_s]
        exact ⟨mw.1, mw.2.1, c3, c5⟩
      · rw [nu_n xw] at l ⊢
        have := c6.1 x hx (by rw [ot x xw]; exact l)
        rw [ot x xw] at this
        exact this
  · by_cases xw' : x = w'
    · subst xw'
      rw [nu_s] at l
      omega
    · rw [nu_n xw'] at l f
      by_cases yw' : y = w'
      · subst yw'
        rw [nu_s] at f
        omega
      · rw [nu_n yw'] at f
        by_cases xw : x = w
        · by_cases yw : y = w
          · omega
          · subst xw
            rw [nu_s, nu_n yw] at f
            exact absurd (uq y hy f.symm) yw'
        · by_cases yw : y = w
          · subst yw
            rw [nu_s, nu_n xw] at f
            exact absurd (uq x hx f) xw'
          · rw [nu_n xw, nu_n yw] at f
            rw [nu_n xw] at l
            exact c6.2 x y hx hy (by rw [ot x xw]; exact l) (by rw [ot x xw, ot y yw]; exact f)
  · have h1 := kg_cput p (x := 8) c1
    have h2 := kg_cput p (x := z j') c1
    have h3 := kg_cput (nu_f p w (z j')) (x := 8) x1
    rw [nu_n ne, pw'] at h3
    rw [decide_eq_false (show ¬ 8 < 8 by omega)] at h1 h3
    rw [decide_eq_true z8] at h2 h3
    have t1 : true.toNat = 1 := rfl
    have t0 : false.toNat = 0 := rfl
    omega
  · by_cases xw : x = w
    · subst xw
      refine Or.inr ⟨⟨j', d3, d4, nu_s⟩, ?_⟩
      rcases c9 x hx with y | ⟨_, y | ⟨j, y1, y2, y3⟩⟩
      · rcases c8 with v | ⟨j, v1, v2, v3⟩
        · exact Or.inl (by omega)
        · exact Or.inr ⟨j, by omega, v2, by omega⟩
      · exact Or.inl y
      · exact Or.inr ⟨j, by omega, y2, y3⟩
    · rw [nu_n xw]
      rcases c9 x hx with y | ⟨⟨j1, u1, u2, u3⟩, y⟩
      · exact Or.inl y
      · refine Or.inr ⟨⟨j1, by omega, u2, u3⟩, ?_⟩
        rcases y with y | ⟨j, y1, y2, y3⟩
        · exact Or.inl y
        · exact Or.inr ⟨j, by omega, y2, y3⟩
theorem kg_C0 {g : Nat → Nat} {L R k : Nat} {q z : Nat → Nat} {cf : Nat → Int32} {e : Nat} {w i : Nat} (hM : kg_M g L R k q) (hw : w < 8) (hi : i < e) (h1 : R.testBit w = true) (h2 : (g (z i)).testBit w = true) (h4 : 8 ≤ q w) : kg_C g L R k q z (upd cf w (nI (z i))) e (kg_c q) q w i := by
  have nq : ∀ x, nu_f q w 8 x < 8 → x ≠ w ∧ nu_f q w 8 x = q x := by
    intro x l
    by_cases xw : x = w
    · subst xw
      rw [nu_s] at l
      omega
    · exact ⟨xw, nu_n xw⟩
  refine ⟨hw, hi, h1, pk_us, h2, ⟨fun x hx l => ?_, fun x y hx hy l f => ?_⟩, ?_, Or.inl h4, fun _ _ => Or.inl rfl⟩
  · have el := (nq x l).2
    rw [el] at l ⊢
    exact hM.1 x hx l
  · have l2 := l
    rw [f] at l2
    have el := (nq x l).2
    rw [el, (nq y l2).2] at f
    rw [el] at l
    exact hM.2 x y hx hy l f
  · have h := kg_cput q (x := 8) hw
    rw [decide_eq_false (show ¬ q w < 8 by omega), decide_eq_false (show ¬ 8 < 8 by omega)] at h
    omega
end
section
/-- a partner as an int: 8 and more are none -/
def kg_e (n : Nat) : Int32 := if n < 8 then nI n else -1
def kg_at (pa : Nat → Int32) (q : Nat → Nat) : Prop := ∀ w, w < 8 → pa w = kg_e (q w)
theorem kg_et {n : Nat} (h : n < 8) : kg_e n = nI n := if_pos h
theorem kg_ef {n : Nat} (h : 8 ≤ n) : kg_e n = -1 := if_neg (by omega)
theorem kg_en {n u : Nat} (hu : u < 8) (h : n ≠ u) : ¬ kg_e n = nI u := by
  intro z
  by_cases e : n < 8
  · rw [kg_et e, nI_eq (by omega) (by omega)] at z
    exact h z
  · rw [kg_ef (by omega)] at z
    have k : ¬ nI u < 0 := nI_pos (by omega)
    rw [← z] at k
    exact k (by decide)
theorem kg_get {pa : Nat → Int32} {q : Nat → Nat} (h : kg_at pa q) {w : Nat} (hw : w < 8) : pa (nI w).toNatClampNeg = kg_e (q w) := by
  rw [nI_clamp (by omega)]
  exact h w hw
theorem kg_put {pa : Nat → Int32} {q : Nat → Nat} (h : kg_at pa q) (w x : Nat) (hx : x < 8) : kg_at (upd pa w (nI x)) (nu_f q w x) := by
  intro j hj
  by_cases e : j = w
  · subst e
    rw [pk_us, nu_s, kg_et hx]
  · rw [pk_un e, nu_n e]
    exact h j hj
section
variable {fb : Int32} {aj lo tk pa cf li pr ch op ps : Nat → Int32} {g : Nat → Nat}
theorem xw_pl2 {p : Nat → Nat} (hp : kg_at pa p) {post : Int32 → Prop} {u w : Nat} (hu : u < 8) (hw : w < 8) (h1 : p w = u) (h2 : ∀ x, x < 8 → p x = u → x = w) (h : post (nI w)) : ∀ d j, j + d = w → wX_placeOf_2 post (nI u) fb aj lo tk pa cf li pr ch op ps (d + 1) (nI j) := by
  intro d
  induction d with
  | zero =>
    intro j hj
    have e : j = w := by omega
    subst e
    refine br_f (x8_nle hw) ⟨x8_in hw, br_t ?_ h⟩
    rw [kg_get hp hw, h1, kg_et hu]
  | succ d ih =>
    intro j hj
    refine br_f (x8_nle (by omega)) ⟨x8_in (by omega), br_f ?_ (nm_r (nI_1 j) (ih (j + 1) (by omega)))⟩
    rw [kg_get hp (by omega)]
    refine kg_en hu (fun z => ?_)
    have := h2 j (by omega) z
    omega
theorem xw_placeOf {p : Nat → Nat} (hp : kg_at pa p) {post : Int32 → Prop} {u w : Nat} (hu : u < 8) (hw : w < 8) (h1 : p w = u) (h2 : ∀ x, x < 8 → p x = u → x = w) (h : post (nI w)) : wpX_placeOf post (fb, aj, lo, tk, pa, cf, li, pr, ch, op, ps) (nI u) := ⟨w + 1, xw_pl2 hp hu hw h1 h2 h w 0 (Nat.zero_add w)⟩
theorem xw_ch5 {L R k s e n : Nat} {q z : Nat → Nat} {cf0 : Nat → Int32} (hk : k < 8) (hL : L.testBit k = true) (hM : kg_M g L R k q) (hB : kg_B g R q k s e z cf0) (hcf : ∀ w, w < 8 → s.testBit w = true → cf w = cf0 w) {post : SX → Prop} (h : ∀ pa p, kg_at pa p → kg_M g L R (k + 1) p → kg_c p = n + 1 → post (fb, aj, lo, tk, pa, cf, li, pr, ch, op, ps)) : ∀ (d : Nat) (p : Nat → Nat) (w i r : Nat) (pa : Nat → Int32), i ≤ d → r + i ≤ 7 → kg_C g L R k q z cf e n p w i → kg_at pa p → wX_change_5 post (nI k) fb (d + 2) (nI w) (nI r) aj lo tk pa cf li pr ch op ps := by
  have hz : z 0 = k := hB.2.2.1
  have fin : ∀ (d : Nat) (p : Nat → Nat) (w r : Nat) (pa : Nat → Int32), r ≤ 7 → kg_C g L R k q z cf e n p w 0 → kg_at pa p → wX_change_5 post (nI k) fb (d + 2) (nI w) (nI r) aj lo tk pa cf li pr ch op ps := by
    intro d p w r pa hr C hp
    have hw := C.1
    obtain ⟨m1, m2⟩ := kg_Cend hk hL hz C
    refine br_f (x8_nle (by omega)) (br_f (nI_pos (by omega)) ⟨x8_in hw, nm_r (e' := nI k) ?_ (br_t rfl ?_)⟩)
    · rw [nI_clamp (by omega), C.2.2.2.1, hz]
    · refine ⟨x8_in hw, nm_r (e' := upd pa w (nI k)) ?_ (nm_r (nI_1 r) ?_)⟩
      · rw [nI_clamp (by omega), xb_by (by omega)]
      · have q := h (upd pa w (nI k)) (nu_f p w k) (kg_put hp w k hk) m1 m2
        exact br_c (fun _ => q) (fun _ => br_t (by decide) q)
  intro d
  induction d with
  | zero =>
    intro p w i r pa hi hr C hp
    have i0 : i = 0 := by omega
    subst i0
    exact fin 0 p w r pa (by omega) C hp
  | succ d ih =>
    intro p w i r pa hi hr C hp
    by_cases i0 : i = 0
    · subst i0
      exact fin (d + 1) p w r pa (by omega) C hp
    · have hw := C.1
      have ie := C.2.1
      have z8 := hB.2.2.2.1 i ie
      obtain ⟨w', x1, x2, x3, i', x4, C'⟩ := kg_Cstep hM hB hcf C (by omega)
      refine br_f (x8_nle (by omega)) (br_f (nI_pos (by omega)) ⟨x8_in hw, nm_r (e' := nI (z i)) ?_ (br_f ?_ ?_)⟩)
      · rw [nI_clamp (by omega)]
        exact C.2.2.2.1
      · rw [nI_eq (by omega) (by omega)]
        intro y
        have := hB.2.2.2.2.1 i 0 ie (by omega) (by omega)
        omega
      · refine xw_placeOf hp z8 x1 x2 x3 ?_
        refine ⟨x8_in hw, nm_r (e' := upd pa w (nI (z i))) ?_ (nm_r (nI_1 r) (ih (nu_f p w (z i)) w' i' (r + 1) (upd pa w (nI (z i))) (by omega) (by omega) C' (kg_put hp w (z i) z8)))⟩
        rw [nI_clamp (by omega), xb_by (by omega)]
theorem xw_au42 (hg : gr_ok g) (ha : gr_at aj g) {L R k n i u : Nat} {q : Nat → Nat} (hR : R < 256) (hk : k < 8) (hL : L.testBit k = true) (hM : kg_M g L R k q) (hq : kg_at pa q) (hn : kg_c q = n) {post : Int32 → SX → Prop} {J : Int32 → Int32 → Int32 → (Nat → Int32) → (Nat → Int32) → (Nat → Int32) → (Nat → Int32) → (Nat → Int32) → (Nat → Int32) → (Nat → Int32) → (Nat → Int32) → (Nat → Int32) → (Nat → Int32) → Prop} (h : ∀ pa cf li p, kg_at pa p → kg_M g L R (k + 1) p → kg_c p = n + 1 → post 1 (fb, aj, lo, tk, pa, cf, li, pr, ch, op, ps)) (hJ : ∀ (s e : Nat) (z : Nat → Nat) (cf li : Nat → Int32), kg_B g R q k s e z cf → so_at li z e → i < e → kg_K g R s (i + 1) z → J (nI s) (nI e) (nI (i + 1)) aj lo tk pa cf li pr ch op ps) : ∀ (d w s e : Nat) (z : Nat → Nat) (cf li : Nat → Int32), w + d = 8 → kg_B g R q k s e z cf → so_at li z e → i < e → z i = u → kg_K g R s i z → (∀ x, x < w → R.testBit x = true → (g u).testBit x = true → s.testBit x = true) → wX_augment_42 post J (nI k) (nI R) (nI i) (nI u) fb (d + 1) (nI s) (nI e) (nI w) aj lo tk pa cf li pr ch op ps := by
  intro d
  induction d with
  | zero =>
    intro w s e z cf li hw B hl ie zu K K2
    have w8 : w = 8 := by omega
    subst w8
    refine br_t x8_le (nm_r (nI_1 i) (hJ s e z cf li B hl ie (lt_s K ?_)))
    rw [zu]
    exact K2
  | succ d ih =>
    intro w s e z cf li hw B hl ie zu K K2
    have u8 : u < 8 := by
      have := B.2.2.2.1 i ie
      omega
    have s8 := ms_c8 s
    have se := B.2.1
    refine br_f (x8_nle (by omega)) ⟨x8_in u8, ?_⟩
    rw [gr_get ha u8, nx_and, xb_not]
    have lt1 := ms_alt R (hg.1 u u8)
    have bit := ms_bd s w lt1
    rw [Nat.testBit_and] at bit
    refine xw_in (ms_dlt s lt1) (by omega) (fun f => br_t rfl (nm_r (nI_1 w) (ih (w + 1) s e z cf li (by omega) B hl ie zu K (lt_s K2 ?_)))) (fun f => br_f (by decide) ?_)
    · intro r1 r2
      rw [f, r1, r2] at bit
      simpa using bit.symm
    · rw [f] at bit
      have bit := bit.symm
      rw [Bool.and_eq_true, Bool.and_eq_true] at bit
      obtain ⟨⟨t1, t2⟩, t3⟩ := bit
      have t3 : s.testBit w = false := by simpa using t3
      have t1' : (g (z i)).testBit w = true := by rw [zu]; exact t1
      refine nm_r (e' := nI (s ||| 2 ^ w)) (by rw [xb_shl w (by omega), xb_or]) ⟨x8_in (by omega), nm_r (e' := upd cf w (nI (z i))) (by rw [nI_clamp (by omega), xb_by (by omega), zu]) ⟨x8_in (by omega), ?_⟩⟩
      rw [kg_get hq (by omega)]
      by_cases qw : q w < 8
      · rw [kg_et qw]
        have B' := kg_Bs hM B ie (by omega) t2 t1' t3 qw
        have s7 : ms_c s + 1 = ms_c (s ||| 2 ^ w) := by
          have := B'.2.1
          omega
        have s8' := ms_c8 (s ||| 2 ^ w)
        refine br_t (nI_pos' (by omega)) ⟨x8_in (by omega), vp_in_nI (by omega) (by decide), nm_r (e' := upd li e (nI (q w))) (by rw [nI_clamp (by omega), xb_by1 (by omega)]) (nm_r (nI_1 e) (nm_r (nI_1 w) ?_))⟩
        have K' : kg_K g R (s ||| 2 ^ w) i (nu_f z e (q w)) := fun j hj x hx y1 y2 => by
          rw [nu_n (show j ≠ e by omega)] at y2
          exact ms_un.mpr (Or.inl (K j hj x hx y1 y2))
        refine ih (w + 1) (s ||| 2 ^ w) (e + 1) (nu_f z e (q w)) _ _ (by omega) B' (so_push _ hl) (by omega) (by rw [nu_n (show i ≠ e by omega)]; exact zu) K' (lt_s (fun x hx y1 y2 => ms_un.mpr (Or.inl (K2 x hx y1 y2))) (fun _ _ => ms_un.mpr (Or.inr (ms_on.mpr rfl))))
      · rw [kg_ef (by omega)]
        refine br_f (by decide) ?_
        have C := kg_C0 (cf := cf) hM (show w < 8 by omega) ie t2 t1' (by omega)
        rw [hn] at C
        have s7 : ms_c s ≤ 7 := by
          have := ms_cdel (a := 255) (v := w) (by decide) (by omega) (ms_255 (by omega))
          have l : ms_c s ≤ ms_c (ms_d 255 (2 ^ w)) := ms_cle (fun x hx y => (ms_df (by decide)).mpr ⟨ms_255 hx, fun v => by
            have := ms_on.mp v
            subst this
            rw [t3] at y
            exact absurd y (by decide)⟩)
          have := ms_c8 255
          omega
        exact ⟨i + 2, xw_ch5 (n := n) hk hL hM B (fun x hx y => pk_un (fun v => by
          subst v
          rw [t3] at y
          exact absurd y (by decide))) (fun pa p a1 a2 a3 => h pa _ li p a1 a2 a3) i q w i 0 pa (Nat.le_refl i) (by omega) C hq⟩
theorem xw_au16 (hg : gr_ok g) (ha : gr_at aj g) {L R k n : Nat} {q : Nat → Nat} (hR : R < 256) (hk : k < 8) (hL : L.testBit k = true) (hM : kg_M g L R k q) (hq : kg_at pa q) (hn : kg_c q = n) {post : Int32 → SX → Prop} (h1 : ∀ pa cf li p, kg_at pa p → kg_M g L R (k + 1) p → kg_c p = n + 1 → post 1 (fb, aj, lo, tk, pa, cf, li, pr, ch, op, ps)) (h0 : ∀ cf li, kg_F g R k q → post 0 (fb, aj, lo, tk, pa, cf, li, pr, ch, op, ps)) : ∀ (d i s e : Nat) (z : Nat → Nat) (cf li : Nat → Int32), 9 ≤ i + d → kg_B g R q k s e z cf → so_at li z e → i ≤ e → kg_K g R s i z → wX_augment_16 post (nI k) (nI R) fb (d + 1) (nI s) (nI e) (nI i) aj lo tk pa cf li pr ch op ps := by
  intro d
  induction d with
  | zero =>
    intro i s e z cf li hi B hl ie K
    have s8 := ms_c8 s
    have se := B.2.1
    have e2 : e = i := by omega
    subst e2
    exact br_t (nI_le (Nat.le_refl e) (by omega)) (h0 cf li (kg_BF B K))
  | succ d ih =>
    intro i s e z cf li hi B hl ie K
    have s8 := ms_c8 s
    have se := B.2.1
    refine pk_le e i (fun y => ?_) (fun y => br_f (nI_nlt (a := 8) (by omega) (by omega)) ⟨vp_in_nI (by omega) (by decide), nm_r (e' := nI (z i)) ?_ ⟨9, ?_⟩⟩)
    · have e2 : e = i := by omega
      subst e2
      exact h0 cf li (kg_BF B K)
    · rw [nI_clamp (by omega)]
      exact hl i y
    · exact xw_au42 hg ha hR hk hL hM hq hn h1 (fun s e z cf li B hl ie K => ih (i + 1) s e z cf li (by omega) B hl (by omega) K) 8 0 s e z cf li rfl B hl y rfl K lt_0
theorem xw_augment (hg : gr_ok g) (ha : gr_at aj g) {L R k n : Nat} {q : Nat → Nat} (hR : R < 256) (hk : k < 8) (hL : L.testBit k = true) (hM : kg_M g L R k q) (hq : kg_at pa q) (hn : kg_c q = n) {post : Int32 → SX → Prop} (h1 : ∀ pa cf li p, kg_at pa p → kg_M g L R (k + 1) p → kg_c p = n + 1 → post 1 (fb, aj, lo, tk, pa, cf, li, pr, ch, op, ps)) (h0 : ∀ cf li, kg_F g R k q → post 0 (fb, aj, lo, tk, pa, cf, li, pr, ch, op, ps)) : wpX_augment post (fb, aj, lo, tk, pa, cf, li, pr, ch, op, ps) (nI k) (nI R) := by
  refine nm_r (e' := upd li 0 (nI k)) (by rw [xb_by (by omega)]) ⟨10, ?_⟩
  exact xw_au16 hg ha hR hk hL hM hq hn h1 h0 9 0 0 1 (nu_f (fun _ => 0) 0 k) cf _ (by omega) (kg_B0 hk _ cf) (so_push (n := 0) k (fun i hi => absurd hi (Nat.not_lt_zero i))) (by omega) (fun j hj => absurd hj (Nat.not_lt_zero j))
def kg_r (g : Nat → Nat) (L R r : Nat) : Prop := r ≤ 8 ∧ (∃ A B, kg_V g L R 8 A B ∧ ca_n A 8 + ca_n B 8 ≤ r) ∧ ∀ A B, kg_V g L R 8 A B → r ≤ ca_n A 8 + ca_n B 8
theorem xw_ma26 (hg : gr_ok g) (ha : gr_at aj g) {L R : Nat} (hL : L < 256) (hR : R < 256) {post : Int32 → SX → Prop} (h : ∀ r pa cf li, kg_r g L R r → post (nI r) (fb, aj, lo, tk, pa, cf, li, pr, ch, op, ps)) : ∀ (d k n : Nat) (q : Nat → Nat) (pa cf li : Nat → Int32), k + d = 8 → kg_M g L R k q → kg_at pa q → kg_c q = n → (∃ A B, kg_V g L R k A B ∧ ca_n A 8 + ca_n B 8 ≤ n) → wX_match_26 post (nI L) (nI R) (d + 1) (nI n) (nI k) fb aj lo tk pa cf li pr ch op ps := by
  intro d
  induction d with
  | zero =>
    intro k n q pa cf li hk M hq hn V
    have e : k = 8 := by omega
    subst e
    refine br_t x8_le (h n pa cf li ⟨?_, V, fun A B z => ?_⟩)
    · rw [← hn]
      exact ca_le _ _
    · rw [← hn]
      exact kg_weak M z
  | succ d ih =>
    intro k n q pa cf li hk M hq hn V
    refine br_f (x8_nle (by omega)) (xw_in hL (by omega) (fun e => br_t rfl (nm_r (nI_add n 0) (nm_r (nI_1 k) (ih (k + 1) n q pa cf li (by omega) (kg_Mup M) hq hn (kg_skip e V))))) (fun e => br_f (by decide) ?_))
    refine xw_augment hg ha hR (by omega) e M hq hn (fun pa cf li p a1 a2 a3 => ?_) (fun cf li F => ?_)
    · exact br_f (by decide) (nm_r (nI_1 n) (nm_r (nI_1 k) (ih (k + 1) (n + 1) p pa cf li (by omega) a2 a1 a3 (kg_succ (by omega) V))))
    · exact br_t rfl (nm_r (nI_add n 0) (nm_r (nI_1 k) (ih (k + 1) n q pa cf li (by omega) (kg_Mup M) hq hn (kg_fail M F V))))
theorem xw_ma2 (hg : gr_ok g) (ha : gr_at aj g) {L R : Nat} (hL : L < 256) (hR : R < 256) {post : Int32 → SX → Prop} (h : ∀ r pa cf li, kg_r g L R r → post (nI r) (fb, aj, lo, tk, pa, cf, li, pr, ch, op, ps)) : ∀ (d i : Nat) (pa : Nat → Int32), i + d = 8 → (∀ w, w < i → pa w = -1) → wX_match_2 post (nI L) (nI R) fb (d + 1) (nI i) aj lo tk pa cf li pr ch op ps := by
  intro d
  induction d with
  | zero =>
    intro i pa hi k
    have e : i = 8 := by omega
    subst e
    refine br_t x8_le ⟨9, ?_⟩
    have c0 : kg_c (fun _ => 8) = 0 := ca_zero (fun _ _ => decide_eq_false (Nat.lt_irrefl 8))
    refine xw_ma26 hg ha hL hR h 8 0 0 (fun _ => 8) pa cf li rfl ⟨fun w _ z => absurd z (Nat.lt_irrefl 8), fun w w' _ _ z => absurd z (Nat.lt_irrefl 8)⟩ (fun w hw => ?_) c0 ⟨fun _ => false, fun _ => false, fun u w _ _ z => absurd z (Nat.not_lt_zero u), ?_⟩
    · rw [k w hw, kg_ef (Nat.le_refl 8)]
    · rw [ca_zero (fun _ _ => rfl)]
      exact Nat.le_refl 0
  | succ d ih =>
    intro i pa hi k
    refine br_f (x8_nle (by omega)) ⟨x8_in (by omega), nm_r (e' := upd pa i (-1)) (by rw [nI_clamp (by omega), xb_bym]) (nm_r (nI_1 i) (ih (i + 1) (upd pa i (-1)) (by omega) (lt_s (fun w hw => ?_) pk_us)))⟩
    rw [pk_un (show w ≠ i by omega)]
    exact k w hw
theorem xw_match (hg : gr_ok g) (ha : gr_at aj g) {L R : Nat} (hL : L < 256) (hR : R < 256) {post : Int32 → SX → Prop} (h : ∀ r pa cf li, kg_r g L R r → post (nI r) (fb, aj, lo, tk, pa, cf, li, pr, ch, op, ps)) : wpX_match post (fb, aj, lo, tk, pa, cf, li, pr, ch, op, ps) (nI L) (nI R) := ⟨9, xw_ma2 hg ha hL hR h 8 0 pa rfl lt_0⟩
end
end
section
/-! halves as digits -/
def hv_d (c v : Nat) : Nat := c / 3 ^ v % 3
theorem hv_d3 (c v : Nat) : hv_d c v < 3 := Nat.mod_lt _ (by decide)
def hv_s (c : Nat) : Nat → Nat
  | 0 => 0
  | n + 1 => hv_s c n + hv_d c n
theorem hv_s2 (c n : Nat) : hv_s c n ≤ 2 * n := by
  induction n with
  | zero => exact Nat.le_refl _
  | succ n ih =>
    have := hv_d3 c n
    show hv_s c n + hv_d c n ≤ _
    omega
def hv_ok (g : Nat → Nat) (c : Nat) : Prop := ∀ v, v < 8 → ∀ w, w < v → (g v).testBit w = true → 2 ≤ hv_d c v + hv_d c w
noncomputable def hv_mk (g : Nat → Nat) (k : Nat) : Nat := mi_n (fun c => tb_p (hv_ok g c)) (fun c => hv_s c 8) k
noncomputable def hv_m (g : Nat → Nat) : Nat := hv_mk g 6561
section
variable {a b h : Nat → Int32} {g : Nat → Nat}
theorem yw_gi57 (hg : gr_ok g) (ha : gr_at a g) {c : Nat} (hh : so_at h (hv_d c) 8) {post : Int32 → SY → Prop} {J : Int32 → Prop} {x : Int32} {v : Nat} (hv : v < 8) (h0 : ¬ hv_ok g c → post (-1) (a, b, h)) (hJ : (∀ w, w < v → (g v).testBit w = true → 2 ≤ hv_d c v + hv_d c w) → J (nI (v + 1))) : ∀ d w, w + d = v → (∀ y, y < w → (g v).testBit y = true → 2 ≤ hv_d c v + hv_d c y) → wY_give_57 post J x (nI v) a b h (d + 1) (nI w) := by
  have lg := hg.1 v hv
  have dv := hv_d3 c v
  intro d
  induction d with
  | zero =>
    intro w hw k
    have e : w = v := by omega
    subst e
    exact br_t (nI_le (Nat.le_refl w) (by omega)) (nm_r (nI_1 w) (hJ k))
  | succ d ih =>
    intro w hw k
    have dw := hv_d3 c w
    refine br_f (nI_ge (by omega) (by omega)) ⟨x8_in hv, ?_⟩
    rw [gr_get ha hv, xb_bit (by omega) (by omega)]
    cases e : (g v).testBit w
    · exact br_f (by decide) (nm_r (nI_1 w) (ih (w + 1) (by omega) (lt_s k (fun z => by rw [e] at z; exact absurd z (by decide)))))
    · refine br_t (by decide) ⟨x8_in hv, x8_in (by omega), ?_⟩
      rw [nI_clamp (n := v) (by omega), nI_clamp (n := w) (by omega), hh v hv, hh w (by omega), nI_add]
      refine pk_le 2 (hv_d c v + hv_d c w) (fun z => nm_r (nI_1 w) (ih (w + 1) (by omega) (lt_s k (fun _ => z)))) (fun z => h0 (fun y => ?_))
      have := y v hv w (by omega) e
      omega
theorem yw_gi47 (hg : gr_ok g) (ha : gr_at a g) {c : Nat} (hh : so_at h (hv_d c) 8) {post : Int32 → SY → Prop} {x : Int32} (h1 : hv_ok g c → post x (a, b, h)) (h0 : ¬ hv_ok g c → post (-1) (a, b, h)) : ∀ d v, v + d = 8 → (∀ v', v' < v → ∀ w, w < v' → (g v').testBit w = true → 2 ≤ hv_d c v' + hv_d c w) → wY_give_47 post x a b h (d + 1) (nI v) := by
  intro d
  induction d with
  | zero =>
    intro v hv k
    have e : v = 8 := by omega
    subst e
    exact br_t x8_le (h1 k)
  | succ d ih =>
    intro v hv k
    exact br_f (x8_nle (by omega)) ⟨v + 1, yw_gi57 hg ha hh (by omega) h0 (fun z => ih (v + 1) (by omega) (lt_s k z)) v 0 (Nat.zero_add v) lt_0⟩
theorem yw_gi7 (hg : gr_ok g) (ha : gr_at a g) {c : Nat} (hc : c < 6561) {post : Int32 → SY → Prop} (h1 : ∀ h, so_at h (hv_d c) 8 → hv_ok g c → post (nI (hv_s c 8)) (a, b, h)) (h0 : ∀ h, so_at h (hv_d c) 8 → ¬ hv_ok g c → post (-1) (a, b, h)) : ∀ d i h, i + d = 8 → so_at h (hv_d c) i → wY_give_7 post (d + 1) (nI (c / 3 ^ i)) (nI (hv_s c i)) (nI i) a b h := by
  intro d
  induction d with
  | zero =>
    intro i h hi k
    have e : i = 8 := by omega
    subst e
    exact br_t x8_le ⟨9, yw_gi47 hg ha k (h1 h k) (h0 h k) 8 0 rfl (fun v' z => absurd z (Nat.not_lt_zero v'))⟩
  | succ d ih =>
    intro i h hi k
    have l : c / 3 ^ i ≤ c := Nat.div_le_self _ _
    have e3 : (3 : Int32) = nI 3 := rfl
    refine br_f (x8_nle (by omega)) ⟨by decide, x8_in (by omega), nm_r (e' := upd h i (nI (hv_d c i))) ?_ ⟨by decide, nm_r (e' := nI (c / 3 ^ (i + 1))) ?_ ⟨x8_in (by omega), nm_r (e' := nI (hv_s c (i + 1))) ?_ (nm_r (nI_1 i) (ih (i + 1) _ (by omega) ?_))⟩⟩⟩
    · rw [e3, pk_rem (by omega) (by decide) (by decide), nI_clamp (by omega)]
      rfl
    · rw [e3, pk_div (by omega) (by decide) (by decide), Nat.pow_succ, Nat.div_div_eq_div_mul]
    · rw [nI_clamp (by omega), pk_us, nI_add]
      rfl
    · intro j hj
      by_cases e : j = i
      · subst e
        exact pk_us
      · rw [pk_un e]
        exact k j (by omega)
theorem yw_give (hg : gr_ok g) (ha : gr_at a g) {c : Nat} (hc : c < 6561) {post : Int32 → SY → Prop} (h1 : ∀ h, so_at h (hv_d c) 8 → hv_ok g c → post (nI (hv_s c 8)) (a, b, h)) (h0 : ∀ h, so_at h (hv_d c) 8 → ¬ hv_ok g c → post (-1) (a, b, h)) : wpY_give post (a, b, h) (nI c) := by
  have k := yw_gi7 (h0 := h0) hg ha hc h1 8 0 h rfl (fun j hj => absurd hj (Nat.not_lt_zero j))
  rw [Nat.pow_zero, Nat.div_one] at k
  exact ⟨9, k⟩
theorem x6_le : (6561 : Int32) ≤ nI 6561 := nI_le (a := 6561) (b := 6561) (by decide) (by decide)
theorem x6_nle {i : Nat} (h : i < 6561) : ¬ (6561 : Int32) ≤ nI i := nI_ge (b := 6561) h (by decide)
theorem yw_ha5 (hg : gr_ok g) (ha : gr_at a g) {post : Int32 → SY → Prop} (hp : ∀ h, post (nI (min 16 (hv_m g))) (a, b, h)) : ∀ d k h, k + d = 6561 → wY_halves_5 post (d + 1) (nI (min 16 (hv_mk g k))) (nI k) a b h := by
  intro d
  induction d with
  | zero =>
    intro k h hk
    have e : k = 6561 := by omega
    subst e
    exact br_t x6_le (hp h)
  | succ d ih =>
    intro k h hk
    have ms : hv_mk g (k + 1) = if tb_p (hv_ok g k) = true then min (hv_mk g k) (hv_s k 8) else hv_mk g k := rfl
    have s16 := hv_s2 k 8
    refine br_f (x6_nle (by omega)) (yw_give hg ha (by omega) (fun h _ z => ?_) (fun h _ z => ?_))
    · have q := ih (k + 1) h (by omega)
      rw [ms, if_pos (tb_t z)] at q
      refine br_f (nI_pos (by omega)) (pk_le (min 16 (hv_mk g k)) (hv_s k 8) (fun y => nm_r (nI_1 k) ?_) (fun y => nm_r (nI_1 k) ?_))
      · rw [show min 16 (min (hv_mk g k) (hv_s k 8)) = min 16 (hv_mk g k) by omega] at q
        exact q
      · rw [show min 16 (min (hv_mk g k) (hv_s k 8)) = hv_s k 8 by omega] at q
        exact q
    · have q := ih (k + 1) h (by omega)
      rw [ms, if_neg (by rw [tb_f z]; decide)] at q
      exact br_t (by decide) (nm_r (nI_1 k) q)
theorem yw_halves16 (hg : gr_ok g) (ha : gr_at a g) {post : Int32 → SY → Prop} (hp : ∀ h, post (nI (min 16 (hv_m g))) (a, b, h)) : wpY_halves post (a, b, h) := ⟨6561 + 1, yw_ha5 hg ha hp 6561 0 h rfl⟩
/-! the codes -/
def hv_k (f : Nat → Nat) : Nat → Nat
  | 0 => 0
  | n + 1 => hv_k f n + f n * 3 ^ n
theorem hv_klt {f : Nat → Nat} (hf : ∀ v, f v < 3) : ∀ n, hv_k f n < 3 ^ n := by
  intro n
  induction n with
  | zero => exact (by decide : 0 < 3 ^ 0)
  | succ n ih =>
    show hv_k f n + f n * 3 ^ n < 3 ^ (n + 1)
    have h2 : f n * 3 ^ n ≤ 2 * 3 ^ n := Nat.mul_le_mul_right _ (by have := hf n; omega)
    rw [Nat.pow_succ]
    omega
theorem hv_kd {f : Nat → Nat} (hf : ∀ v, f v < 3) : ∀ n v, v < n → hv_d (hv_k f n) v = f v := by
  intro n
  induction n with
  | zero => intro v hv; exact absurd hv (Nat.not_lt_zero v)
  | succ n ih =>
    intro v hv
    show (hv_k f n + f n * 3 ^ n) / 3 ^ v % 3 = f v
    have p : 0 < 3 ^ v := Nat.pow_pos (by decide)
    by_cases e : v = n
    · subst e
      rw [Nat.add_mul_div_right _ _ p, Nat.div_eq_of_lt (hv_klt hf v), Nat.zero_add]
      exact Nat.mod_eq_of_lt (hf v)
    · have e2 : f n * 3 ^ n = f n * 3 ^ (n - v - 1) * 3 * 3 ^ v := by
        rw [Nat.mul_assoc, Nat.mul_assoc, ← Nat.pow_succ', ← Nat.pow_add]
        congr 2
        omega
      rw [e2, Nat.add_mul_div_right _ _ p, Nat.add_mul_mod_self_right]
      exact ih v (by omega)
/-- two sets of copies that meet every pair of joined vertices -/
def hv_p (g : Nat → Nat) (A B : Nat → Bool) : Prop := ∀ u w, u < 8 → w < 8 → (g u).testBit w = true → A u = true ∨ B w = true
theorem hv_sum {c : Nat} {A B : Nat → Bool} {n : Nat} (h : ∀ v, v < n → hv_d c v = (A v).toNat + (B v).toNat) : hv_s c n = ca_n A n + ca_n B n := by
  induction n with
  | zero => rfl
  | succ n ih =>
    have h1 := ih (fun v hv => h v (by omega))
    have h2 := h n (by omega)
    rw [ca_s, ca_s]
    show hv_s c n + hv_d c n = _
    omega
theorem hv_from (hg : gr_ok g) {A B : Nat → Bool} (h : hv_p g A B) : ∃ c, c < 6561 ∧ hv_ok g c ∧ hv_s c 8 = ca_n A 8 + ca_n B 8 ∧ ∀ v, v < 8 → hv_d c v = (A v).toNat + (B v).toNat := by
  have hf : ∀ v, (A v).toNat + (B v).toNat < 3 := fun v => by
    have := Bool.toNat_le (A v)
    have := Bool.toNat_le (B v)
    omega
  have d := hv_kd hf 8
  refine ⟨hv_k (fun v => (A v).toNat + (B v).toNat) 8, hv_klt hf 8, fun v hv w hw e => ?_, hv_sum d, d⟩
  rw [d v hv, d w (by omega)]
  have t1 : true.toNat = 1 := rfl
  have h1 : (A v).toNat = 1 ∨ (B w).toNat = 1 := (h v w hv (by omega) e).imp (fun z => by rw [z]; rfl) (fun z => by rw [z]; rfl)
  have h2 : (A w).toNat = 1 ∨ (B v).toNat = 1 := (h w v (by omega) hv (by rw [hg.2.1 w v (by omega) hv]; exact e)).imp (fun z => by rw [z]; rfl) (fun z => by rw [z]; rfl)
  omega
def hv_A (c : Nat) : Nat → Bool := fun u => decide (1 ≤ hv_d c u)
def hv_B (c : Nat) : Nat → Bool := fun u => decide (hv_d c u = 2)
theorem hv_to (hg : gr_ok g) {c : Nat} (h : hv_ok g c) : hv_p g (hv_A c) (hv_B c) ∧ hv_s c 8 = ca_n (hv_A c) 8 + ca_n (hv_B c) 8 := by
  refine ⟨fun u w hu hw e => ?_, hv_sum (fun v hv => ?_)⟩
  · have k : 2 ≤ hv_d c u + hv_d c w := by
      by_cases l : w < u
      · exact h u hu w l e
      · by_cases q : u = w
        · subst q
          rw [hg.2.2 u hu] at e
          exact absurd e (by decide)
        · have := h w hw u (by omega) (by rw [hg.2.1 w u hw hu]; exact e)
          omega
    have := hv_d3 c w
    by_cases z : 1 ≤ hv_d c u
    · exact Or.inl (decide_eq_true z)
    · exact Or.inr (decide_eq_true (by omega))
  · have := hv_d3 c v
    unfold hv_A hv_B
    by_cases z : 1 ≤ hv_d c v
    · by_cases y : hv_d c v = 2
      · rw [decide_eq_true z, decide_eq_true y]
        exact y
      · rw [decide_eq_true z, decide_eq_false y]
        show hv_d c v = 1
        omega
    · rw [decide_eq_false z, decide_eq_false (show ¬ hv_d c v = 2 by omega)]
      show hv_d c v = 0
      omega
theorem hv_pall (g : Nat → Nat) : hv_p g (fun _ => true) (fun _ => false) := fun _ _ _ _ _ => Or.inl rfl
theorem hv_m8 (hg : gr_ok g) : hv_m g ≤ 8 := by
  obtain ⟨c, h1, h2, h3, _⟩ := hv_from hg (hv_pall g)
  have k : hv_m g ≤ hv_s c 8 := mi_le (P := fun c => tb_p (hv_ok g c)) (f := fun c => hv_s c 8) h1 (tb_t h2)
  have := ca_le (fun _ => true) 8
  rw [ca_zero (p := fun _ => false) (fun _ _ => rfl)] at h3
  omega
theorem yw_halves (hg : gr_ok g) (ha : gr_at a g) {post : Int32 → SY → Prop} (hp : ∀ h, post (nI (hv_m g)) (a, b, h)) : wpY_halves post (a, b, h) := by
  refine yw_halves16 hg ha (fun h => ?_)
  have := hv_m8 hg
  rw [Nat.min_eq_right (by omega)]
  exact hp h
/-! which halves the best have -/
def hv_b (g : Nat → Nat) (c : Nat) : Prop := hv_ok g c ∧ hv_s c 8 = hv_m g
noncomputable def hv_any (g : Nat → Nat) (n k : Nat) : Nat := ms_of (fun v => tb_p (∃ c, c < k ∧ hv_b g c ∧ hv_d c v = n)) 8
noncomputable def hv_all (g : Nat → Nat) (n k : Nat) : Nat := ms_of (fun v => tb_p (∀ c, c < k → hv_b g c → hv_d c v = n)) 8
def hv_set (n c : Nat) : Nat := ms_of (fun v => decide (hv_d c v = n)) 8
theorem hv_setb {n c v : Nat} (hv : v < 8) : (hv_set n c).testBit v = true ↔ hv_d c v = n := by
  unfold hv_set
  rw [ms_ob8 _ hv, decide_eq_true_iff]
theorem hv_anyb {n k v : Nat} (hv : v < 8) : (hv_any g n k).testBit v = true ↔ ∃ c, c < k ∧ hv_b g c ∧ hv_d c v = n := by
  unfold hv_any
  rw [ms_ob8 _ hv, tb_iff]
theorem hv_allb {n k v : Nat} (hv : v < 8) : (hv_all g n k).testBit v = true ↔ ∀ c, c < k → hv_b g c → hv_d c v = n := by
  unfold hv_all
  rw [ms_ob8 _ hv, tb_iff]
theorem hv_anylt (g : Nat → Nat) (n k : Nat) : hv_any g n k < 256 := ms_olt2 _ 8
theorem hv_alllt (g : Nat → Nat) (n k : Nat) : hv_all g n k < 256 := ms_olt2 _ 8
theorem hv_setlt (n c : Nat) : hv_set n c < 256 := ms_olt2 _ 8
theorem hv_all0 {n : Nat} : hv_all g n 0 = 255 := ms_ext2 (hv_alllt g n 0) (by decide) (fun i hi => ⟨fun _ => ms_255 hi, fun _ => (hv_allb hi).mpr (fun S z => absurd z (Nat.not_lt_zero S))⟩)
theorem hv_any0 {n : Nat} : hv_any g n 0 = 0 := ms_ext2 (hv_anylt g n 0) (by decide) (fun i hi => ⟨fun z => by
  obtain ⟨S, z, _⟩ := (hv_anyb hi).mp z
  exact absurd z (Nat.not_lt_zero S), fun z => by rw [Nat.zero_testBit] at z; exact absurd z (by decide)⟩)
theorem hv_allk {n k : Nat} (h : ¬ hv_b g k) : hv_all g n (k + 1) = hv_all g n k := ms_ext2 (hv_alllt _ _ _) (hv_alllt _ _ _) (fun i hi => by
  rw [hv_allb hi, hv_allb hi]
  constructor
  · exact fun z S l => z S (by omega)
  · intro z S l q
    by_cases e : S = k
    · subst e; exact absurd q h
    · exact z S (by omega) q)
theorem hv_alls {n k : Nat} (h : hv_b g k) : hv_all g n (k + 1) = hv_all g n k &&& hv_set n k := ms_ext2 (hv_alllt _ _ _) (ms_alt _ (hv_alllt _ _ _)) (fun i hi => by
  rw [ms_in, hv_allb hi, hv_allb hi, hv_setb hi]
  constructor
  · exact fun z => ⟨fun S l => z S (by omega), z k (by omega) h⟩
  · intro z S l q
    by_cases e : S = k
    · subst e; exact z.2
    · exact z.1 S (by omega) q)
theorem hv_anyk {n k : Nat} (h : ¬ hv_b g k) : hv_any g n (k + 1) = hv_any g n k := ms_ext2 (hv_anylt _ _ _) (hv_anylt _ _ _) (fun i hi => by
  rw [hv_anyb hi, hv_anyb hi]
  constructor
  · rintro ⟨S, l, q, r⟩
    by_cases e : S = k
    · subst e; exact absurd q h
    · exact ⟨S, by omega, q, r⟩
  · rintro ⟨S, l, q, r⟩
    exact ⟨S, by omega, q, r⟩)
theorem hv_anys {n k : Nat} (h : hv_b g k) : hv_any g n (k + 1) = hv_any g n k ||| hv_set n k := ms_ext2 (hv_anylt _ _ _) (ms_olt (hv_anylt _ _ _) (hv_setlt _ _)) (fun i hi => by
  rw [ms_un, hv_anyb hi, hv_anyb hi, hv_setb hi]
  constructor
  · rintro ⟨S, l, q, r⟩
    by_cases e : S = k
    · subst e; exact Or.inr r
    · exact Or.inl ⟨S, by omega, q, r⟩
  · rintro (⟨S, l, q, r⟩ | r)
    · exact ⟨S, by omega, q, r⟩
    · exact ⟨k, by omega, h, r⟩)
theorem yw_hv45 {c : Nat} (hh : so_at h (hv_d c) 8) {post : Int32 → SY → Prop} {J : Int32 → Int32 → (Nat → Int32) → (Nat → Int32) → (Nat → Int32) → Prop} {n : Nat} (hn : n < 3) {x2 x3 x4 x5 : Int32} (h0 : x2 = 0 → J (x4 ||| nI (hv_set n c)) (x5 + 1) a b h) (h1 : ¬ x2 = 0 → J (x4 &&& nI (hv_set n c)) (x5 + 1) a b h) : ∀ d i, i + d = 8 → wY_having_45 post J (nI n) x2 x3 x4 x5 a b h (d + 1) (nI (ms_of (fun v => decide (hv_d c v = n)) i)) (nI i) := by
  intro d
  induction d with
  | zero =>
    intro i hi
    have e : i = 8 := by omega
    subst e
    exact br_t x8_le (br_c (fun z => nm_e (nm_e (h0 z))) (fun z => nm_e (nm_e (h1 z))))
  | succ d ih =>
    intro i hi
    have d3 := hv_d3 c i
    have q := ih (i + 1) (by omega)
    have e : ms_of (fun v => decide (hv_d c v = n)) (i + 1) = ms_of (fun v => decide (hv_d c v = n)) i ||| (if decide (hv_d c i = n) = true then 2 ^ i else 0) := rfl
    refine br_f (x8_nle (by omega)) ⟨x8_in (by omega), ?_⟩
    rw [nI_clamp (by omega), hh i (by omega)]
    refine pk_eq (hv_d c i) n (fun z => nm_r (e' := nI (ms_of (fun v => decide (hv_d c v = n)) (i + 1))) ?_ (nm_r (nI_1 i) q)) (fun z => nm_r (nI_1 i) ?_)
    · rw [xb_shl i (by omega), xb_or, e, if_pos (decide_eq_true z)]
    · rw [e, if_neg (by rw [decide_eq_false z]; decide), Nat.or_zero] at q
      exact q
theorem yw_hany21 (hg : gr_ok g) (ha : gr_at a g) {post : Int32 → SY → Prop} {n : Nat} (hn : n < 3) (hp : ∀ h, post (nI (hv_any g n 6561)) (a, b, h)) : ∀ d k h, k + d = 6561 → wY_having_21 post (nI n) 0 (nI (hv_m g)) (d + 1) (nI (hv_any g n k)) (nI k) a b h := by
  have m8 := hv_m8 hg
  intro d
  induction d with
  | zero =>
    intro k h hk
    have e : k = 6561 := by omega
    subst e
    exact br_t x6_le (hp h)
  | succ d ih =>
    intro k h hk
    have s16 := hv_s2 k 8
    refine br_f (x6_nle (by omega)) (yw_give hg ha (by omega) (fun h hh z => ?_) (fun h _ z => ?_))
    · have q := ih (k + 1) h (by omega)
      refine pk_eq (hv_s k 8) (hv_m g) (fun y => ⟨9, yw_hv45 hh hn (fun _ => ?_) (fun x => absurd rfl x) 8 0 rfl⟩) (fun y => nm_r (nI_1 k) ?_)
      · rw [xb_or, nI_1, ← hv_anys ⟨z, y⟩]
        exact q
      · rw [hv_anyk (fun x => y x.2)] at q
        exact q
    · have q := ih (k + 1) h (by omega)
      rw [hv_anyk (fun x => z x.1)] at q
      refine br_f (fun y => ?_) (nm_r (nI_1 k) q)
      have k2 : ¬ nI (hv_m g) < 0 := nI_pos (by omega)
      rw [← y] at k2
      exact k2 (by decide)
theorem yw_hall21 (hg : gr_ok g) (ha : gr_at a g) {post : Int32 → SY → Prop} {n : Nat} (hn : n < 3) (hp : ∀ h, post (nI (hv_all g n 6561)) (a, b, h)) : ∀ d k h, k + d = 6561 → wY_having_21 post (nI n) 1 (nI (hv_m g)) (d + 1) (nI (hv_all g n k)) (nI k) a b h := by
  have m8 := hv_m8 hg
  intro d
  induction d with
  | zero =>
    intro k h hk
    have e : k = 6561 := by omega
    subst e
    exact br_t x6_le (hp h)
  | succ d ih =>
    intro k h hk
    have s16 := hv_s2 k 8
    refine br_f (x6_nle (by omega)) (yw_give hg ha (by omega) (fun h hh z => ?_) (fun h _ z => ?_))
    · have q := ih (k + 1) h (by omega)
      refine pk_eq (hv_s k 8) (hv_m g) (fun y => ⟨9, yw_hv45 hh hn (fun x => absurd x (by decide)) (fun _ => ?_) 8 0 rfl⟩) (fun y => nm_r (nI_1 k) ?_)
      · rw [nx_and, nI_1, ← hv_alls ⟨z, y⟩]
        exact q
      · rw [hv_allk (fun x => y x.2)] at q
        exact q
    · have q := ih (k + 1) h (by omega)
      rw [hv_allk (fun x => z x.1)] at q
      refine br_f (fun y => ?_) (nm_r (nI_1 k) q)
      have k2 : ¬ nI (hv_m g) < 0 := nI_pos (by omega)
      rw [← y] at k2
      exact k2 (by decide)
theorem yw_hany (hg : gr_ok g) (ha : gr_at a g) {post : Int32 → SY → Prop} {n : Nat} (hn : n < 3) (hp : ∀ h, post (nI (hv_any g n 6561)) (a, b, h)) : wpY_having post (a, b, h) (nI n) 0 := by
  unfold wpY_having
  refine yw_halves hg ha (fun h => br_t rfl ⟨6561 + 1, ?_⟩)
  have q := yw_hany21 hg ha hn hp 6561 0 h rfl
  rw [hv_any0] at q
  exact q
theorem yw_hall (hg : gr_ok g) (ha : gr_at a g) {post : Int32 → SY → Prop} {n : Nat} (hn : n < 3) (hp : ∀ h, post (nI (hv_all g n 6561)) (a, b, h)) : wpY_having post (a, b, h) (nI n) 1 := by
  unfold wpY_having
  refine yw_halves hg ha (fun h => br_f (by decide) ⟨6561 + 1, ?_⟩)
  have q := yw_hall21 hg ha hn hp 6561 0 h rfl
  rw [hv_all0] at q
  exact q
end
end
section
/-! costs by covers of copies -/
noncomputable def hv_mn (g : Nat → Nat) (v n : Nat) : Nat := mi_n (fun c => tb_p (hv_ok g c ∧ hv_d c v = n)) (fun c => hv_s c 8) 6561
section
variable {g : Nat → Nat}
theorem hv_halves (hg : gr_ok g) {r : Nat} (h : kg_r g 255 255 r) : hv_m g = r := by
  obtain ⟨h8, ⟨A, B, hV, hn⟩, hw⟩ := h
  refine mi_eq (by omega) ?_ ?_
  · obtain ⟨c, c1, c2, c3, _⟩ := hv_from (A := A) (B := B) hg (fun u w hu hw e => hV u w hu hw hu (ms_255 hu) (ms_255 hw) e)
    exact ⟨c, c1, tb_t c2, by show hv_s c 8 ≤ r; omega⟩
  · intro c hc k
    obtain ⟨p, s⟩ := hv_to hg (tb_iff.mp k)
    have := hw _ _ (fun u w hu hw _ _ _ e => p u w hu hw e)
    show r ≤ hv_s c 8
    omega
/-- the copies of v and of its neighbours that are fixed, and the rest -/
theorem hv_cost (hg : gr_ok g) {v n r k L R : Nat} (hr : kg_r g L R r) (hk : k + r < 100) (up : ∀ A B, kg_V g L R 8 A B → ∃ A' B', hv_p g A' B' ∧ (A' v).toNat + (B' v).toNat = n ∧ ca_n A' 8 + ca_n B' 8 ≤ k + (ca_n A 8 + ca_n B 8)) (dn : ∀ A B, hv_p g A B → (A v).toNat + (B v).toNat = n → (B v = true → A v = true) → ∃ A' B', kg_V g L R 8 A' B' ∧ k + (ca_n A' 8 + ca_n B' 8) ≤ ca_n A 8 + ca_n B 8) (hv : v < 8) : hv_mn g v n = k + r := by
  obtain ⟨h8, ⟨A, B, hV, hn⟩, hw⟩ := hr
  refine mi_eq hk ?_ ?_
  · obtain ⟨A', B', p, q, s⟩ := up A B hV
    obtain ⟨c, c1, c2, c3, c4⟩ := hv_from hg p
    exact ⟨c, c1, tb_t ⟨c2, by rw [c4 v hv]; exact q⟩, by show hv_s c 8 ≤ k + r; omega⟩
  · intro c hc z
    obtain ⟨z1, z2⟩ := tb_iff.mp z
    obtain ⟨p, s⟩ := hv_to hg z1
    have d3 := hv_d3 c v
    have e : (hv_A c v).toNat + (hv_B c v).toNat = n := by
      unfold hv_A hv_B
      by_cases y1 : 1 ≤ hv_d c v
      · by_cases y2 : hv_d c v = 2
        · rw [decide_eq_true y1, decide_eq_true y2]
          exact y2.symm.trans z2
        · rw [decide_eq_true y1, decide_eq_false y2]
          show 1 = n
          omega
      · rw [decide_eq_false y1, decide_eq_false (show ¬ hv_d c v = 2 by omega)]
        show 0 = n
        omega
    have ab : hv_B c v = true → hv_A c v = true := fun y => by
      unfold hv_A
      unfold hv_B at y
      have := of_decide_eq_true y
      exact decide_eq_true (by omega)
    obtain ⟨A', B', p', s'⟩ := dn _ _ p e ab
    have := hw A' B' p'
    show k + r ≤ hv_s c 8
    omega
theorem ca_setle (A : Nat → Bool) {v : Nat} (hv : v < 8) : ca_n (fun u => if u = v then true else A u) 8 ≤ ca_n A 8 + 1 := by
  have := ca_put (p := A) (b := true) hv
  have t1 : true.toNat = 1 := rfl
  omega
theorem ca_off (A : Nat → Bool) {v : Nat} (hv : v < 8) : ca_n (fun u => if u = v then false else A u) 8 + (A v).toNat = ca_n A 8 := by
  have := ca_put (p := A) (b := false) hv
  have t0 : false.toNat = 0 := rfl
  omega
/-- counts with and without a mask -/
theorem ca_with (A : Nat → Bool) (m : Nat) : ca_n (fun u => A u || m.testBit u) 8 ≤ ca_n A 8 + ms_c m := ca_orle A (fun u => m.testBit u) 8
theorem ca_without {A : Nat → Bool} {m : Nat} (h : ∀ u, u < 8 → m.testBit u = true → A u = true) : ca_n (fun u => A u && !m.testBit u) 8 + ms_c m = ca_n A 8 := by
  have k := ca_split A (fun u => m.testBit u) 8
  rw [ca_ext (p := fun i => A i && m.testBit i) (q := fun i => m.testBit i)] at k
  · unfold ms_c
    omega
  · intro i hi
    show (A i && m.testBit i) = m.testBit i
    cases e : m.testBit i
    · exact Bool.and_false _
    · rw [h i hi e]
      rfl
theorem bb_2 {x y : Bool} (h : x.toNat + y.toNat = 2) : x = true ∧ y = true := by cases x <;> cases y <;> first | exact ⟨rfl, rfl⟩ | exact absurd h (by decide)
theorem bb_0 {x y : Bool} (h : x.toNat + y.toNat = 0) : x = false ∧ y = false := by cases x <;> cases y <;> first | exact ⟨rfl, rfl⟩ | exact absurd h (by decide)
theorem bb_1 {x y : Bool} (h : x.toNat + y.toNat = 1) (k : y = true → x = true) : x = true ∧ y = false := by
  cases x
  · cases y
    · exact absurd h (by decide)
    · exact absurd (k rfl) (by decide)
  · cases y
    · exact ⟨rfl, rfl⟩
    · exact absurd h (by decide)
def hv_own (v : Nat) : Nat := ms_d 255 (2 ^ v)
def hv_far (g : Nat → Nat) (v : Nat) : Nat := ms_d (hv_own v) (g v)
theorem hv_ownlt (v : Nat) : hv_own v < 256 := ms_dlt _ (by decide)
theorem hv_farlt (g : Nat → Nat) (v : Nat) : hv_far g v < 256 := ms_dlt _ (hv_ownlt v)
theorem hv_ownb {v i : Nat} (hi : i < 8) : (hv_own v).testBit i = true ↔ ¬ v = i := by
  unfold hv_own
  rw [ms_df (by decide), ms_on]
  exact ⟨fun h => h.2, fun h => ⟨ms_255 hi, h⟩⟩
theorem hv_farb {v i : Nat} (hi : i < 8) : (hv_far g v).testBit i = true ↔ ¬ v = i ∧ ¬ (g v).testBit i = true := by
  unfold hv_far
  rw [ms_df (hv_ownlt v), hv_ownb hi]
theorem hv_c2 (hg : gr_ok g) {v r : Nat} (hv : v < 8) (hr : kg_r g (hv_own v) (hv_own v) r) : hv_mn g v 2 = 2 + r := by
  have h8 := hr.1
  refine hv_cost hg hr (by omega) (fun A B hV => ?_) (fun A B p e ab => ?_) hv
  · refine ⟨fun u => if u = v then true else A u, fun u => if u = v then true else B u, fun u w hu hw k => ?_, ?_, ?_⟩
    · by_cases e1 : u = v
      · exact Or.inl (if_pos e1)
      · by_cases e2 : w = v
        · exact Or.inr (if_pos e2)
        · rcases hV u w hu hw hu ((hv_ownb hu).mpr (Ne.symm e1)) ((hv_ownb hw).mpr (Ne.symm e2)) k with z | z
          · exact Or.inl ((if_neg e1).trans z)
          · exact Or.inr ((if_neg e2).trans z)
    · dsimp only
      rw [if_pos rfl, if_pos rfl]
      rfl
    · have := ca_setle A hv
      have := ca_setle B hv
      omega
  · obtain ⟨a, b⟩ := bb_2 e
    refine ⟨fun u => if u = v then false else A u, fun u => if u = v then false else B u, fun u w hu hw _ k1 k2 k3 => ?_, ?_⟩
    · have e1 : ¬ u = v := fun y => (hv_ownb hu).mp k1 y.symm
      have e2 : ¬ w = v := fun y => (hv_ownb hw).mp k2 y.symm
      rcases p u w hu hw k3 with z | z
      · exact Or.inl ((if_neg e1).trans z)
      · exact Or.inr ((if_neg e2).trans z)
    · have h1 := ca_off A hv
      have h2 := ca_off B hv
      rw [a] at h1
      rw [b] at h2
      have t1 : true.toNat = 1 := rfl
      omega
theorem hv_c1 (hg : gr_ok g) {v r : Nat} (hv : v < 8) (hr : kg_r g (hv_far g v) (hv_own v) r) : hv_mn g v 1 = 1 + ms_c (g v) + r := by
  have h8 := hr.1
  have c8 := ms_c8 (g v)
  refine hv_cost hg hr (by omega) (fun A B hV => ?_) (fun A B p e ab => ?_) hv
  · refine ⟨fun u => if u = v then true else (A u || (g v).testBit u), fun u => if u = v then false else B u, fun u w hu hw k => ?_, ?_, ?_⟩
    · by_cases e1 : u = v
      · exact Or.inl (if_pos e1)
      · by_cases n1 : (g v).testBit u = true
        · refine Or.inl ?_
          dsimp only
          rw [if_neg e1, n1, Bool.or_true]
        · have e2 : ¬ w = v := fun y => n1 (by rw [hg.2.1 v u hv hu, ← y]; exact k)
          rcases hV u w hu hw hu ((hv_farb hu).mpr ⟨Ne.symm e1, n1⟩) ((hv_ownb hw).mpr (Ne.symm e2)) k with z | z
          · refine Or.inl ?_
            dsimp only
            rw [if_neg e1, z, Bool.true_or]
          · exact Or.inr ((if_neg e2).trans z)
    · dsimp only
      rw [if_pos rfl, if_pos rfl]
      rfl
    · have h1 := ca_setle (fun u => A u || (g v).testBit u) hv
      have h2 := ca_with A (g v)
      have h3 := ca_off B hv
      omega
  · obtain ⟨a, b⟩ := bb_1 e ab
    have nb : ∀ u, u < 8 → (g v).testBit u = true → A u = true := fun u hu k => by
      rcases p u v hu hv (by rw [hg.2.1 u v hu hv]; exact k) with z | z
      · exact z
      · rw [b] at z
        exact absurd z (by decide)
    refine ⟨fun u => (if u = v then false else A u) && !(g v).testBit u, B, fun u w hu hw _ k1 k2 k3 => ?_, ?_⟩
    · obtain ⟨f1, f2⟩ := (hv_farb hu).mp k1
      have e1 : ¬ u = v := Ne.symm f1
      rcases p u w hu hw k3 with z | z
      · refine Or.inl ?_
        dsimp only
        rw [if_neg e1, z, Bool.eq_false_iff.mpr f2]
        rfl
      · exact Or.inr z
    · have h1 := ca_off A hv
      have h2 := ca_without (A := fun u => if u = v then false else A u) (m := g v) (fun u hu k => by
        have e1 : ¬ u = v := fun y => by
          subst y
          rw [hg.2.2 u hu] at k
          exact absurd k (by decide)
        rw [if_neg e1]
        exact nb u hu k)
      rw [a] at h1
      have t1 : true.toNat = 1 := rfl
      omega
theorem hv_c0 (hg : gr_ok g) {v r : Nat} (hv : v < 8) (hr : kg_r g (hv_far g v) (hv_far g v) r) : hv_mn g v 0 = 2 * ms_c (g v) + r := by
  have h8 := hr.1
  have c8 := ms_c8 (g v)
  have vv := hg.2.2 v hv
  refine hv_cost hg hr (by omega) (fun A B hV => ?_) (fun A B p e ab => ?_) hv
  · refine ⟨fun u => (if u = v then false else A u) || (g v).testBit u, fun u => (if u = v then false else B u) || (g v).testBit u, fun u w hu hw k => ?_, ?_, ?_⟩
    · by_cases n1 : (g v).testBit u = true
      · refine Or.inl ?_
        dsimp only
        rw [n1, Bool.or_true]
      · by_cases n2 : (g v).testBit w = true
        · refine Or.inr ?_
          dsimp only
          rw [n2, Bool.or_true]
        · have e1 : ¬ u = v := fun y => n2 (by rw [← y]; exact k)
          have e2 : ¬ w = v := fun y => n1 (by rw [hg.2.1 v u hv hu, ← y]; exact k)
          rcases hV u w hu hw hu ((hv_farb hu).mpr ⟨Ne.symm e1, n1⟩) ((hv_farb hw).mpr ⟨Ne.symm e2, n2⟩) k with z | z
          · refine Or.inl ?_
            dsimp only
            rw [if_neg e1, z, Bool.true_or]
          · refine Or.inr ?_
            dsimp only
            rw [if_neg e2, z, Bool.true_or]
    · dsimp only
      rw [if_pos rfl, if_pos rfl, vv]
      rfl
    · have h1 := ca_with (fun u => if u = v then false else A u) (g v)
      have h2 := ca_off A hv
      have h3 := ca_with (fun u => if u = v then false else B u) (g v)
      have h4 := ca_off B hv
      omega
  · obtain ⟨a, b⟩ := bb_0 e
    have nA : ∀ u, u < 8 → (g v).testBit u = true → A u = true := fun u hu k => by
      rcases p u v hu hv (by rw [hg.2.1 u v hu hv]; exact k) with z | z
      · exact z
      · rw [b] at z
        exact absurd z (by decide)
    have nB : ∀ u, u < 8 → (g v).testBit u = true → B u = true := fun u hu k => by
      rcases p v u hv hu k with z | z
      · rw [a] at z
        exact absurd z (by decide)
      · exact z
    refine ⟨fun u => A u && !(g v).testBit u, fun u => B u && !(g v).testBit u, fun u w hu hw _ k1 k2 k3 => ?_, ?_⟩
    · obtain ⟨f1, f2⟩ := (hv_farb hu).mp k1
      obtain ⟨f3, f4⟩ := (hv_farb hw).mp k2
      rcases p u w hu hw k3 with z | z
      · refine Or.inl ?_
        dsimp only
        rw [z, Bool.eq_false_iff.mpr f2]
        rfl
      · refine Or.inr ?_
        dsimp only
        rw [z, Bool.eq_false_iff.mpr f4]
        rfl
    · have h1 := ca_without nA
      have h2 := ca_without nB
      omega
/-- v has n halves in some best half cover -/
def hv_can (g : Nat → Nat) (v n : Nat) : Prop := ∃ c, c < 6561 ∧ hv_b g c ∧ hv_d c v = n
theorem hv_caniff (hg : gr_ok g) (v n : Nat) : hv_mn g v n = hv_m g ↔ hv_can g v n := by
  have m8 := hv_m8 hg
  constructor
  · intro h
    rcases mi_ex (fun c => tb_p (hv_ok g c ∧ hv_d c v = n)) (fun c => hv_s c 8) 6561 with z | ⟨c, x, y, z⟩
    · have : hv_mn g v n = 100 := z
      omega
    · obtain ⟨p, q⟩ := tb_iff.mp y
      exact ⟨c, x, ⟨p, z.trans h⟩, q⟩
  · rintro ⟨c, x, ⟨p, q⟩, e⟩
    refine mi_eq (by omega) ⟨c, x, tb_t ⟨p, e⟩, by show hv_s c 8 ≤ _; omega⟩ (fun c' x' k => ?_)
    exact mi_le (P := fun c => tb_p (hv_ok g c)) (f := fun c => hv_s c 8) x' (tb_t (tb_iff.mp k).1)
end
section
variable {fb : Int32} {aj lo tk pa cf li pr ch op ps : Nat → Int32} {g : Nat → Nat}
theorem xw_halves (hg : gr_ok g) (ha : gr_at aj g) {post : Int32 → SX → Prop} (h : ∀ pa cf li, post (nI (hv_m g)) (fb, aj, lo, tk, pa, cf, li, pr, ch, op, ps)) : wpX_halves post (fb, aj, lo, tk, pa, cf, li, pr, ch, op, ps) := by
  unfold wpX_halves
  refine xw_match (L := 255) (R := 255) hg ha (by decide) (by decide) (fun r pa cf li k => ?_)
  have q := h pa cf li
  rw [hv_halves hg k] at q
  exact q
theorem xw_costWith (hg : gr_ok g) (ha : gr_at aj g) {post : Int32 → SX → Prop} {v n : Nat} (hv : v < 8) (hn : n ≤ 2) (h : ∀ pa cf li, post (nI (hv_mn g v n)) (fb, aj, lo, tk, pa, cf, li, pr, ch, op, ps)) : wpX_costWith post (fb, aj, lo, tk, pa, cf, li, pr, ch, op, ps) (nI v) (nI n) := by
  unfold wpX_costWith
  refine nm_r (e' := nI (hv_own v)) (by rw [xb_shl v hv, show (255 : Int32) = nI 255 from rfl, xb_not]; rfl) ⟨x8_in hv, nm_r (e' := nI (hv_far g v)) (by rw [gr_get ha hv, xb_not]; rfl) ⟨x8_in hv, ?_⟩⟩
  rw [gr_get ha hv]
  refine xw_ones (hg.1 v hv) (pk_eq n 2 (fun e => ?_) (fun e => pk_eq n 1 (fun e1 => ?_) (fun e1 => ?_)))
  · subst e
    refine xw_match hg ha (hv_ownlt v) (hv_ownlt v) (fun r pa cf li k => ?_)
    have q := h pa cf li
    rw [hv_c2 hg hv k, ← nI_add] at q
    exact q
  · subst e1
    refine xw_match hg ha (hv_farlt g v) (hv_ownlt v) (fun r pa cf li k => ?_)
    have q := h pa cf li
    rw [hv_c1 hg hv k, ← nI_add, ← nI_add] at q
    exact q
  · have e0 : n = 0 := by omega
    subst e0
    refine xw_match hg ha (hv_farlt g v) (hv_farlt g v) (fun r pa cf li k => ?_)
    have q := h pa cf li
    rw [hv_c0 hg hv k, ← nI_add, ← pk_mul] at q
    exact q
theorem xw_canHave (hg : gr_ok g) (ha : gr_at aj g) {post : Int32 → SX → Prop} {v n : Nat} (hv : v < 8) (hn : n ≤ 2) (h1 : hv_can g v n → ∀ pa cf li, post 1 (fb, aj, lo, tk, pa, cf, li, pr, ch, op, ps)) (h0 : ¬ hv_can g v n → ∀ pa cf li, post 0 (fb, aj, lo, tk, pa, cf, li, pr, ch, op, ps)) : wpX_canHave post (fb, aj, lo, tk, pa, cf, li, pr, ch, op, ps) (nI v) (nI n) := by
  have m8 := hv_m8 hg
  have m1 := mi_100 (fun c => tb_p (hv_ok g c ∧ hv_d c v = n)) (fun c => hv_s c 8) 6561
  have m2 : hv_mn g v n ≤ 100 := m1
  unfold wpX_canHave
  refine xw_isV _ (fun z => absurd ⟨v, hv, rfl⟩ z) (fun _ _ _ => br_f (by decide) (br_f (nI_pos (by omega)) (br_t (nI_le (b := 2) hn (by decide)) ?_)))
  refine xw_halves hg ha (fun pa cf li => ?_)
  refine xw_costWith hg ha hv hn (fun pa cf li => ?_)
  exact pk_eq (hv_mn g v n) (hv_m g) (fun e => h1 ((hv_caniff hg v n).mp e) pa cf li) (fun e => h0 (fun z => e ((hv_caniff hg v n).mpr z)) pa cf li)
theorem xw_wh4 (hg : gr_ok g) (ha : gr_at aj g) {post : Int32 → SX → Prop} (h : ∀ pa cf li, post (nI (ms_of (fun v => tb_p (¬ hv_can g v 0 ∧ ¬ hv_can g v 1)) 8)) (fb, aj, lo, tk, pa, cf, li, pr, ch, op, ps)) : ∀ d i pa cf li, i + d = 8 → wX_whole_4 post (d + 1) (nI (ms_of (fun v => tb_p (¬ hv_can g v 0 ∧ ¬ hv_can g v 1)) i)) (nI i) fb aj lo tk pa cf li pr ch op ps := by
  intro d
  induction d with
  | zero =>
    intro i pa cf li hi
    have e : i = 8 := by omega
    subst e
    exact br_t x8_le (h pa cf li)
  | succ d ih =>
    intro i pa cf li hi
    have e : ms_of (fun v => tb_p (¬ hv_can g v 0 ∧ ¬ hv_can g v 1)) (i + 1) = ms_of (fun v => tb_p (¬ hv_can g v 0 ∧ ¬ hv_can g v 1)) i ||| (if tb_p (¬ hv_can g i 0 ∧ ¬ hv_can g i 1) = true then 2 ^ i else 0) := rfl
    refine br_f (x8_nle (by omega)) (xw_canHave (n := 0) hg ha (by omega) (by omega) (fun z pa cf li => br_f (by decide) (nm_r (e' := nI (ms_of (fun v => tb_p (¬ hv_can g v 0 ∧ ¬ hv_can g v 1)) (i + 1))) ?_ (nm_r (nI_1 i) (ih (i + 1) pa cf li (by omega))))) (fun z pa cf li => br_t rfl ?_))
    · rw [e, if_neg (fun y => (tb_iff.mp y).1 z)]
      exact xb_or _ 0
    · refine xw_canHave (n := 1) hg ha (by omega) (by omega) (fun y pa cf li => br_f (by decide) (nm_r (e' := nI (ms_of (fun v => tb_p (¬ hv_can g v 0 ∧ ¬ hv_can g v 1)) (i + 1))) ?_ (nm_r (nI_1 i) (ih (i + 1) pa cf li (by omega))))) (fun y pa cf li => br_t rfl (nm_r (e' := nI (ms_of (fun v => tb_p (¬ hv_can g v 0 ∧ ¬ hv_can g v 1)) (i + 1))) ?_ (nm_r (nI_1 i) (ih (i + 1) pa cf li (by omega)))))
      · rw [e, if_neg (fun x => (tb_iff.mp x).2 y)]
        exact xb_or _ 0
      · rw [e, if_pos (tb_t ⟨z, y⟩), xb_shl i (by omega)]
        exact xb_or _ _
theorem xw_ba4 (hg : gr_ok g) (ha : gr_at aj g) {post : Int32 → SX → Prop} (h : ∀ pa cf li, post (nI (ms_of (fun v => tb_p (¬ hv_can g v 1 ∧ ¬ hv_can g v 2)) 8)) (fb, aj, lo, tk, pa, cf, li, pr, ch, op, ps)) : ∀ d i pa cf li, i + d = 8 → wX_bare_4 post (d + 1) (nI (ms_of (fun v => tb_p (¬ hv_can g v 1 ∧ ¬ hv_can g v 2)) i)) (nI i) fb aj lo tk pa cf li pr ch op ps := by
  intro d
  induction d with
  | zero =>
    intro i pa cf li hi
    have e : i = 8 := by omega
    subst e
    exact br_t x8_le (h pa cf li)
  | succ d ih =>
    intro i pa cf li hi
    have e : ms_of (fun v => tb_p (¬ hv_can g v 1 ∧ ¬ hv_can g v 2)) (i + 1) = ms_of (fun v => tb_p (¬ hv_can g v 1 ∧ ¬ hv_can g v 2)) i ||| (if tb_p (¬ hv_can g i 1 ∧ ¬ hv_can g i 2) = true then 2 ^ i else 0) := rfl
    refine br_f (x8_nle (by omega)) (xw_canHave (n := 1) hg ha (by omega) (by omega) (fun z pa cf li => br_f (by decide) (nm_r (e' := nI (ms_of (fun v => tb_p (¬ hv_can g v 1 ∧ ¬ hv_can g v 2)) (i + 1))) ?_ (nm_r (nI_1 i) (ih (i + 1) pa cf li (by omega))))) (fun z pa cf li => br_t rfl ?_))
    · rw [e, if_neg (fun y => (tb_iff.mp y).1 z)]
      exact xb_or _ 0
    · refine xw_canHave (n := 2) hg ha (by omega) (by omega) (fun y pa cf li => br_f (by decide) (nm_r (e' := nI (ms_of (fun v => tb_p (¬ hv_can g v 1 ∧ ¬ hv_can g v 2)) (i + 1))) ?_ (nm_r (nI_1 i) (ih (i + 1) pa cf li (by omega))))) (fun y pa cf li => br_t rfl (nm_r (e' := nI (ms_of (fun v => tb_p (¬ hv_can g v 1 ∧ ¬ hv_can g v 2)) (i + 1))) ?_ (nm_r (nI_1 i) (ih (i + 1) pa cf li (by omega)))))
      · rw [e, if_neg (fun x => (tb_iff.mp x).2 y)]
        exact xb_or _ 0
      · rw [e, if_pos (tb_t ⟨z, y⟩), xb_shl i (by omega)]
        exact xb_or _ _
theorem hv_wh : ms_of (fun v => tb_p (¬ hv_can g v 0 ∧ ¬ hv_can g v 1)) 8 = hv_all g 2 6561 := ms_ext2 (ms_olt2 _ 8) (hv_alllt _ _ _) (fun i hi => by
  rw [ms_ob8 _ hi, tb_iff, hv_allb hi]
  constructor
  · rintro ⟨h0, h1⟩ c hc k
    have := hv_d3 c i
    have n0 : ¬ hv_d c i = 0 := fun z => h0 ⟨c, hc, k, z⟩
    have n1 : ¬ hv_d c i = 1 := fun z => h1 ⟨c, hc, k, z⟩
    omega
  · intro h
    refine ⟨?_, ?_⟩
    · rintro ⟨c, hc, k, z⟩
      have := h c hc k
      omega
    · rintro ⟨c, hc, k, z⟩
      have := h c hc k
      omega)
theorem hv_ba : ms_of (fun v => tb_p (¬ hv_can g v 1 ∧ ¬ hv_can g v 2)) 8 = hv_all g 0 6561 := ms_ext2 (ms_olt2 _ 8) (hv_alllt _ _ _) (fun i hi => by
  rw [ms_ob8 _ hi, tb_iff, hv_allb hi]
  constructor
  · rintro ⟨h0, h1⟩ c hc k
    have := hv_d3 c i
    have n0 : ¬ hv_d c i = 1 := fun z => h0 ⟨c, hc, k, z⟩
    have n1 : ¬ hv_d c i = 2 := fun z => h1 ⟨c, hc, k, z⟩
    omega
  · intro h
    refine ⟨?_, ?_⟩
    · rintro ⟨c, hc, k, z⟩
      have := h c hc k
      omega
    · rintro ⟨c, hc, k, z⟩
      have := h c hc k
      omega)
end
theorem i_vc_halves {k : Nat} {u : SX} {v : SY} (I : i_Rel k u v) (hk : k + 4 ≤ 2048) : wpX_halves (fun r u' => wpY_halves (fun r' v' => r' = r ∧ i_Rel (k + 4) u' v') v) u := by
  refine re_el (P := fun u v => wpX_halves (fun r u' => wpY_halves (fun r' v' => r' = r ∧ i_Rel (k + 4) u' v') v) u) I ?_
  intro fb aj lo tk pa cf li pr ch op ps b c g hg ha
  exact xw_halves hg ha (fun pa cf li => yw_halves hg ha (fun h => ⟨rfl, re_in hg ha⟩))
theorem i_vc_evenly {k : Nat} {u : SX} {v : SY} (I : i_Rel k u v) (hk : k + 4 ≤ 2048) : wpX_evenly (fun r u' => wpY_evenly (fun r' v' => r' = r ∧ i_Rel (k + 4) u' v') v) u := by
  refine re_el (P := fun u v => wpX_evenly (fun r u' => wpY_evenly (fun r' v' => r' = r ∧ i_Rel (k + 4) u' v') v) u) I ?_
  intro fb aj lo tk pa cf li pr ch op ps b c g hg ha
  unfold wpX_evenly
  refine xw_halves hg ha (fun pa cf li => ?_)
  refine br_c (fun z => ?_) (fun z => ?_)
  · unfold wpY_evenly
    exact yw_halves hg ha (fun h => br_t z ⟨rfl, re_in hg ha⟩)
  · unfold wpY_evenly
    exact yw_halves hg ha (fun h => br_f z ⟨rfl, re_in hg ha⟩)
theorem i_vc_whole {k : Nat} {u : SX} {v : SY} (I : i_Rel k u v) (hk : k + 4 ≤ 2048) : wpX_whole (fun r u' => wpY_whole (fun r' v' => r' = r ∧ i_Rel (k + 4) u' v') v) u := by
  refine re_el (P := fun u v => wpX_whole (fun r u' => wpY_whole (fun r' v' => r' = r ∧ i_Rel (k + 4) u' v') v) u) I ?_
  intro fb aj lo tk pa cf li pr ch op ps b c g hg ha
  refine ⟨8 + 1, xw_wh4 hg ha (fun pa cf li => ?_) 8 0 pa cf li rfl⟩
  unfold wpY_whole
  exact yw_hall (n := 2) hg ha (by omega) (fun h => ⟨by rw [hv_wh], re_in hg ha⟩)
theorem i_vc_bare {k : Nat} {u : SX} {v : SY} (I : i_Rel k u v) (hk : k + 4 ≤ 2048) : wpX_bare (fun r u' => wpY_bare (fun r' v' => r' = r ∧ i_Rel (k + 4) u' v') v) u := by
  refine re_el (P := fun u v => wpX_bare (fun r u' => wpY_bare (fun r' v' => r' = r ∧ i_Rel (k + 4) u' v') v) u) I ?_
  intro fb aj lo tk pa cf li pr ch op ps b c g hg ha
  refine ⟨8 + 1, xw_ba4 hg ha (fun pa cf li => ?_) 8 0 pa cf li rfl⟩
  unfold wpY_bare
  exact yw_hall (n := 0) hg ha (by omega) (fun h => ⟨by rw [hv_ba], re_in hg ha⟩)
theorem i_vc_canHave {k : Nat} {u : SX} {v : SY} (I : i_Rel k u v) (hk : k + 4 ≤ 2048) (v1 : Int32) (v2 : Int32) : wpX_canHave (fun r u' => wpY_canHave (fun r' v' => r' = r ∧ i_Rel (k + 4) u' v') v v1 v2) u v1 v2 := by
  refine re_el (P := fun u v => wpX_canHave (fun r u' => wpY_canHave (fun r' v' => r' = r ∧ i_Rel (k + 4) u' v') v v1 v2) u v1 v2) I ?_
  intro fb aj lo tk pa cf li pr ch op ps b c g hg ha
  by_cases z : ∃ j, j < 8 ∧ v1 = nI j
  · obtain ⟨j, hj, rfl⟩ := z
    by_cases n0 : v2 < 0
    · unfold wpX_canHave
      refine xw_isV _ (fun z => absurd ⟨j, hj, rfl⟩ z) (fun _ _ _ => br_f (by decide) (br_t n0 ?_))
      unfold wpY_canHave
      exact yw_V _ (fun z => absurd ⟨j, hj, rfl⟩ z) (fun _ _ _ => br_f (by decide) (br_t n0 ⟨rfl, re_in hg ha⟩))
    by_cases n2 : v2 ≤ 2
    · obtain ⟨n, hn, rfl⟩ := nI_of2 (n := 2) (M := 2) (by decide) n0 n2
      have n3 : ¬ (2 : Int32) < nI n := nI_nlt (a := 2) hn (by omega)
      have bt := xb_bit (a := hv_any g n 6561) (v := j) (by have := hv_anylt g n 6561; omega) (by omega)
      refine xw_canHave hg ha hj hn (fun y pa cf li => ?_) (fun y pa cf li => ?_)
      · unfold wpY_canHave
        refine yw_V _ (fun z => absurd ⟨j, hj, rfl⟩ z) (fun _ _ _ => br_f (by decide) (br_f n0 (br_f n3 ?_)))
        refine yw_hany hg ha (by omega) (fun h => ?_)
        rw [(hv_anyb hj).mpr y] at bt
        exact br_t bt ⟨rfl, re_in hg ha⟩
      · unfold wpY_canHave
        refine yw_V _ (fun z => absurd ⟨j, hj, rfl⟩ z) (fun _ _ _ => br_f (by decide) (br_f n0 (br_f n3 ?_)))
        refine yw_hany hg ha (by omega) (fun h => ?_)
        have e : (hv_any g n 6561).testBit j = false := Bool.eq_false_iff.mpr (fun x => y ((hv_anyb hj).mp x))
        rw [e] at bt
        refine br_f (fun x => ?_) ⟨rfl, re_in hg ha⟩
        rw [bt] at x
        exact absurd x (by decide)
    · have n3 : (2 : Int32) < v2 := Int32.not_le.mp n2
      unfold wpX_canHave
      refine xw_isV _ (fun z => absurd ⟨j, hj, rfl⟩ z) (fun _ _ _ => br_f (by decide) (br_f n0 (br_f n2 ?_)))
      unfold wpY_canHave
      exact yw_V _ (fun z => absurd ⟨j, hj, rfl⟩ z) (fun _ _ _ => br_f (by decide) (br_f n0 (br_t n3 ⟨rfl, re_in hg ha⟩)))
  · unfold wpX_canHave
    refine xw_isV _ (fun _ => br_t rfl ?_) (fun j hj e => absurd ⟨j, hj, e⟩ z)
    unfold wpY_canHave
    exact yw_V _ (fun _ => br_t rfl ⟨rfl, re_in hg ha⟩) (fun j hj e => absurd ⟨j, hj, e⟩ z)
end
section
/-! matchings of every set -/
def mt_v (k : Nat) : Nat := if k.testBit 0 = true then 0 else if k.testBit 1 = true then 1 else if k.testBit 2 = true then 2 else if k.testBit 3 = true then 3 else if k.testBit 4 = true then 4 else if k.testBit 5 = true then 5 else if k.testBit 6 = true then 6 else 7
theorem mt_v0 : ∀ k, k < 256 → k = 0 ∨ (mt_v k < 8 ∧ k.testBit (mt_v k) = true ∧ ∀ i, i < mt_v k → k.testBit i = false) := by decide +kernel
theorem mt_vs {k : Nat} (h : k < 256) (h0 : k ≠ 0) : mt_v k < 8 ∧ k.testBit (mt_v k) = true ∧ ∀ i, i < mt_v k → k.testBit i = false := (mt_v0 k h).resolve_left h0
def mt_f (c : Nat → Bool) (h : Nat → Nat) (b : Nat) : Nat → Nat
  | 0 => b
  | i + 1 => if c i = true then max (mt_f c h b i) (h i) else mt_f c h b i
theorem mt_fs (c : Nat → Bool) (h : Nat → Nat) (b i : Nat) : mt_f c h b (i + 1) = if c i = true then max (mt_f c h b i) (h i) else mt_f c h b i := rfl
theorem mt_fle {c : Nat → Bool} {h : Nat → Nat} {b M : Nat} (hb : b ≤ M) : ∀ i, (∀ w, w < i → c w = true → h w ≤ M) → mt_f c h b i ≤ M := by
  intro i
  induction i with
  | zero => intro _; exact hb
  | succ i ih =>
    intro k
    have h1 := ih (fun w hw => k w (by omega))
    rw [mt_fs]
    by_cases e : c i = true
    · have := k i (by omega) e
      rw [if_pos e]
      omega
    · rw [if_neg e]
      exact h1
theorem mt_f0 {c : Nat → Bool} {h : Nat → Nat} {b : Nat} : ∀ i, (∀ w, w < i → c w = false) → mt_f c h b i = b := by
  intro i
  induction i with
  | zero => intro _; rfl
  | succ i ih =>
    intro k
    rw [mt_fs, k i (by omega)]
    exact ih (fun w hw => k w (by omega))
def mt_w (g t : Nat → Nat) (v r : Nat) : Nat → Nat := mt_f (fun w => (r &&& g v).testBit w) (fun w => 1 + t (ms_d r (2 ^ w))) (t r)
def mt_t (g : Nat → Nat) : Nat → Nat → Nat
  | 0 => fun _ => 0
  | k + 1 => nu_f (mt_t g k) (k + 1) (mt_w g (mt_t g k) (mt_v (k + 1)) (ms_d (k + 1) (2 ^ mt_v (k + 1))) 8)
theorem ms_dle (a b : Nat) : ms_d a b ≤ a := Nat.and_le_left
theorem ms_dne {a v : Nat} (ha : a < 256) (hv : v < 8) (h : a.testBit v = true) : ms_d a (2 ^ v) < a := by
  have h1 := ms_dle a (2 ^ v)
  have h2 := ms_cdel ha hv h
  rcases Nat.lt_or_ge (ms_d a (2 ^ v)) a with l | l
  · exact l
  · have e : ms_d a (2 ^ v) = a := by omega
    rw [e] at h2
    omega
theorem mt_wle {g t : Nat → Nat} {r M v : Nat} (hr : r < 256) (ht : ∀ j, j ≤ r → t j ≤ ms_c j) (hM : ms_c r ≤ M) (i : Nat) (hi : i ≤ 8) : mt_w g t v r i ≤ M := by
  refine mt_fle (by have := ht r (Nat.le_refl r); omega) i (fun w hw c => ?_)
  have b := (ms_in.mp c).1
  have d := ms_cdel hr (by omega) b
  have := ht (ms_d r (2 ^ w)) (ms_dle _ _)
  show 1 + t (ms_d r (2 ^ w)) ≤ M
  omega
theorem mt_ok (g : Nat → Nat) : ∀ k, k < 256 → ∀ j, j ≤ k → mt_t g k j ≤ ms_c j := by
  intro k
  induction k with
  | zero => intro _ j _; exact Nat.zero_le _
  | succ k ih =>
    intro hk j hj
    show nu_f (mt_t g k) (k + 1) _ j ≤ ms_c j
    by_cases e : j = k + 1
    · subst e
      rw [nu_s]
      obtain ⟨a, b, _⟩ := mt_vs hk (by omega)
      have l := ms_dne hk a b
      have d := ms_cdel hk a b
      exact mt_wle (ms_dlt _ hk) (fun j hj => ih (by omega) j (by omega)) (by omega) 8 (Nat.le_refl 8)
    · rw [nu_n e]
      exact ih (by omega) j (by omega)
section
variable {fb : Int32} {aj lo tk pa cf li pr ch op ps : Nat → Int32} {g : Nat → Nat}
theorem xw_mt53 (hg : gr_ok g) (ha : gr_at aj g) {t : Nat → Nat} {k v r : Nat} (hk : k < 256) (hv : v < 8) (hr : r < 256) (hp : ∀ j, j ≤ r → pr j = nI (t j)) (ht : ∀ j, j ≤ r → t j ≤ ms_c j) {post : Int32 → SX → Prop} {J : Int32 → (Nat → Int32) → (Nat → Int32) → (Nat → Int32) → (Nat → Int32) → (Nat → Int32) → (Nat → Int32) → (Nat → Int32) → (Nat → Int32) → (Nat → Int32) → (Nat → Int32) → Prop} (hJ : J (nI (k + 1)) aj lo tk pa cf li (upd pr k (nI (mt_w g t v r 8))) ch op ps) : ∀ d i, i + d = 8 → wX_matching_53 post J (nI k) (nI v) (nI r) fb aj lo tk pa cf li pr ch op ps (d + 1) (nI (mt_w g t v r i)) (nI i) := by
  have c8 := ms_c8 r
  have bd := fun i hi => mt_wle (g := g) (v := v) hr ht c8 i hi
  intro d
  induction d with
  | zero =>
    intro i hi
    have e : i = 8 := by omega
    subst e
    have b8 := bd 8 (Nat.le_refl 8)
    exact br_t x8_le ⟨vp_in_nI hk (by decide), nm_r (e' := upd pr k (nI (mt_w g t v r 8))) (by rw [nI_clamp (by omega), xb_by (by omega)]) (nm_r (nI_1 k) hJ)⟩
  | succ d ih =>
    intro i hi
    have q := ih (i + 1) (by omega)
    have e : mt_w g t v r (i + 1) = if (r &&& g v).testBit i = true then max (mt_w g t v r i) (1 + t (ms_d r (2 ^ i))) else mt_w g t v r i := rfl
    have bi := bd i (by omega)
    have l := ms_dle r (2 ^ i)
    have t8 : t (ms_d r (2 ^ i)) ≤ 8 := Nat.le_trans (ht _ l) (ms_c8 _)
    refine br_f (x8_nle (by omega)) ⟨x8_in hv, ?_⟩
    rw [gr_get ha hv, nx_and]
    refine xw_in (ms_alt _ hr) (by omega) (fun z => br_t rfl (nm_r (nI_1 i) ?_)) (fun z => br_f (by decide) ?_)
    · rw [e, if_neg (by rw [z]; decide)] at q
      exact q
    · rw [e, if_pos z] at q
      rw [xb_shl i (by omega), xb_not]
      refine ⟨vp_in_nI (ms_dlt _ hr) (by decide), nm_r (e' := nI (1 + t (ms_d r (2 ^ i)))) ?_ (pk_le (1 + t (ms_d r (2 ^ i))) (mt_w g t v r i) (fun y => nm_r (nI_1 i) ?_) (fun y => nm_r (nI_1 i) ?_))⟩
      · rw [nI_clamp (by omega), hp _ l, ← nI_add]
        rfl
      · rw [Nat.max_eq_left y] at q
        exact q
      · rw [Nat.max_eq_right (by omega)] at q
        exact q
theorem xw_mt18 (hg : gr_ok g) (ha : gr_at aj g) {t : Nat → Nat} {k : Nat} (hk : k < 256) (k0 : k ≠ 0) (hp : ∀ j, j < k → pr j = nI (t j)) (ht : ∀ j, j < k → t j ≤ ms_c j) {post : Int32 → SX → Prop} {J : Int32 → (Nat → Int32) → (Nat → Int32) → (Nat → Int32) → (Nat → Int32) → (Nat → Int32) → (Nat → Int32) → (Nat → Int32) → (Nat → Int32) → (Nat → Int32) → (Nat → Int32) → Prop} (hJ : J (nI (k + 1)) aj lo tk pa cf li (upd pr k (nI (mt_w g t (mt_v k) (ms_d k (2 ^ mt_v k)) 8))) ch op ps) : ∀ d i, i + d = mt_v k → wX_matching_18 post J (nI k) fb aj lo tk pa cf li pr ch op ps (d + 1) (nI i) := by
  obtain ⟨v8, vb, vl⟩ := mt_vs hk k0
  have l := ms_dne hk v8 vb
  generalize mt_v k = v at *
  intro d
  induction d with
  | zero =>
    intro i hi
    have e : i = v := by omega
    subst e
    unfold wX_matching_18
    refine xw_in hk v8 (fun z => absurd (z.symm.trans vb) (by decide)) (fun z => br_f (by decide) (nm_r (e' := nI (ms_d k (2 ^ i))) (by rw [xb_shl i v8, xb_not]) ⟨vp_in_nI (by omega) (by decide), nm_r (e' := nI (mt_w g t i (ms_d k (2 ^ i)) (i + 1))) ?_ (nm_r (nI_1 i) ⟨8 - (i + 1) + 1, ?_⟩)⟩))
    · rw [nI_clamp (by omega), hp _ l]
      refine congrArg nI (mt_f0 (i + 1) (fun w hw => ?_)).symm
      rw [Nat.testBit_and, ms_bd _ _ hk, ms_bp]
      by_cases e : i = w
      · subst e
        rw [decide_eq_true rfl]
        simp
      · rw [vl w (by omega)]
        rfl
    · exact xw_mt53 hg ha hk v8 (by omega) (fun j hj => hp j (by omega)) (fun j hj => ht j (by omega)) hJ (8 - (i + 1)) (i + 1) (by omega)
  | succ d ih =>
    intro i hi
    unfold wX_matching_18
    exact xw_in hk (by omega) (fun z => br_t rfl (nm_r (nI_1 i) (ih (i + 1) (by omega)))) (fun z => absurd (z.symm.trans (vl i (by omega))) (by decide))
theorem xw_mt9 (hg : gr_ok g) (ha : gr_at aj g) {post : Int32 → SX → Prop} (h : ∀ pr, post (nI (mt_t g 255 255)) (fb, aj, lo, tk, pa, cf, li, pr, ch, op, ps)) : ∀ (d k : Nat) (pr : Nat → Int32), k + d = 255 → (∀ j, j ≤ k → pr j = nI (mt_t g k j)) → wX_matching_9 post fb (d + 1) (nI (k + 1)) aj lo tk pa cf li pr ch op ps := by
  intro d
  induction d with
  | zero =>
    intro k pr hk hp
    have e : k = 255 := by omega
    subst e
    refine br_t (nI_lt (a := 255) (by decide) (by decide)) ?_
    rw [hp 255 (Nat.le_refl _)]
    exact h pr
  | succ d ih =>
    intro k pr hk hp
    refine br_f (nI_nlt (a := 255) (by omega) (by decide)) ⟨mt_v (k + 1) + 1, ?_⟩
    refine xw_mt18 (t := mt_t g k) hg ha (by omega) (by omega) (fun j hj => hp j (by omega)) (fun j hj => mt_ok g k (by omega) j (by omega)) ?_ (mt_v (k + 1)) 0 (Nat.zero_add _)
    refine ih (k + 1) _ (by omega) (fun j hj => ?_)
    show _ = nI (nu_f (mt_t g k) (k + 1) _ j)
    by_cases e : j = k + 1
    · subst e
      rw [pk_us, nu_s]
    · rw [pk_un e, nu_n e]
      exact hp j (by omega)
theorem xw_matching (hg : gr_ok g) (ha : gr_at aj g) {post : Int32 → SX → Prop} (h : ∀ pr, post (nI (mt_t g 255 255)) (fb, aj, lo, tk, pa, cf, li, pr, ch, op, ps)) : wpX_matching post (fb, aj, lo, tk, pa, cf, li, pr, ch, op, ps) := by
  refine nm_r (e' := upd pr 0 0) (by rw [xb_by0]) ⟨256, ?_⟩
  exact xw_mt9 hg ha h 255 0 _ rfl (fun j hj => by
    have e : j = 0 := by omega
    subst e
    exact pk_us)
end
section
variable {a b h : Nat → Int32} {g : Nat → Nat}
theorem yw_mt57 (hg : gr_ok g) (ha : gr_at a g) {t : Nat → Nat} {k v r : Nat} (hk : k < 256) (hv : v < 8) (hr : r < 256) (hp : ∀ j, j ≤ r → b j = nI (t j)) (ht : ∀ j, j ≤ r → t j ≤ ms_c j) {post : Int32 → SY → Prop} {J : Int32 → (Nat → Int32) → (Nat → Int32) → (Nat → Int32) → Prop} (hJ : J (nI (k + 1)) a (upd b k (nI (mt_w g t v r 8))) h) : ∀ d i, i + d = 8 → wY_matching_57 post J (nI k) (nI v) (nI r) a b h (d + 1) (nI (mt_w g t v r i)) (nI i) := by
  have c8 := ms_c8 r
  have lg := hg.1 v hv
  have bd := fun i hi => mt_wle (g := g) (v := v) hr ht c8 i hi
  intro d
  induction d with
  | zero =>
    intro i hi
    have e : i = 8 := by omega
    subst e
    exact br_t x8_le ⟨vp_in_nI hk (by decide), nm_r (e' := upd b k (nI (mt_w g t v r 8))) (by rw [nI_clamp (by omega)]) (nm_r (nI_1 k) hJ)⟩
  | succ d ih =>
    intro i hi
    have q := ih (i + 1) (by omega)
    have e : mt_w g t v r (i + 1) = if (r &&& g v).testBit i = true then max (mt_w g t v r i) (1 + t (ms_d r (2 ^ i))) else mt_w g t v r i := rfl
    have bi := bd i (by omega)
    have l := ms_dle r (2 ^ i)
    have t8 : t (ms_d r (2 ^ i)) ≤ 8 := Nat.le_trans (ht _ l) (ms_c8 _)
    have no : ¬ (r &&& g v).testBit i = true → wY_matching_93 post J (wY_matching_57 post J (nI k) (nI v) (nI r) a b h (d + 1)) (nI k) (nI v) (nI r) (nI (mt_w g t v r i)) (nI i) a b h := by
      intro z
      rw [e, if_neg z] at q
      exact br_t rfl (br_t (nI_pos' (by omega)) (nm_r (nI_1 i) q))
    rw [Nat.testBit_and] at no e
    refine br_f (x8_nle (by omega)) ?_
    rw [xb_bit (a := r) (by omega) (by omega)]
    cases z1 : r.testBit i
    · exact br_f (by decide) (no (by rw [z1]; simp))
    · refine br_t (by decide) ⟨x8_in hv, ?_⟩
      rw [gr_get ha hv, xb_bit (a := g v) (by omega) (by omega)]
      cases z2 : (g v).testBit i
      · exact br_f (by decide) (no (by rw [z2]; simp))
      · rw [e, if_pos (by rw [z1, z2]; rfl)] at q
        refine br_t (by decide) (br_f (by decide) ?_)
        rw [xb_shl i (by omega), xb_not]
        refine ⟨vp_in_nI (ms_dlt _ hr) (by decide), ?_⟩
        rw [nI_clamp (by omega), hp _ l]
        refine pk_le (1 + t (ms_d r (2 ^ i))) (mt_w g t v r i) (fun y => nm_r (nI_1 i) ?_) (fun y => nm_r (nI_1 i) ?_) (nI_add 1 _)
        · rw [Nat.max_eq_left y] at q
          exact q
        · rw [Nat.max_eq_right (by omega), ← nI_add] at q
          exact q
theorem yw_mt38 (hg : gr_ok g) (ha : gr_at a g) {t : Nat → Nat} {k v : Nat} (hk : k < 256) (hv : v < 8) (hb : k.testBit v = true) (hp : ∀ j, j < k → b j = nI (t j)) (ht : ∀ j, j < k → t j ≤ ms_c j) {post : Int32 → SY → Prop} {J : Int32 → (Nat → Int32) → (Nat → Int32) → (Nat → Int32) → Prop} (hJ : J (nI (k + 1)) a (upd b k (nI (mt_w g t v (ms_d k (2 ^ v)) 8))) h) : wY_matching_38 post J (nI k) (nI v) a b h := by
  have l := ms_dne hk hv hb
  refine nm_r (e' := nI (ms_d k (2 ^ v))) (by rw [xb_shl v hv, xb_not]) ⟨vp_in_nI (by omega) (by decide), nm_r (e' := nI (t (ms_d k (2 ^ v)))) (by rw [nI_clamp (by omega), hp _ l]) ⟨9, ?_⟩⟩
  exact yw_mt57 hg ha hk hv (by omega) (fun j hj => hp j (by omega)) (fun j hj => ht j (by omega)) hJ 8 0 rfl
theorem yw_mt18 (hg : gr_ok g) (ha : gr_at a g) {t : Nat → Nat} {k : Nat} (hk : k < 256) (k0 : k ≠ 0) (hp : ∀ j, j < k → b j = nI (t j)) (ht : ∀ j, j < k → t j ≤ ms_c j) {post : Int32 → SY → Prop} {J : Int32 → (Nat → Int32) → (Nat → Int32) → (Nat → Int32) → Prop} (hJ : J (nI (k + 1)) a (upd b k (nI (mt_w g t (mt_v k) (ms_d k (2 ^ mt_v k)) 8))) h) : ∀ d i, i + d = mt_v k → wY_matching_18 post J (nI k) a b h (d + 1) (nI i) := by
  obtain ⟨v8, vb, vl⟩ := mt_vs hk k0
  generalize mt_v k = v at *
  intro d
  induction d with
  | zero =>
    intro i hi
    have e : i = v := by omega
    subst e
    have q := yw_mt38 hg ha hk v8 vb hp ht (post := post) hJ
    refine br_c (fun _ => q) (fun _ => ?_)
    rw [xb_bit (by omega) (by omega), vb]
    exact br_f (by decide) q
  | succ d ih =>
    intro i hi
    refine br_f (nI_ge (b := 7) (by omega) (by decide)) ?_
    rw [xb_bit (by omega) (by omega), vl i (by omega)]
    exact br_t (by decide) (nm_r (nI_1 i) (ih (i + 1) (by omega)))
theorem yw_mt9 (hg : gr_ok g) (ha : gr_at a g) {post : Int32 → SY → Prop} (hp : ∀ b, post (nI (mt_t g 255 255)) (a, b, h)) : ∀ (d k : Nat) (b : Nat → Int32), k + d = 255 → (∀ j, j ≤ k → b j = nI (mt_t g k j)) → wY_matching_9 post (d + 1) (nI (k + 1)) a b h := by
  intro d
  induction d with
  | zero =>
    intro k b hk hb
    have e : k = 255 := by omega
    subst e
    refine br_t x256_le ?_
    rw [hb 255 (Nat.le_refl _)]
    exact hp b
  | succ d ih =>
    intro k b hk hb
    refine br_f (x256_nle (by omega)) ⟨mt_v (k + 1) + 1, ?_⟩
    refine yw_mt18 (t := mt_t g k) hg ha (by omega) (by omega) (fun j hj => hb j (by omega)) (fun j hj => mt_ok g k (by omega) j (by omega)) ?_ (mt_v (k + 1)) 0 (Nat.zero_add _)
    refine ih (k + 1) _ (by omega) (fun j hj => ?_)
    show _ = nI (nu_f (mt_t g k) (k + 1) _ j)
    by_cases e : j = k + 1
    · subst e
      rw [pk_us, nu_s]
    · rw [pk_un e, nu_n e]
      exact hb j (by omega)
theorem yw_matching (hg : gr_ok g) (ha : gr_at a g) {post : Int32 → SY → Prop} (hp : ∀ b, post (nI (mt_t g 255 255)) (a, b, h)) : wpY_matching post (a, b, h) := by
  refine nm_e ⟨256, ?_⟩
  exact yw_mt9 hg ha hp 255 0 _ rfl (fun j hj => by
    have e : j = 0 := by omega
    subst e
    exact pk_us)
end
theorem i_vc_matching {k : Nat} {u : SX} {v : SY} (I : i_Rel k u v) (hk : k + 4 ≤ 2048) : wpX_matching (fun r u' => wpY_matching (fun r' v' => r' = r ∧ i_Rel (k + 4) u' v') v) u := by
  refine re_el (P := fun u v => wpX_matching (fun r u' => wpY_matching (fun r' v' => r' = r ∧ i_Rel (k + 4) u' v') v) u) I ?_
  intro fb aj lo tk pa cf li pr ch op ps b c g hg ha
  exact xw_matching hg ha (fun pr => yw_matching hg ha (fun b => ⟨rfl, re_in hg ha⟩))
end
section
/-! sets without edges that can't be made larger, of the open and past vertices -/
def tc_Q (g : Nat → Nat) (c b T : Nat) : Prop := (∀ v, v < 8 → T.testBit v = true → c.testBit v = true) ∧ (∀ v w, v < 8 → w < 8 → T.testBit v = true → T.testBit w = true → ¬ (g v).testBit w = true) ∧ (∀ v, v < 8 → (c.testBit v = true ∧ ¬ T.testBit v = true) ∨ b.testBit v = true → ∃ w, w < 8 ∧ T.testBit w = true ∧ (g v).testBit w = true)
noncomputable def tc_N (g : Nat → Nat) (c b : Nat) : Nat := ca_n (fun T => tb_p (tc_Q g c b T)) 256
theorem tc_le (g : Nat → Nat) (c b : Nat) : tc_N g c b ≤ 256 := ca_le _ _
theorem tc_no {g : Nat → Nat} {b : Nat} (hb : b < 256) (h : b ≠ 0) : tc_N g 0 b = 0 := by
  refine ca_zero (fun T hT => tb_f (fun k => h ((ms_z hb).mpr (fun v hv => ?_))))
  cases e : b.testBit v
  · rfl
  · obtain ⟨w, hw, k1, k2⟩ := k.2.2 v hv (Or.inr e)
    have := k.1 w hw k1
    rw [Nat.zero_testBit] at this
    exact absurd this (by decide)
theorem tc_yes (g : Nat → Nat) : tc_N g 0 0 = 1 := by
  have k := ca_put (p := fun _ => false) (j := 0) (b := true) (n := 256) (by decide)
  rw [ca_zero (p := fun _ => false) (fun _ _ => rfl)] at k
  unfold tc_N
  rw [ca_ext (q := fun i => if i = 0 then true else false)]
  · have t1 : true.toNat = 1 := rfl
    have t0 : false.toNat = 0 := rfl
    omega
  · intro T hT
    have z : ∀ v, ¬ Nat.testBit 0 v = true := fun v => by rw [Nat.zero_testBit]; decide
    by_cases e : T = 0
    · subst e
      rw [if_pos rfl]
      exact tb_t ⟨fun v _ y => y, fun v w _ _ y => absurd y (z v), fun v _ y => y.elim (fun y => absurd y.1 (z v)) (fun y => absurd y (z v))⟩
    · rw [if_neg e]
      refine tb_f (fun k => e ((ms_z hT).mpr (fun v hv => ?_)))
      cases y : T.testBit v
      · rfl
      · exact absurd (k.1 v hv y) (z v)
def tc_ap (g : Nat → Nat) (v : Nat) : Nat := ms_d (ms_d 255 (g v)) (2 ^ v)
theorem tc_aplt (g : Nat → Nat) (v : Nat) : tc_ap g v < 256 := ms_dlt _ (ms_dlt _ (by decide))
theorem tc_apb {g : Nat → Nat} {v i : Nat} (hi : i < 8) : (tc_ap g v).testBit i = true ↔ ¬ (g v).testBit i = true ∧ ¬ v = i := by
  unfold tc_ap
  rw [ms_df (ms_dlt _ (by decide)), ms_df (by decide), ms_on]
  exact ⟨fun h => ⟨h.1.2, h.2⟩, fun h => ⟨⟨ms_255 hi, h.1⟩, h.2⟩⟩
theorem tc_split {g : Nat → Nat} (hg : gr_ok g) {c b v : Nat} (hc : c < 256) (hv : v < 8) (h : c.testBit v = true) (dj : ∀ i, i < 8 → c.testBit i = true → ¬ b.testBit i = true) : tc_N g c b = tc_N g (ms_d c (2 ^ v)) (b ||| 2 ^ v) + tc_N g (c &&& tc_ap g v) (b &&& tc_ap g v) := by
  have sp := ca_split (fun T => tb_p (tc_Q g c b T)) (fun T => T.testBit v) 256
  have dv : ∀ i, (ms_d c (2 ^ v)).testBit i = true ↔ c.testBit i = true ∧ ¬ v = i := fun i => by rw [ms_df hc, ms_on]
  have dl : ∀ T i, T < 256 → ((ms_d T (2 ^ v)).testBit i = true ↔ T.testBit i = true ∧ ¬ v = i) := fun T i hT => by rw [ms_df hT, ms_on]
  have ad : ∀ T i, ((T ||| 2 ^ v).testBit i = true ↔ T.testBit i = true ∨ v = i) := fun T i => by rw [ms_un, ms_on]
  have out : ca_n (fun T => tb_p (tc_Q g c b T) && !T.testBit v) 256 = tc_N g (ms_d c (2 ^ v)) (b ||| 2 ^ v) := by
    refine ca_ext (fun T hT => ?_)
    show (tb_p (tc_Q g c b T) && !T.testBit v) = tb_p (tc_Q g (ms_d c (2 ^ v)) (b ||| 2 ^ v) T)
    cases e : T.testBit v
    · rw [show (!false) = true from rfl, Bool.and_true]
      have ne : ∀ i, T.testBit i = true → ¬ v = i := fun i k y => by
        subst y
        rw [e] at k
        exact absurd k (by decide)
      refine tb_c ⟨fun q => ⟨fun i hi k => (dv i).mpr ⟨q.1 i hi k, ne i k⟩, q.2.1, fun i hi k => q.2.2 i hi ?_⟩, fun q => ⟨fun i hi k => ((dv i).mp (q.1 i hi k)).1, q.2.1, fun i hi k => q.2.2 i hi ?_⟩⟩
      · rcases k with ⟨k1, k2⟩ | k
        · exact Or.inl ⟨((dv i).mp k1).1, k2⟩
        · rcases (ad b i).mp k with k | k
          · exact Or.inr k
          · subst k
            exact Or.inl ⟨h, by rw [e]; decide⟩
      · rcases k with ⟨k1, k2⟩ | k
        · by_cases y : v = i
          · exact Or.inr ((ad b i).mpr (Or.inr y))
          · exact Or.inl ⟨(dv i).mpr ⟨k1, y⟩, k2⟩
        · exact Or.inr ((ad b i).mpr (Or.inl k))
    · rw [show (!true) = false from rfl, Bool.and_false]
      exact (tb_f (fun q => ((dv v).mp (q.1 v hv e)).2 rfl)).symm
  have inn : ca_n (fun T => tb_p (tc_Q g c b T) && T.testBit v) 256 = tc_N g (c &&& tc_ap g v) (b &&& tc_ap g v) := by
    refine Nat.le_antisymm ?_ ?_
    · refine ca_inj (fun T => ms_d T (2 ^ v)) (fun T hT k => ⟨ms_dlt _ hT, tb_t ?_⟩) (fun T T' hT hT' k k' e => ?_)
      · rw [Bool.and_eq_true] at k
        obtain ⟨k1, k2⟩ := k
        obtain ⟨q1, q2, q3⟩ := tb_iff.mp k1
        refine ⟨fun i hi y => ?_, fun i j hi hj y1 y2 => q2 i j hi hj ((dl T i hT).mp y1).1 ((dl T j hT).mp y2).1, fun i hi y => ?_⟩
        · obtain ⟨y1, y2⟩ := (dl T i hT).mp y
          exact ms_in.mpr ⟨q1 i hi y1, (tc_apb hi).mpr ⟨q2 v i hv hi k2 y1, y2⟩⟩
        · have ap : (tc_ap g v).testBit i = true := by
            rcases y with ⟨y, _⟩ | y
            · exact (ms_in.mp y).2
            · exact (ms_in.mp y).2
          obtain ⟨a1, a2⟩ := (tc_apb hi).mp ap
          have z : ∃ w, w < 8 ∧ T.testBit w = true ∧ (g i).testBit w = true := by
            refine q3 i hi ?_
            rcases y with ⟨y1, y2⟩ | y
            · exact Or.inl ⟨(ms_in.mp y1).1, fun x => y2 ((dl T i hT).mpr ⟨x, a2⟩)⟩
            · exact Or.inr (ms_in.mp y).1
          obtain ⟨w, hw, z1, z2⟩ := z
          refine ⟨w, hw, (dl T w hT).mpr ⟨z1, fun x => a1 ?_⟩, z2⟩
          rw [hg.2.1 v i hv hi, x]
          exact z2
      · rw [Bool.and_eq_true] at k k'
        refine ms_ext2 hT hT' (fun i hi => ?_)
        by_cases y : v = i
        · subst y
          exact ⟨fun _ => k'.2, fun _ => k.2⟩
        · have e2 : (ms_d T (2 ^ v)).testBit i = (ms_d T' (2 ^ v)).testBit i := congrArg (fun x => Nat.testBit x i) e
          constructor
          · intro x
            have := (dl T i hT).mpr ⟨x, y⟩
            rw [e2] at this
            exact ((dl T' i hT').mp this).1
          · intro x
            have := (dl T' i hT').mpr ⟨x, y⟩
            rw [← e2] at this
            exact ((dl T i hT).mp this).1
    · have nv : ∀ T, tc_Q g (c &&& tc_ap g v) (b &&& tc_ap g v) T → ¬ T.testBit v = true := fun T q k => ((tc_apb hv).mp (ms_in.mp (q.1 v hv k)).2).2 rfl
      refine ca_inj (fun T => T ||| 2 ^ v) (fun T hT k => ⟨ms_olt hT (ms_plt hv), ?_⟩) (fun T T' hT hT' k k' e => ?_)
      · have q := tb_iff.mp k
        obtain ⟨q1, q2, q3⟩ := q
        show (tb_p (tc_Q g c b (T ||| 2 ^ v)) && (T ||| 2 ^ v).testBit v) = true
        rw [Bool.and_eq_true]
        have apT : ∀ i, i < 8 → T.testBit i = true → ¬ (g v).testBit i = true := fun i hi y => ((tc_apb hi).mp (ms_in.mp (q1 i hi y)).2).1
        refine ⟨tb_t ⟨fun i hi y => ?_, fun i j hi hj y1 y2 => ?_, fun i hi y => ?_⟩, (ad T v).mpr (Or.inr rfl)⟩
        · rcases (ad T i).mp y with y | y
          · exact (ms_in.mp (q1 i hi y)).1
          · subst y
            exact h
        · rcases (ad T i).mp y1 with y1 | y1
          · rcases (ad T j).mp y2 with y2 | y2
            · exact q2 i j hi hj y1 y2
            · subst y2
              rw [hg.2.1 i v hi hv]
              exact apT i hi y1
          · subst y1
            rcases (ad T j).mp y2 with y2 | y2
            · exact apT j hj y2
            · subst y2
              rw [hg.2.2 v hv]
              decide
        · by_cases a : (g v).testBit i = true
          · exact ⟨v, hv, (ad T v).mpr (Or.inr rfl), by rw [hg.2.1 i v hi hv]; exact a⟩
          · have vi : ¬ v = i := by
              intro x
              subst x
              rcases y with ⟨_, y⟩ | y
              · exact y ((ad T v).mpr (Or.inr rfl))
              · exact dj v hv h y
            have ap := (tc_apb hi).mpr ⟨a, vi⟩
            obtain ⟨w, hw, z1, z2⟩ := q3 i hi (by
              rcases y with ⟨y1, y2⟩ | y
              · exact Or.inl ⟨ms_in.mpr ⟨y1, ap⟩, fun x => y2 ((ad T i).mpr (Or.inl x))⟩
              · exact Or.inr (ms_in.mpr ⟨y, ap⟩))
            exact ⟨w, hw, (ad T w).mpr (Or.inl z1), z2⟩
      · have n1 := nv T (tb_iff.mp k)
        have n2 := nv T' (tb_iff.mp k')
        refine ms_ext2 hT hT' (fun i hi => ?_)
        by_cases y : v = i
        · subst y
          exact ⟨fun x => absurd x n1, fun x => absurd x n2⟩
        · have e2 : (T ||| 2 ^ v).testBit i = (T' ||| 2 ^ v).testBit i := congrArg (fun x => Nat.testBit x i) e
          constructor
          · intro x
            have := (ad T i).mpr (Or.inl x)
            rw [e2] at this
            exact ((ad T' i).mp this).resolve_right y
          · intro x
            have := (ad T' i).mpr (Or.inl x)
            rw [← e2] at this
            exact ((ad T i).mp this).resolve_right y
  show ca_n (fun T => tb_p (tc_Q g c b T)) 256 = _
  omega
/-! the stack -/
noncomputable def tc_S (g : Nat → Nat) (c b : Nat → Nat) : Nat → Nat
  | 0 => 0
  | n + 1 => tc_S g c b n + tc_N g (c n) (b n)
theorem tc_Ss (g c b : Nat → Nat) (n : Nat) : tc_S g c b (n + 1) = tc_S g c b n + tc_N g (c n) (b n) := rfl
theorem tc_Sext {g c b c' b' : Nat → Nat} {n : Nat} (h : ∀ i, i < n → c i = c' i ∧ b i = b' i) : tc_S g c b n = tc_S g c' b' n := by
  induction n with
  | zero => rfl
  | succ n ih => rw [tc_Ss, tc_Ss, ih (fun i hi => h i (by omega)), (h n (by omega)).1, (h n (by omega)).2]
def tc_I (g : Nat → Nat) (W n C R : Nat) (c b : Nat → Nat) : Prop := n ≤ 9 ∧ (∀ i, i < n → c i < 256 ∧ b i < 256 ∧ i + ms_c (c i) ≤ 8 ∧ ∀ v, v < 8 → (c i).testBit v = true → ¬ (b i).testBit v = true) ∧ C + tc_S g c b n = W ∧ R + so_w c n ≤ 511
theorem tc_leaf {g : Nat → Nat} {W m C C' R : Nat} {c b : Nat → Nat} (h : tc_I g W (m + 1) C R c b) (k : C' = C + tc_N g (c m) (b m)) : tc_I g W m C' (R + 1) c b := by
  obtain ⟨a, d, e, f⟩ := h
  rw [tc_Ss] at e
  rw [so_ws] at f
  have p1 := so_p2 (ms_c (c m))
  have p2 := so_pos (ms_c (c m))
  exact ⟨by omega, fun i hi => d i (by omega), by omega, by omega⟩
theorem tc_two {g : Nat → Nat} (hg : gr_ok g) {W m C R v : Nat} {c b : Nat → Nat} (h : tc_I g W (m + 1) C R c b) (hv : v < 8) (k : (c m).testBit v = true) : tc_I g W (m + 2) C (R + 1) (nu_f (nu_f c m (ms_d (c m) (2 ^ v))) (m + 1) (c m &&& tc_ap g v)) (nu_f (nu_f b m (b m ||| 2 ^ v)) (m + 1) (b m &&& tc_ap g v)) := by
  obtain ⟨a, d, e, f⟩ := h
  obtain ⟨m1, m2, m3, m4⟩ := d m (by omega)
  have ne : m ≠ m + 1 := by omega
  have s1 := ms_cdel m1 hv k
  have s2 : ms_c (c m &&& tc_ap g v) ≤ ms_c (ms_d (c m) (2 ^ v)) := ms_cle (fun i hi y => by
    obtain ⟨y1, y2⟩ := ms_in.mp y
    exact (ms_df m1).mpr ⟨y1, fun x => ((tc_apb hi).mp y2).2 (ms_on.mp x)⟩)
  have sp := tc_split hg m1 hv k m4
  refine ⟨by omega, fun i hi => ?_, ?_, ?_⟩
  · by_cases z : i = m + 1
    · subst z
      rw [nu_s, nu_s]
      exact ⟨ms_alt _ m1, ms_alt _ m2, by omega, fun i hi y1 y2 => m4 i hi (ms_in.mp y1).1 (ms_in.mp y2).1⟩
    · rw [nu_n z, nu_n z]
      by_cases y : i = m
      · subst y
        rw [nu_s, nu_s]
        refine ⟨ms_dlt _ m1, ms_olt m2 (ms_plt hv), by omega, fun j hj y1 y2 => ?_⟩
        obtain ⟨x1, x2⟩ := (ms_df m1).mp y1
        rcases ms_un.mp y2 with y2 | y2
        · exact m4 j hj x1 y2
        · exact x2 y2
      · rw [nu_n y, nu_n y]
        exact d i (by omega)
  · rw [tc_Ss, tc_Ss, nu_s, nu_s, nu_n ne, nu_n ne, nu_s, nu_s, tc_Sext (c' := c) (b' := b) (fun i hi => ⟨by rw [nu_n (show i ≠ m + 1 by omega), nu_n (show i ≠ m by omega)], by rw [nu_n (show i ≠ m + 1 by omega), nu_n (show i ≠ m by omega)]⟩)]
    rw [tc_Ss] at e
    omega
  · rw [so_ws, so_ws, nu_s, nu_n ne, nu_s, so_wext (l' := c) (fun i hi => by rw [nu_n (show i ≠ m + 1 by omega), nu_n (show i ≠ m by omega)])]
    rw [so_ws] at f
    have p1 := so_pw (a := ms_c (ms_d (c m) (2 ^ v))) (c := ms_c (c m)) (by omega)
    have p2 := so_pw (a := ms_c (c m &&& tc_ap g v)) (c := ms_c (c m)) (by omega)
    have p3 := so_p2 (ms_c (c m))
    have p4 := so_pos (ms_c (ms_d (c m) (2 ^ v)) + 1)
    have p5 := so_pos (ms_c (c m &&& tc_ap g v) + 1)
    omega
section
variable {fb : Int32} {aj lo tk pa cf li pr ch op ps : Nat → Int32} {g : Nat → Nat}
theorem xw_pushSet {post : SX → Prop} {n c b : Nat} (p : Int32) (hn : n < 64) (hc : c < 256) (hb : b < 256) (h : ∀ ch, post (fb, aj, lo, tk, pa, cf, li, pr, ch, upd op n (nI c), upd ps n (nI b))) : wpX_pushSet post (fb, aj, lo, tk, pa, cf, li, pr, ch, op, ps) (nI n) p (nI c) (nI b) := by
  refine ⟨vp_in_nI hn (by decide), nm_e ⟨vp_in_nI hn (by decide), nm_r (e' := upd op n (nI c)) ?_ ⟨vp_in_nI hn (by decide), nm_r (e' := upd ps n (nI b)) ?_ (h _)⟩⟩⟩
  · rw [nI_clamp (by omega), xb_sh hc]
  · rw [nI_clamp (by omega), xb_sh hb]
theorem xw_tc78 (hg : gr_ok g) (ha : gr_at aj g) {post : Int32 → SX → Prop} {J : Int32 → Int32 → Int32 → Int32 → (Nat → Int32) → (Nat → Int32) → (Nat → Int32) → (Nat → Int32) → (Nat → Int32) → (Nat → Int32) → (Nat → Int32) → (Nat → Int32) → (Nat → Int32) → (Nat → Int32) → Prop} {x1 x5 : Int32} {m R c b : Nat} (hm : m < 62) (hc : c < 256) (hb : b < 256) (c0 : c ≠ 0) (hJ : ∀ ch, J x1 (nI (m + 2)) (nI (R + 1)) fb aj lo tk pa cf li pr ch (upd (upd op m (nI (ms_d c (2 ^ mt_v c)))) (m + 1) (nI (c &&& tc_ap g (mt_v c)))) (upd (upd ps m (nI (b ||| 2 ^ mt_v c))) (m + 1) (nI (b &&& tc_ap g (mt_v c))))) : ∀ d i, i + d = mt_v c → wX_tightCovers_78 post J x1 (nI m) (nI R) (nI c) x5 (nI b) fb aj lo tk pa cf li pr ch op ps (d + 1) (nI i) := by
  obtain ⟨v8, vb, vl⟩ := mt_vs hc c0
  generalize mt_v c = v at *
  intro d
  induction d with
  | zero =>
    intro i hi
    have e : i = v := by omega
    subst e
    unfold wX_tightCovers_78
    refine xw_in hc v8 (fun z => absurd (z.symm.trans vb) (by decide)) (fun z => br_f (by decide) ⟨x8_in v8, nm_r (e' := nI (tc_ap g i)) ?_ ?_⟩)
    · rw [gr_get ha v8, show (255 : Int32) = nI 255 from rfl, xb_shl i v8, xb_not, xb_not]
      rfl
    · rw [xb_shl i v8, xb_not, xb_or b (2 ^ i), nx_and c, nx_and b, nI_1 m]
      refine xw_pushSet _ (by omega) (ms_dlt _ hc) (ms_olt hb (ms_plt v8)) (fun ch => ?_)
      refine xw_pushSet _ (by omega) (ms_alt _ hc) (ms_alt _ hb) (fun ch => ?_)
      exact nm_r (nI_add m 2) (nm_r (nI_1 R) (hJ ch))
  | succ d ih =>
    intro i hi
    unfold wX_tightCovers_78
    exact xw_in hc (by omega) (fun z => br_t rfl (nm_r (nI_1 i) (ih (i + 1) (by omega)))) (fun z => absurd (z.symm.trans (vl i (by omega))) (by decide))
theorem xw_tc16 (hg : gr_ok g) (ha : gr_at aj g) {post : Int32 → SX → Prop} {W : Nat} (hW : W ≤ 256) (h : ∀ ch op ps, post (nI W) (fb, aj, lo, tk, pa, cf, li, pr, ch, op, ps)) : ∀ (d n C R : Nat) (c b : Nat → Nat) (ch op ps : Nat → Int32), tc_I g W n C R c b → 512 ≤ R + d → so_at op c n → so_at ps b n → wX_tightCovers_16 post (d + 1) (nI C) (nI n) (nI R) fb aj lo tk pa cf li pr ch op ps := by
  intro d
  induction d with
  | zero =>
    intro n C R c b ch op ps I hR
    have := I.2.2.2
    omega
  | succ d ih =>
    intro n C R c b ch op ps I hR ho hp
    have hR5 := I.2.2.2
    refine br_f (nI_ge (b := 512) (by omega) (by decide)) ?_
    cases n with
    | zero =>
      have e : C = W := by
        have := I.2.2.1
        have z : tc_S g c b 0 = 0 := rfl
        omega
      subst e
      exact br_t (nI_le (a := 0) (b := 0) (by omega) (by omega)) (h _ _ _)
    | succ m =>
      have h9 := I.1
      obtain ⟨m1, m2, m3, m4⟩ := I.2.1 m (by omega)
      have ins : vp_in (nI m) 64 := vp_in_nI (by omega) (by decide)
      refine br_f (nI_nle (by omega) (by omega)) (nm_r (pk_m1 m) ⟨ins, nm_r (e' := nI (c m)) (by rw [nI_clamp (by omega)]; exact ho m (by omega)) ⟨ins, nm_e ⟨ins, nm_r (e' := nI (b m)) (by rw [nI_clamp (by omega)]; exact hp m (by omega)) ?_⟩⟩⟩)
      refine pk_eq (c m) 0 (fun z => pk_eq (b m) 0 (fun y => nm_r (nI_1 C) (nm_r (nI_1 R) (ih m (C + 1) (R + 1) c b ch op ps (tc_leaf I ?_) (by omega) (so_pop ho) (so_pop hp)))) (fun y => nm_r (nI_add C 0) (nm_r (nI_1 R) (ih m C (R + 1) c b ch op ps (tc_leaf I ?_) (by omega) (so_pop ho) (so_pop hp))))) (fun z => ⟨mt_v (c m) + 1, ?_⟩)
      · rw [z, y, tc_yes]
      · rw [z, tc_no m2 y, Nat.add_zero]
      · obtain ⟨v8, vb, _⟩ := mt_vs m1 z
        refine xw_tc78 hg ha (by omega) m1 m2 z (fun ch => ?_) (mt_v (c m)) 0 (Nat.zero_add _)
        exact ih (m + 2) C (R + 1) _ _ ch _ _ (tc_two hg I v8 vb) (by omega) (so_push _ (so_push _ (so_pop ho))) (so_push _ (so_push _ (so_pop hp)))
theorem xw_tight (hg : gr_ok g) (ha : gr_at aj g) {post : Int32 → SX → Prop} (h : ∀ ch op ps, post (nI (tc_N g 255 0)) (fb, aj, lo, tk, pa, cf, li, pr, ch, op, ps)) : wpX_tightCovers post (fb, aj, lo, tk, pa, cf, li, pr, ch, op, ps) := by
  unfold wpX_tightCovers
  refine xw_pushSet (n := 0) (c := 255) (b := 0) 0 (by omega) (by omega) (by omega) (fun ch => ?_)
  refine ⟨513, xw_tc16 hg ha (tc_le _ _ _) h 512 1 0 0 (nu_f (fun _ => 0) 0 255) (nu_f (fun _ => 0) 0 0) ch _ _ ⟨by omega, fun i hi => ?_, ?_, ?_⟩ (by omega) (so_push (n := 0) 255 (fun i hi => absurd hi (Nat.not_lt_zero i))) (so_push (n := 0) 0 (fun i hi => absurd hi (Nat.not_lt_zero i)))⟩
  · have e : i = 0 := by omega
    subst e
    rw [nu_s, nu_s]
    have := ms_c8 255
    exact ⟨by omega, by omega, by omega, fun v _ _ => by rw [Nat.zero_testBit]; decide⟩
  · rw [tc_Ss, nu_s, nu_s]
    have z : tc_S g (nu_f (fun _ => 0) 0 255) (nu_f (fun _ => 0) 0 0) 0 = 0 := rfl
    omega
  · rw [so_ws, nu_s]
    have c8 := ms_c8 255
    have p : 2 ^ (ms_c 255 + 1) ≤ 2 ^ 9 := Nat.pow_le_pow_right (by decide) (by omega)
    have q : so_w (nu_f (fun _ => 0) 0 255) 0 = 0 := rfl
    omega
end
/-! the reference counts covers -/
def tc_T (g : Nat → Nat) (S : Nat) : Prop := gr_cov g S ∧ ∀ v, v < 8 → S.testBit v = true → ¬ gr_cov g (ms_d S (2 ^ v))
theorem ms_cmp {T : Nat} (h : T < 256) {i : Nat} (hi : i < 8) : (255 - T).testBit i = true ↔ ¬ T.testBit i = true := by
  have e : 255 - T = 2 ^ 8 - (T + 1) := by omega
  rw [e, Nat.testBit_two_pow_sub_succ h, decide_eq_true hi, Bool.true_and]
  cases T.testBit i <;> simp
theorem tc_TQ {g : Nat → Nat} (hg : gr_ok g) {T : Nat} (hT : T < 256) : tc_T g (255 - T) ↔ tc_Q g 255 0 T := by
  have hS : 255 - T < 256 := by omega
  have df : ∀ v i, (ms_d (255 - T) (2 ^ v)).testBit i = true ↔ (255 - T).testBit i = true ∧ ¬ v = i := fun v i => by rw [ms_df hS, ms_on]
  unfold tc_T
  rw [gr_cov_iff hg]
  constructor
  · rintro ⟨h1, h2⟩
    have ind : ∀ v w, v < 8 → w < 8 → T.testBit v = true → T.testBit w = true → ¬ (g v).testBit w = true := fun v w hv hw a b e => by
      rcases h1 v w hv hw e with z | z
      · exact (ms_cmp hT hv).mp z a
      · exact (ms_cmp hT hw).mp z b
    refine ⟨fun v hv _ => ms_255 hv, ind, fun v hv k => ?_⟩
    have nT : ¬ T.testBit v = true := by
      rcases k with k | k
      · exact k.2
      · rw [Nat.zero_testBit] at k
        exact absurd k (by decide)
    apply Classical.byContradiction
    intro no
    refine h2 v hv ((ms_cmp hT hv).mpr nT) ((gr_cov_iff hg _).mpr (fun x y hx hy e => ?_))
    rw [df, df, ms_cmp hT hx, ms_cmp hT hy]
    by_cases vx : v = x
    · subst vx
      refine Or.inr ⟨fun z => no ⟨y, hy, z, e⟩, fun z => ?_⟩
      subst z
      rw [hg.2.2 v hv] at e
      exact absurd e (by decide)
    · by_cases vy : v = y
      · subst vy
        exact Or.inl ⟨fun z => no ⟨x, hx, z, by rw [hg.2.1 v x hv hx]; exact e⟩, vx⟩
      · rcases h1 x y hx hy e with z | z
        · exact Or.inl ⟨(ms_cmp hT hx).mp z, vx⟩
        · exact Or.inr ⟨(ms_cmp hT hy).mp z, vy⟩
  · rintro ⟨_, q2, q3⟩
    refine ⟨fun v w hv hw e => ?_, fun v hv k c => ?_⟩
    · rw [ms_cmp hT hv, ms_cmp hT hw]
      by_cases a : T.testBit v = true
      · exact Or.inr (fun z => q2 v w hv hw a z e)
      · exact Or.inl a
    · obtain ⟨w, hw, z1, z2⟩ := q3 v hv (Or.inl ⟨ms_255 hv, (ms_cmp hT hv).mp k⟩)
      rcases (gr_cov_iff hg _).mp c v w hv hw z2 with z | z
      · exact ((df v v).mp z).2 rfl
      · exact (ms_cmp hT hw).mp ((df v w).mp z).1 z1
theorem tc_eq {g : Nat → Nat} (hg : gr_ok g) : ca_n (fun S => tb_p (tc_T g S)) 256 = tc_N g 255 0 := by
  rw [← ca_rev (fun S => tb_p (tc_T g S)) 256]
  exact ca_ext (fun T hT => tb_c (tc_TQ hg hT))
section
variable {a b h : Nat → Int32} {g : Nat → Nat}
theorem yw_tc0 {post : Int32 → Prop} {J : Int32 → Int32 → Prop} {x1 x2 : Int32} (hJ : J x1 (x2 + 1)) : ∀ d i, i + d = 8 → wY_tightCovers_20 post J x1 x2 a b h (d + 1) 0 (nI i) := by
  intro d
  induction d with
  | zero =>
    intro i hi
    have e : i = 8 := by omega
    subst e
    exact br_t x8_le (br_t rfl (nm_e hJ))
  | succ d ih =>
    intro i hi
    exact br_f (x8_nle (by omega)) (br_t rfl (nm_r (nI_1 i) (ih (i + 1) (by omega))))
theorem yw_tc1 (hg : gr_ok g) (ha : gr_at a g) {post : Int32 → Prop} {J : Int32 → Int32 → Prop} {C S : Nat} (hS : S < 256) (hc : gr_cov g S) (h1 : tc_T g S → J (nI (C + 1)) (nI (S + 1))) (h0 : ¬ tc_T g S → J (nI C) (nI (S + 1))) : ∀ d i, i + d = 8 → (∀ v, v < i → S.testBit v = true → ¬ gr_cov g (ms_d S (2 ^ v))) → wY_tightCovers_20 post J (nI C) (nI S) a b h (d + 1) 1 (nI i) := by
  intro d
  induction d with
  | zero =>
    intro i hi k
    have e : i = 8 := by omega
    subst e
    exact br_t x8_le (br_f (by decide) (nm_r (nI_1 C) (nm_r (nI_1 S) (h1 ⟨hc, k⟩))))
  | succ d ih =>
    intro i hi k
    refine br_f (x8_nle (by omega)) (br_f (by decide) ?_)
    rw [xb_bit (by omega) (by omega)]
    cases e : S.testBit i
    · exact br_t (by decide) (nm_r (nI_1 i) (ih (i + 1) (by omega) (lt_s k (fun z => by rw [e] at z; exact absurd z (by decide)))))
    · refine br_f (by decide) ?_
      rw [xb_shl i (by omega), xb_not]
      refine yw_covers hg ha (ms_dlt _ hS) (fun z => br_f (by decide) (nm_r (nI_1 i) (yw_tc0 ?_ d (i + 1) (by omega)))) (fun z => br_t rfl (nm_r (nI_1 i) (ih (i + 1) (by omega) (lt_s k (fun _ => z)))))
      rw [nI_1]
      exact h0 (fun y => y.2 i (by omega) e z)
theorem yw_tc4 (hg : gr_ok g) (ha : gr_at a g) {post : Int32 → Prop} (hp : post (nI (ca_n (fun S => tb_p (tc_T g S)) 256))) : ∀ d k, k + d = 256 → wY_tightCovers_4 post a b h (d + 1) (nI (ca_n (fun S => tb_p (tc_T g S)) k)) (nI k) := by
  intro d
  induction d with
  | zero =>
    intro k hk
    have e : k = 256 := by omega
    subst e
    exact br_t x256_le hp
  | succ d ih =>
    intro k hk
    have q := ih (k + 1) (by omega)
    rw [ca_s] at q
    have q0 : ¬ tc_T g k → wY_tightCovers_4 post a b h (d + 1) (nI (ca_n (fun S => tb_p (tc_T g S)) k)) (nI (k + 1)) := fun z => by
      rw [tb_f z] at q
      exact q
    refine br_f (x256_nle (by omega)) (yw_covers hg ha (by omega) (fun z => ⟨9, ?_⟩) (fun z => ⟨9, ?_⟩))
    · refine yw_tc1 hg ha (by omega) z (fun y => ?_) q0 8 0 rfl lt_0
      rw [tb_t y] at q
      exact q
    · refine yw_tc0 ?_ 8 0 rfl
      rw [nI_1]
      exact q0 (fun y => z y.1)
theorem yw_tight (hg : gr_ok g) (ha : gr_at a g) {post : Int32 → Prop} (hp : post (nI (tc_N g 255 0))) : wpY_tightCovers post (a, b, h) := ⟨257, yw_tc4 hg ha (by rw [tc_eq hg]; exact hp) 256 0 rfl⟩
end
theorem i_vc_tightCovers {k : Nat} {u : SX} {v : SY} (I : i_Rel k u v) (hk : k + 4 ≤ 2048) : wpX_tightCovers (fun r u' => wpY_tightCovers (fun r' => r' = r ∧ i_Rel (k + 4) u' v) v) u := by
  refine re_el (P := fun u v => wpX_tightCovers (fun r u' => wpY_tightCovers (fun r' => r' = r ∧ i_Rel (k + 4) u' v) v) u) I ?_
  intro fb aj lo tk pa cf li pr ch op ps b c g hg ha
  exact xw_tight hg ha (fun ch op ps => yw_tight hg ha ⟨rfl, re_in hg ha⟩)
end
