section
/-! rows of the kit to paste (PURE-ROWS, BITS): a starting text -/
theorem pk_us {f : Nat → Int32} {k : Nat} {x : Int32} : upd f k x k = x := if_pos rfl
theorem pk_un {f : Nat → Int32} {k j : Nat} {x : Int32} (h : j ≠ k) : upd f k x j = f j := if_neg h
theorem pk_sub {a b : Nat} (h : b ≤ a) : nI a - nI b = nI (a - b) := by
  obtain ⟨c, rfl⟩ : ∃ c, a = c + b := ⟨a - b, by omega⟩
  rw [← nI_add, Int32.add_sub_cancel, Nat.add_sub_cancel]
theorem pk_m1 (n : Nat) : nI (n + 1) + (-1) = nI n := by
  rw [← nI_1, Int32.add_assoc, show (1 : Int32) + (-1) = 0 from rfl, Int32.add_zero]
theorem pk_mul (a b : Nat) : nI a * nI b = nI (a * b) := (Int32.ofNat_mul a b).symm
theorem pk_sub_toInt {a b : Nat} (ha : a < 2 ^ 30) (hb : b < 2 ^ 30) : (nI a - nI b).toInt = (a : Int) - b := by
  rw [Int32.toInt_sub, nI_toInt (by omega), nI_toInt (by omega)]
  exact Int.bmod_eq_of_le (by omega) (by omega)
theorem pk_ix (x : Int32) {n : Nat} (hn : n < 2 ^ 31) : x < 0 ∨ nI n ≤ x ∨ ∃ j : Nat, j < n ∧ x = nI j := by
  by_cases h : x < 0
  · exact Or.inl h
  · obtain ⟨j, hj, rfl⟩ := nI_of h
    by_cases h2 : j < n
    · exact Or.inr (Or.inr ⟨j, h2, rfl⟩)
    · exact Or.inr (Or.inl (nI_le (by omega) hj))
theorem pk_le {x y : Int32} {A B : Prop} (a b : Nat) (f : a ≤ b → A) (g : b < a → B) (hx : x = nI a := by rfl) (hy : y = nI b := by rfl) (ha : a < 2 ^ 31 := by omega) (hb : b < 2 ^ 31 := by omega) : (x ≤ y → A) ∧ (¬ x ≤ y → B) := by
  subst hx hy
  rw [nI_leI ha hb]
  exact ⟨f, fun z => g (by omega)⟩
theorem pk_lt {x y : Int32} {A B : Prop} (a b : Nat) (f : a < b → A) (g : b ≤ a → B) (hx : x = nI a := by rfl) (hy : y = nI b := by rfl) (ha : a < 2 ^ 31 := by omega) (hb : b < 2 ^ 31 := by omega) : (x < y → A) ∧ (¬ x < y → B) := by
  subst hx hy
  rw [nI_ltI ha hb]
  exact ⟨f, fun z => g (by omega)⟩
theorem pk_eq {x y : Int32} {A B : Prop} (a b : Nat) (f : a = b → A) (g : a ≠ b → B) (hx : x = nI a := by rfl) (hy : y = nI b := by rfl) (ha : a < 2 ^ 31 := by omega) (hb : b < 2 ^ 31 := by omega) : (x = y → A) ∧ (¬ x = y → B) := by
  subst hx hy
  rw [nI_eq ha hb]
  exact ⟨f, g⟩
theorem pk_in {x : Int32} (n N : Nat) (h : n < N) (hx : x = nI n := by rfl) (hN : N < 2 ^ 31 := by omega) : vp_in x N := by
  subst hx
  exact vp_in_nI h hN
theorem pk_cl {x : Int32} (n : Nat) (hx : x = nI n := by rfl) (h : n < 2 ^ 31 := by omega) : x.toNatClampNeg = n := by
  subst hx
  exact nI_clamp h
theorem pk_tn {n : Nat} (h : n < 2 ^ 32) : (nI n).toBitVec.toNat = n := Nat.mod_eq_of_lt h
theorem pk_and (x : Int32) {m : Int32} (k : Nat) (hm : m.toBitVec.toNat = 2 ^ k - 1) : x &&& m = nI (x.toBitVec.toNat % 2 ^ k) := by
  apply Int32.toBitVec_inj.mp
  apply BitVec.eq_of_toNat_eq
  rw [Int32.toBitVec_and, BitVec.toNat_and, hm, Nat.and_two_pow_sub_one_eq_mod]
  show _ = (BitVec.ofNat 32 _).toNat
  rw [BitVec.toNat_ofNat]
  exact (Nat.mod_eq_of_lt (Nat.lt_of_le_of_lt (Nat.mod_le _ _) x.toBitVec.isLt)).symm
theorem pk_andN {n : Nat} (h : n < 2 ^ 32) {m : Int32} (k : Nat) (hm : m.toBitVec.toNat = 2 ^ k - 1) : nI n &&& m = nI (n % 2 ^ k) := by
  rw [pk_and _ k hm, pk_tn h]
theorem pk_shl (a s : Int32) (k : Nat) (hs : (s.toBitVec.smod 32).toNat = k) : (a <<< s).toBitVec.toNat = a.toBitVec.toNat * 2 ^ k % 2 ^ 32 := by
  show (a.toBitVec <<< (s.toBitVec.smod 32).toNat).toNat = _
  rw [hs, BitVec.toNat_shiftLeft, Nat.shiftLeft_eq]
theorem pk_shlN {n : Nat} (s : Int32) (k : Nat) (hs : (s.toBitVec.smod 32).toNat = k) (h : n * 2 ^ k < 2 ^ 32) : nI n <<< s = nI (n * 2 ^ k) := by
  apply Int32.toBitVec_inj.mp
  apply BitVec.eq_of_toNat_eq
  have hn : n < 2 ^ 32 := Nat.lt_of_le_of_lt (Nat.le_mul_of_pos_right n (Nat.two_pow_pos k)) h
  rw [pk_shl _ _ k hs, pk_tn hn, pk_tn h, Nat.mod_eq_of_lt h]
theorem pk_shr (a s : Int32) (k : Nat) (hs : (s.toBitVec.smod 32).toNat = k) : (a >>> s).toInt = a.toInt >>> k := by
  show (a.toBitVec.sshiftRight (s.toBitVec.smod 32).toNat).toInt = _
  rw [hs, BitVec.toInt_sshiftRight]
  rfl
theorem pk_shrN {n : Nat} (h : n < 2 ^ 31) (s : Int32) (k : Nat) (hs : (s.toBitVec.smod 32).toNat = k) : nI n >>> s = nI (n / 2 ^ k) := by
  apply Int32.toInt_inj.mp
  have h2 : n / 2 ^ k ≤ n := Nat.div_le_self _ _
  rw [pk_shr _ _ k hs, nI_toInt h, nI_toInt (by omega), Int.shiftRight_eq_div_pow]
  rfl
theorem pk_least (P : Nat → Prop) (h : ∃ k, P k) : ∃ k, P k ∧ ∀ j, j < k → ¬ P j := by
  obtain ⟨k, hk⟩ := h
  induction k using Nat.strongRecOn with
  | ind k ih =>
    by_cases e : ∃ j, j < k ∧ P j
    · obtain ⟨j, hj, pj⟩ := e
      exact ih j hj pj
    · exact ⟨k, hk, fun j hj pj => e ⟨j, hj, pj⟩⟩
theorem s_l : ∀ n, n < 32 → ((nI n &&& 31).toBitVec.smod 32).toNat = n := by decide +kernel
theorem nx_xor (a b : Nat) : nI a ^^^ nI b = nI (a ^^^ b) := by
  apply Int32.toBitVec_inj.1
  show BitVec.ofNat 32 a ^^^ BitVec.ofNat 32 b = BitVec.ofNat 32 (a ^^^ b)
  apply BitVec.eq_of_getLsbD_eq
  intro i hi
  simp [hi]
end
section
/-! counting: how many numbers below n have a property -/
def sd_cn (p : Nat → Bool) : Nat → Nat
  | 0 => 0
  | n + 1 => sd_cn p n + (if p n = true then 1 else 0)
theorem sd_cn_s (p : Nat → Bool) (n : Nat) : sd_cn p (n + 1) = sd_cn p n + (if p n = true then 1 else 0) := rfl
theorem sd_cn_t {p : Nat → Bool} {n : Nat} (h : p n = true) : sd_cn p (n + 1) = sd_cn p n + 1 := by
  rw [sd_cn_s, if_pos h]
theorem sd_cn_f {p : Nat → Bool} {n : Nat} (h : p n = false) : sd_cn p (n + 1) = sd_cn p n := by
  rw [sd_cn_s, if_neg (by rw [h]; decide)]
  rfl
theorem sd_cn_le (p : Nat → Bool) (n : Nat) : sd_cn p n ≤ n := by
  induction n with
  | zero => exact Nat.le_refl 0
  | succ n ih =>
    cases h : p n with
    | false => rw [sd_cn_f h]; omega
    | true => rw [sd_cn_t h]; omega
theorem sd_cn_congr {p q : Nat → Bool} {n : Nat} (h : ∀ i, i < n → p i = q i) : sd_cn p n = sd_cn q n := by
  induction n with
  | zero => rfl
  | succ n ih => rw [sd_cn_s, sd_cn_s, ih (fun i hi => h i (by omega)), h n (by omega)]
theorem sd_cn_true {p : Nat → Bool} {n : Nat} (h : ∀ i, i < n → p i = true) : sd_cn p n = n := by
  induction n with
  | zero => rfl
  | succ n ih => rw [sd_cn_t (h n (by omega)), ih (fun i hi => h i (by omega))]
theorem sd_cn_zero {p : Nat → Bool} {n : Nat} (h : ∀ i, i < n → p i = false) : sd_cn p n = 0 := by
  induction n with
  | zero => rfl
  | succ n ih => rw [sd_cn_f (h n (by omega)), ih (fun i hi => h i (by omega))]
theorem sd_cn_lt {p : Nat → Bool} {a n : Nat} (ha : a < n) (h : p a = false) : sd_cn p n < n := by
  induction n with
  | zero => omega
  | succ n ih =>
    by_cases e : a = n
    · rw [e] at h
      rw [sd_cn_f h]
      have := sd_cn_le p n
      omega
    · have h1 := ih (by omega)
      cases h2 : p n with
      | false => rw [sd_cn_f h2]; omega
      | true => rw [sd_cn_t h2]; omega
theorem sd_cn_ex {p : Nat → Bool} {n : Nat} (h : sd_cn p n < n) : ∃ a, a < n ∧ p a = false := by
  by_cases e : ∃ a, a < n ∧ p a = false
  · exact e
  · exfalso
    have h1 : sd_cn p n = n := sd_cn_true (fun i hi => by
      cases h2 : p i with
      | true => rfl
      | false => exact absurd ⟨i, hi, h2⟩ e)
    omega
theorem sd_cn_mn {p : Nat → Bool} {i j : Nat} (h : i ≤ j) : sd_cn p i ≤ sd_cn p j := by
  induction j with
  | zero => rw [show i = 0 by omega]; exact Nat.le_refl _
  | succ n ih =>
    by_cases e : i = n + 1
    · rw [e]; exact Nat.le_refl _
    · have h1 := ih (by omega)
      cases h2 : p n with
      | false => rw [sd_cn_f h2]; omega
      | true => rw [sd_cn_t h2]; omega
theorem sd_cn_rk {p : Nat → Bool} {i j : Nat} (hp : p i = true) (h : i < j) : sd_cn p i < sd_cn p j := by
  have h1 : sd_cn p (i + 1) ≤ sd_cn p j := sd_cn_mn (by omega)
  rw [sd_cn_t hp] at h1
  omega
theorem sd_cn_uq {p : Nat → Bool} {i j : Nat} (hi : p i = true) (hj : p j = true) (h : sd_cn p i = sd_cn p j) : i = j := by
  rcases Nat.lt_trichotomy i j with a | a | a
  · have := sd_cn_rk hi a; omega
  · exact a
  · have := sd_cn_rk hj a; omega
theorem sd_cn_pos {p : Nat → Bool} {a n : Nat} (ha : a < n) (h : p a = true) : 0 < sd_cn p n := by
  have := sd_cn_rk h ha
  omega
theorem sd_cn_pex {p : Nat → Bool} {n : Nat} (h : 0 < sd_cn p n) : ∃ a, a < n ∧ p a = true := by
  by_cases e : ∃ a, a < n ∧ p a = true
  · exact e
  · exfalso
    have h1 : sd_cn p n = 0 := sd_cn_zero (fun i hi => by
      cases h2 : p i with
      | false => rfl
      | true => exact absurd ⟨i, hi, h2⟩ e)
    omega
theorem sd_cn_add {p q : Nat → Bool} {a n : Nat} (ha : a < n) (h : ∀ i, i ≠ a → q i = p i) (hp : p a = false) (hq : q a = true) : sd_cn q n = sd_cn p n + 1 := by
  induction n with
  | zero => omega
  | succ n ih =>
    by_cases e : a = n
    · rw [e] at hp hq
      rw [sd_cn_t hq, sd_cn_f hp, sd_cn_congr (p := q) (q := p) (fun i hi => h i (by omega))]
    · rw [sd_cn_s, sd_cn_s, ih (by omega), h n (by omega)]
      omega
theorem sd_cn_inj (n : Nat) (f : Nat → Nat) {p : Nat → Bool} {m : Nat} : ∀ {q : Nat → Bool}, (∀ i, i < n → p i = true → f i < m ∧ q (f i) = true) → (∀ i j, i < n → j < n → p i = true → p j = true → f i = f j → i = j) → sd_cn p n ≤ sd_cn q m := by
  induction n with
  | zero => intro q _ _; exact Nat.zero_le _
  | succ n ih =>
    intro q h1 h2
    cases hp : p n with
    | false =>
      rw [sd_cn_f hp]
      exact ih (fun i hi => h1 i (by omega)) (fun i j hi hj => h2 i j (by omega) (by omega))
    | true =>
      rw [sd_cn_t hp]
      have hn := h1 n (by omega) hp
      have e : sd_cn q m = sd_cn (fun k => q k && decide (k ≠ f n)) m + 1 := by
        refine sd_cn_add (a := f n) hn.1 ?_ ?_ hn.2
        · intro i hi
          show q i = (q i && decide (i ≠ f n))
          rw [decide_eq_true hi, Bool.and_true]
        · show (q (f n) && decide (f n ≠ f n)) = false
          rw [decide_eq_false (fun z => z rfl), Bool.and_false]
      have h3 : sd_cn p n ≤ sd_cn (fun k => q k && decide (k ≠ f n)) m := by
        refine ih ?_ (fun i j hi hj => h2 i j (by omega) (by omega))
        intro i hi hpi
        have h4 := h1 i (by omega) hpi
        refine ⟨h4.1, ?_⟩
        show (q (f i) && decide (f i ≠ f n)) = true
        rw [h4.2, decide_eq_true, Bool.and_self]
        intro z
        have := h2 i n (by omega) (by omega) hpi hp z
        omega
      omega
theorem sd_cn_dj {p q r : Nat → Bool} {n : Nat} (h : ∀ i, i < n → (r i = true ↔ (p i = true ∨ q i = true))) (hd : ∀ i, i < n → p i = true → q i = true → False) : sd_cn r n = sd_cn p n + sd_cn q n := by
  induction n with
  | zero => rfl
  | succ n ih =>
    have h1 := ih (fun i hi => h i (by omega)) (fun i hi => hd i (by omega))
    have h2 := h n (by omega)
    have h3 := hd n (by omega)
    rw [sd_cn_s, sd_cn_s, sd_cn_s, h1]
    by_cases hp : p n = true
    · rw [if_pos hp, if_neg (fun z => h3 hp z), if_pos (h2.mpr (Or.inl hp))]
      omega
    · by_cases hq : q n = true
      · rw [if_neg hp, if_pos hq, if_pos (h2.mpr (Or.inr hq))]
        omega
      · rw [if_neg hp, if_neg hq, if_neg (fun z => (h2.mp z).elim hp hq)]
        omega
/-! sums -/
def sd_sm (g : Nat → Nat) : Nat → Nat
  | 0 => 0
  | n + 1 => sd_sm g n + g n
theorem sd_sm_s (g : Nat → Nat) (n : Nat) : sd_sm g (n + 1) = sd_sm g n + g n := rfl
theorem sd_sm_congr {g h : Nat → Nat} {n : Nat} (e : ∀ i, i < n → g i = h i) : sd_sm g n = sd_sm h n := by
  induction n with
  | zero => rfl
  | succ n ih => rw [sd_sm_s, sd_sm_s, ih (fun i hi => e i (by omega)), e n (by omega)]
theorem sd_sm_cn (p : Nat → Bool) (f : Nat → Nat) (n m : Nat) : sd_sm (fun d => sd_cn (fun b => p b && decide (f b = d)) n) m = sd_cn (fun b => p b && decide (f b < m)) n := by
  induction m with
  | zero =>
    refine (sd_cn_zero (fun i hi => ?_)).symm
    show (p i && decide (f i < 0)) = false
    rw [decide_eq_false (by omega), Bool.and_false]
  | succ m ih =>
    rw [sd_sm_s, ih]
    refine (sd_cn_dj ?_ ?_).symm
    · intro i hi
      simp only [Bool.and_eq_true, decide_eq_true_eq]
      constructor
      · intro z
        rcases Nat.lt_or_ge (f i) m with a | a
        · exact Or.inl ⟨z.1, a⟩
        · exact Or.inr ⟨z.1, by omega⟩
      · intro z
        rcases z with z | z
        · exact ⟨z.1, by omega⟩
        · exact ⟨z.1, by omega⟩
    · intro i hi
      simp only [Bool.and_eq_true, decide_eq_true_eq]
      intro z1 z2
      omega
/-! digits -/
theorem sd_m1 (k d : Nat) : k % 2 ^ (d + 1) = k % 2 ^ d + (if k / 2 ^ d % 2 = 1 then 2 ^ d else 0) := by
  rw [Nat.mod_pow_succ]
  rcases Nat.mod_two_eq_zero_or_one (k / 2 ^ d) with h | h
  · rw [h, if_neg (by decide), Nat.mul_zero]
  · rw [h, if_pos rfl, Nat.mul_one]
theorem sd_lt (k d : Nat) : k % 2 ^ d < 2 ^ d := Nat.mod_lt _ (Nat.two_pow_pos d)
theorem sd_mm {d D : Nat} (h : d ≤ D) (k : Nat) : k % 2 ^ D % 2 ^ d = k % 2 ^ d := Nat.mod_mod_of_dvd _ (Nat.pow_dvd_pow 2 h)
theorem sd_p1 (d : Nat) : 2 ^ (d + 1) = 2 ^ d + 2 ^ d := by rw [Nat.pow_succ]; omega
theorem sd_ple {d D : Nat} (h : d ≤ D) : 2 ^ d ≤ 2 ^ D := Nat.pow_le_pow_right (by decide) h
theorem sd_down {d D k e : Nat} (h : d ≤ D) (z : k % 2 ^ D = e % 2 ^ D) : k % 2 ^ d = e % 2 ^ d := by
  rw [← sd_mm h k, ← sd_mm h e, z]
/-- two numbers agree in d + 1 digits: in d, and in the next -/
theorem sd_up (k e d : Nat) : k % 2 ^ (d + 1) = e % 2 ^ (d + 1) ↔ (k % 2 ^ d = e % 2 ^ d ∧ (k / 2 ^ d % 2 = 1 ↔ e / 2 ^ d % 2 = 1)) := by
  rw [sd_m1 k, sd_m1 e]
  have a := sd_lt k d
  have b := sd_lt e d
  generalize k % 2 ^ d = A at *
  generalize e % 2 ^ d = B at *
  generalize 2 ^ d = q at *
  by_cases x : k / q % 2 = 1
  · by_cases y : e / q % 2 = 1
    · rw [if_pos x, if_pos y]
      exact ⟨fun z => ⟨by omega, fun _ => y, fun _ => x⟩, fun z => by omega⟩
    · rw [if_pos x, if_neg y]
      exact ⟨fun z => by omega, fun z => absurd (z.2.mp x) y⟩
  · by_cases y : e / q % 2 = 1
    · rw [if_neg x, if_pos y]
      exact ⟨fun z => by omega, fun z => absurd (z.2.mpr y) x⟩
    · rw [if_neg x, if_neg y]
      exact ⟨fun z => ⟨by omega, fun w => absurd w x, fun w => absurd w y⟩, fun z => by omega⟩
theorem sd_flip (e d : Nat) : (e + 2 ^ d) % 2 ^ d = e % 2 ^ d ∧ ((e + 2 ^ d) / 2 ^ d % 2 = 1 ↔ ¬ e / 2 ^ d % 2 = 1) := by
  refine ⟨Nat.add_mod_right _ _, ?_⟩
  rw [Nat.add_div_right _ (Nat.two_pow_pos d)]
  generalize e / 2 ^ d = x
  omega
/-! the number of keys with an ending -/
def sd_cp (th : Nat → Nat) (e d k : Nat) : Bool := decide (th k = 1 ∧ k % 2 ^ d = e % 2 ^ d)
theorem sd_cp_iff {th : Nat → Nat} {e d k : Nat} : sd_cp th e d k = true ↔ (th k = 1 ∧ k % 2 ^ d = e % 2 ^ d) := decide_eq_true_iff
def sd_ct (th : Nat → Nat) (e d : Nat) : Nat := sd_cn (sd_cp th e d) 256
theorem sd_ct_e {th : Nat → Nat} {e e' d : Nat} (h : e % 2 ^ d = e' % 2 ^ d) : sd_ct th e d = sd_ct th e' d := by
  unfold sd_ct
  refine sd_cn_congr (fun i _ => ?_)
  unfold sd_cp
  rw [h]
theorem sd_ct_2 (th : Nat → Nat) (e d : Nat) : sd_ct th e d = sd_ct th e (d + 1) + sd_ct th (e + 2 ^ d) (d + 1) := by
  have f := sd_flip e d
  refine sd_cn_dj ?_ ?_
  · intro i _
    rw [sd_cp_iff, sd_cp_iff, sd_cp_iff, sd_up, sd_up, f.1, f.2]
    by_cases x : i / 2 ^ d % 2 = 1
    · by_cases y : e / 2 ^ d % 2 = 1
      · exact ⟨fun z => Or.inl ⟨z.1, z.2, fun _ => y, fun _ => x⟩, fun z => z.elim (fun w => ⟨w.1, w.2.1⟩) (fun w => ⟨w.1, w.2.1⟩)⟩
      · exact ⟨fun z => Or.inr ⟨z.1, z.2, fun _ => y, fun _ => x⟩, fun z => z.elim (fun w => ⟨w.1, w.2.1⟩) (fun w => ⟨w.1, w.2.1⟩)⟩
    · by_cases y : e / 2 ^ d % 2 = 1
      · exact ⟨fun z => Or.inr ⟨z.1, z.2, fun w => absurd w x, fun w => absurd y w⟩, fun z => z.elim (fun w => ⟨w.1, w.2.1⟩) (fun w => ⟨w.1, w.2.1⟩)⟩
      · exact ⟨fun z => Or.inl ⟨z.1, z.2, fun w => absurd w x, fun w => absurd w y⟩, fun z => z.elim (fun w => ⟨w.1, w.2.1⟩) (fun w => ⟨w.1, w.2.1⟩)⟩
  · intro i _ h1 h2
    rw [sd_cp_iff, sd_up] at h1 h2
    rw [f.2] at h2
    by_cases x : i / 2 ^ d % 2 = 1
    · exact (h2.2.2.mp x) (h1.2.2.mp x)
    · exact x (h2.2.2.mpr (fun w => x (h1.2.2.mpr w)))
theorem sd_ct_mn (th : Nat → Nat) (e : Nat) {d d' : Nat} (h : d ≤ d') : sd_ct th e d' ≤ sd_ct th e d := by
  induction d' with
  | zero => rw [show d = 0 by omega]; exact Nat.le_refl _
  | succ n ih =>
    by_cases c : d = n + 1
    · rw [c]; exact Nat.le_refl _
    · have h1 := ih (by omega)
      have h2 := sd_ct_2 th e n
      omega
theorem sd_ct_6 (th : Nat → Nat) (e : Nat) {d : Nat} (h : 6 ≤ d) : sd_ct th e d ≤ 4 := by
  refine Nat.le_trans (sd_ct_mn th e h) ?_
  refine Nat.le_trans (sd_cn_inj 256 (fun k => k / 64) (m := 4) (q := fun _ => true) ?_ ?_) (sd_cn_le _ 4)
  · intro i hi _
    exact ⟨by show i / 64 < 4; omega, rfl⟩
  · intro i j _ _ hi hj z
    rw [sd_cp_iff] at hi hj
    have z' : i / 64 = j / 64 := z
    have a : i % 2 ^ 6 = j % 2 ^ 6 := hi.2.trans hj.2.symm
    have a' : i % 64 = j % 64 := a
    omega
/-- an ending is that of a bucket -/
def sd_isB (th : Nat → Nat) (e d : Nat) : Bool := decide (sd_ct th e d ≤ 4 ∧ (d = 0 ∨ 4 < sd_ct th e (d - 1)))
theorem sd_isB_iff {th : Nat → Nat} {e d : Nat} : sd_isB th e d = true ↔ (sd_ct th e d ≤ 4 ∧ (d = 0 ∨ 4 < sd_ct th e (d - 1))) := decide_eq_true_iff
theorem sd_isB_e {th : Nat → Nat} {e e' d : Nat} (h : e % 2 ^ d = e' % 2 ^ d) : sd_isB th e d = sd_isB th e' d := by
  unfold sd_isB
  rw [sd_ct_e h, sd_ct_e (sd_down (Nat.sub_le d 1) h)]
theorem sd_isB_uq {th : Nat → Nat} {e d d' : Nat} (h : sd_isB th e d = true) (h' : sd_isB th e d' = true) : d = d' := by
  rw [sd_isB_iff] at h h'
  rcases Nat.lt_trichotomy d d' with a | a | a
  · have := sd_ct_mn th e (show d ≤ d' - 1 by omega)
    omega
  · exact a
  · have := sd_ct_mn th e (show d' ≤ d - 1 by omega)
    omega
end
section
/-! stores into tables of naturals -/
def sd_un (f : Nat → Nat) (k x : Nat) : Nat → Nat := fun j => if j = k then x else f j
theorem sd_us {f : Nat → Nat} {k x : Nat} : sd_un f k x k = x := if_pos rfl
theorem sd_ux {f : Nat → Nat} {k x j : Nat} (h : j ≠ k) : sd_un f k x j = f j := if_neg h
theorem sd_ue {f : Nat → Nat} {k x j : Nat} (h : j = k) : sd_un f k x j = x := if_pos h
def sd_nF (f : Nat → Nat) : Nat → Int32 := fun j => nI (f j)
theorem sd_nFa (f : Nat → Nat) (j : Nat) : sd_nF f j = nI (f j) := rfl
theorem sd_nFu (f : Nat → Nat) (k x : Nat) : upd (sd_nF f) k (nI x) = sd_nF (sd_un f k x) := by
  funext j
  by_cases h : j = k
  · rw [h, pk_us, sd_nFa, sd_us]
  · rw [pk_un h, sd_nFa, sd_nFa, sd_ux h]
/-! the first n cells of block b hold just the keys with P, each once, with their values -/
def sd_BK (ks : Nat → Nat) (vs yv : Nat → Int32) (b n : Nat) (P : Nat → Prop) : Prop :=
  (∀ j, j < n → P (ks (b * 5 + j)) ∧ vs (b * 5 + j) = yv (ks (b * 5 + j))) ∧
  (∀ i j, i < n → j < n → ks (b * 5 + i) = ks (b * 5 + j) → i = j) ∧
  (∀ k, P k → ∃ j, j < n ∧ ks (b * 5 + j) = k)
theorem sd_BK_iff {ks : Nat → Nat} {vs yv : Nat → Int32} {b n : Nat} {P Q : Nat → Prop} (h : sd_BK ks vs yv b n P) (e : ∀ k, P k ↔ Q k) : sd_BK ks vs yv b n Q :=
  ⟨fun j hj => ⟨(e _).mp (h.1 j hj).1, (h.1 j hj).2⟩, h.2.1, fun k hk => h.2.2 k ((e k).mpr hk)⟩
theorem sd_BK_fr {ks ks' : Nat → Nat} {vs vs' yv : Nat → Int32} {b n : Nat} {P : Nat → Prop} (h : sd_BK ks vs yv b n P) (e : ∀ j, j < n → ks' (b * 5 + j) = ks (b * 5 + j) ∧ vs' (b * 5 + j) = vs (b * 5 + j)) : sd_BK ks' vs' yv b n P := by
  refine ⟨fun j hj => ?_, fun i j hi hj => ?_, fun k hk => ?_⟩
  · rw [(e j hj).1, (e j hj).2]; exact h.1 j hj
  · rw [(e i hi).1, (e j hj).1]; exact h.2.1 i j hi hj
  · obtain ⟨j, hj, z⟩ := h.2.2 k hk
    exact ⟨j, hj, by rw [(e j hj).1, z]⟩
theorem sd_BK_yv {ks : Nat → Nat} {vs yv yv' : Nat → Int32} {b n : Nat} {P : Nat → Prop} (h : sd_BK ks vs yv b n P) (e : ∀ k, P k → yv' k = yv k) : sd_BK ks vs yv' b n P :=
  ⟨fun j hj => ⟨(h.1 j hj).1, by rw [e _ (h.1 j hj).1]; exact (h.1 j hj).2⟩, h.2.1, h.2.2⟩
theorem sd_BK_0 (ks : Nat → Nat) (vs yv : Nat → Int32) (b : Nat) {P : Nat → Prop} (h : ∀ k, ¬ P k) : sd_BK ks vs yv b 0 P :=
  ⟨fun j hj => absurd hj (Nat.not_lt_zero j), fun i j hi => absurd hi (Nat.not_lt_zero i), fun k hk => absurd hk (h k)⟩
theorem sd_BK_push {ks : Nat → Nat} {vs yv : Nat → Int32} {b n k : Nat} {v : Int32} {P : Nat → Prop} (h : sd_BK ks vs yv b n P) (hk : ¬ P k) (hv : v = yv k) : sd_BK (sd_un ks (b * 5 + n) k) (upd vs (b * 5 + n) v) yv b (n + 1) (fun x => P x ∨ x = k) := by
  obtain ⟨h1, h2, h3⟩ := h
  have e : ∀ j, j < n → sd_un ks (b * 5 + n) k (b * 5 + j) = ks (b * 5 + j) := fun j hj => sd_ux (by omega)
  have ev : ∀ j, j < n → upd vs (b * 5 + n) v (b * 5 + j) = vs (b * 5 + j) := fun j hj => pk_un (by omega)
  have en : sd_un ks (b * 5 + n) k (b * 5 + n) = k := sd_us
  have evn : upd vs (b * 5 + n) v (b * 5 + n) = v := pk_us
  refine ⟨?_, ?_, ?_⟩
  · intro j hj
    by_cases c : j = n
    · rw [c, en, evn]; exact ⟨Or.inr rfl, hv⟩
    · rw [e j (by omega), ev j (by omega)]; exact ⟨Or.inl (h1 j (by omega)).1, (h1 j (by omega)).2⟩
  · intro i j hi hj
    by_cases c : i = n
    · by_cases c' : j = n
      · intro _; omega
      · rw [c, en, e j (by omega)]; intro z; exact absurd (by rw [z]; exact (h1 j (by omega)).1) hk
    · by_cases c' : j = n
      · rw [c', en, e i (by omega)]; intro z; exact absurd (by rw [← z]; exact (h1 i (by omega)).1) hk
      · rw [e i (by omega), e j (by omega)]; exact h2 i j (by omega) (by omega)
  · intro x hx
    rcases hx with hx | hx
    · obtain ⟨j, hj, ej⟩ := h3 x hx
      exact ⟨j, by omega, by rw [e j hj, ej]⟩
    · exact ⟨n, by omega, by rw [en, hx]⟩
theorem sd_BK_drop {ks : Nat → Nat} {vs yv : Nat → Int32} {b n k pl : Nat} {P : Nat → Prop} (h : sd_BK ks vs yv b (n + 1) P) (hp : pl < n + 1) (hk : ks (b * 5 + pl) = k) : sd_BK (sd_un ks (b * 5 + pl) (ks (b * 5 + n))) (upd vs (b * 5 + pl) (vs (b * 5 + n))) yv b n (fun x => P x ∧ x ≠ k) := by
  obtain ⟨h1, h2, h3⟩ := h
  have e1 : sd_un ks (b * 5 + pl) (ks (b * 5 + n)) (b * 5 + pl) = ks (b * 5 + n) := sd_us
  have e2 : upd vs (b * 5 + pl) (vs (b * 5 + n)) (b * 5 + pl) = vs (b * 5 + n) := pk_us
  have e3 : ∀ j, j ≠ pl → sd_un ks (b * 5 + pl) (ks (b * 5 + n)) (b * 5 + j) = ks (b * 5 + j) := fun j hj => sd_ux (by omega)
  have e4 : ∀ j, j ≠ pl → upd vs (b * 5 + pl) (vs (b * 5 + n)) (b * 5 + j) = vs (b * 5 + j) := fun j hj => pk_un (by omega)
  have nk : ∀ j, j < n + 1 → j ≠ pl → ks (b * 5 + j) ≠ k := fun j hj hn z => hn (h2 j pl hj hp (by rw [z, hk]))
  refine ⟨?_, ?_, ?_⟩
  · intro j hj
    by_cases c : j = pl
    · rw [c, e1, e2]
      exact ⟨⟨(h1 n (by omega)).1, nk n (by omega) (by omega)⟩, (h1 n (by omega)).2⟩
    · rw [e3 j c, e4 j c]
      exact ⟨⟨(h1 j (by omega)).1, nk j (by omega) c⟩, (h1 j (by omega)).2⟩
  · intro i j hi hj
    by_cases c : i = pl
    · by_cases c' : j = pl
      · intro _; omega
      · rw [c, e1, e3 j c']; intro z; have := h2 n j (by omega) (by omega) z; omega
    · by_cases c' : j = pl
      · rw [c', e1, e3 i c]; intro z; have := h2 i n (by omega) (by omega) z; omega
      · rw [e3 i c, e3 j c']; exact h2 i j (by omega) (by omega)
  · intro x hx
    obtain ⟨j, hj, ej⟩ := h3 x hx.1
    have c : j ≠ pl := fun z => hx.2 (by rw [← ej, z, hk])
    by_cases c' : j = n
    · exact ⟨pl, by omega, by rw [e1, ← c', ej]⟩
    · exact ⟨j, by omega, by rw [e3 j c, ej]⟩
theorem sd_BK_rk {ks : Nat → Nat} {vs yv : Nat → Int32} {b n K : Nat} {P : Nat → Prop} {p : Nat → Bool} (h : sd_BK ks vs yv b n P) (hP : ∀ k, P k ↔ (k < 256 ∧ p k = true)) (hK : K ≤ 256) : sd_cn (fun j => decide (ks (b * 5 + j) < K)) n = sd_cn p K := by
  apply Nat.le_antisymm
  · refine sd_cn_inj n (fun j => ks (b * 5 + j)) ?_ ?_
    · intro i hi hp
      exact ⟨of_decide_eq_true hp, ((hP _).mp (h.1 i hi).1).2⟩
    · intro i j hi hj _ _ e
      exact h.2.1 i j hi hj e
  · have hg : ∃ g : Nat → Nat, ∀ k, P k → g k < n ∧ ks (b * 5 + g k) = k := by
      have hh : ∀ k, ∃ j, P k → j < n ∧ ks (b * 5 + j) = k := fun k => by
        by_cases z : P k
        · obtain ⟨j, hj⟩ := h.2.2 k z
          exact ⟨j, fun _ => hj⟩
        · exact ⟨0, fun y => absurd y z⟩
      exact Classical.skolem.mp hh
    obtain ⟨g, hg⟩ := hg
    refine sd_cn_inj K g ?_ ?_
    · intro k hk hp
      have z := hg k ((hP k).mpr ⟨by omega, hp⟩)
      exact ⟨z.1, decide_eq_true (by rw [z.2]; exact hk)⟩
    · intro k k' hk hk' hp hp' e
      have z := hg k ((hP k).mpr ⟨by omega, hp⟩)
      have z' := hg k' ((hP k').mpr ⟨by omega, hp'⟩)
      rw [← z.2, ← z'.2, e]
theorem sd_BK_cn {ks : Nat → Nat} {vs yv : Nat → Int32} {b n : Nat} {P : Nat → Prop} {p : Nat → Bool} (h : sd_BK ks vs yv b n P) (hP : ∀ k, P k ↔ (k < 256 ∧ p k = true)) : n = sd_cn p 256 := by
  rw [← sd_BK_rk h hP (Nat.le_refl 256)]
  exact (sd_cn_true (fun i hi => decide_eq_true ((hP _).mp (h.1 i hi).1).1)).symm
/-! the directory: which bucket each ending has -/
def sd_Dir (D : Nat) (dir us dp en : Nat → Nat) : Prop :=
  D ≤ 6 ∧ (∀ b, us b ≤ 1) ∧ (∀ b, us b = 1 → b < 64) ∧ (∀ i, i < 2 ^ D → us (dir i) = 1) ∧
  (∀ b, us b = 1 → dp b ≤ D ∧ en b < 2 ^ dp b ∧ ∀ i, i < 2 ^ D → (dir i = b ↔ i % 2 ^ dp b = en b))
section
variable {D : Nat} {dir us dp en : Nat → Nat}
theorem sd_Dir_of (h : sd_Dir D dir us dp en) (k : Nat) : us (dir (k % 2 ^ D)) = 1 ∧ dir (k % 2 ^ D) < 64 ∧ dp (dir (k % 2 ^ D)) ≤ D ∧ k % 2 ^ dp (dir (k % 2 ^ D)) = en (dir (k % 2 ^ D)) := by
  obtain ⟨_, _, h3, h4, h5⟩ := h
  have a := h4 _ (sd_lt k D)
  have b := h5 _ a
  refine ⟨a, h3 _ a, b.1, ?_⟩
  have c := (b.2.2 _ (sd_lt k D)).mp rfl
  rw [sd_mm b.1] at c
  exact c
theorem sd_Dir_to (h : sd_Dir D dir us dp en) {b k : Nat} (hb : us b = 1) (e : k % 2 ^ dp b = en b) : dir (k % 2 ^ D) = b := by
  obtain ⟨_, _, _, _, h5⟩ := h
  have c := h5 b hb
  refine (c.2.2 _ (sd_lt k D)).mpr ?_
  rw [sd_mm c.1, e]
theorem sd_Dir_en (h : sd_Dir D dir us dp en) {b : Nat} (hb : us b = 1) : en b % 2 ^ dp b = en b := Nat.mod_eq_of_lt (h.2.2.2.2 b hb).2.1
theorem sd_Dir_inj (h : sd_Dir D dir us dp en) {b c k : Nat} (hb : us b = 1) (hc : us c = 1) (eb : k % 2 ^ dp b = en b) (ec : k % 2 ^ dp c = en c) : b = c := by
  rw [← sd_Dir_to h hb eb, ← sd_Dir_to h hc ec]
def sd_dbl (dir : Nat → Nat) (D x : Nat) : Nat → Nat := fun j => if 2 ^ D ≤ j ∧ j < 2 ^ D + x then dir (j - 2 ^ D) else dir j
theorem sd_dbl_at {i : Nat} (h : i < 2 ^ (D + 1)) : sd_dbl dir D (2 ^ D) i = dir (i % 2 ^ D) := by
  rw [sd_p1] at h
  unfold sd_dbl
  by_cases c : 2 ^ D ≤ i
  · rw [if_pos ⟨c, h⟩, Nat.mod_eq_sub_mod c, Nat.mod_eq_of_lt (by omega)]
  · rw [if_neg (fun z => c z.1), Nat.mod_eq_of_lt (by omega)]
theorem sd_Dir_dbl (h : sd_Dir D dir us dp en) (hD : D ≤ 5) : sd_Dir (D + 1) (sd_dbl dir D (2 ^ D)) us dp en := by
  obtain ⟨_, h2, h3, h4, h5⟩ := h
  refine ⟨by omega, h2, h3, ?_, ?_⟩
  · intro i hi
    rw [sd_dbl_at hi]
    exact h4 _ (sd_lt i D)
  · intro b hb
    have c := h5 b hb
    refine ⟨by omega, c.2.1, ?_⟩
    intro i hi
    rw [sd_dbl_at hi, c.2.2 _ (sd_lt i D), sd_mm c.1]
theorem sd_Dir_less (h : sd_Dir (D + 1) dir us dp en) (hd : ∀ b, us b = 1 → dp b ≤ D) : sd_Dir D dir us dp en := by
  obtain ⟨h1, h2, h3, h4, h5⟩ := h
  have p := sd_ple (show D ≤ D + 1 by omega)
  refine ⟨by omega, h2, h3, fun i hi => h4 i (by omega), fun b hb => ⟨hd b hb, (h5 b hb).2.1, fun i hi => (h5 b hb).2.2 i (by omega)⟩⟩
/-- there is room for one more bucket -/
theorem sd_Dir_room (h : sd_Dir D dir us dp en) {b : Nat} (hb : us b = 1) (hd : dp b < D) : ∃ c, c < 64 ∧ us c = 0 := by
  obtain ⟨h1, h2, h3, h4, h5⟩ := h
  have hh : sd_Dir D dir us dp en := ⟨h1, h2, h3, h4, h5⟩
  have c := h5 b hb
  have p1 := sd_ple (show dp b + 1 ≤ D by omega)
  have p6 := sd_ple h1
  rw [sd_p1] at p1
  have p6' : 2 ^ D ≤ 64 := p6
  have lt : sd_cn (fun b => decide (us b = 1)) 64 < 64 := by
    refine Nat.lt_of_le_of_lt (sd_cn_inj 64 en (m := 64) (q := fun i => decide (i ≠ en b + 2 ^ dp b)) ?_ ?_) ?_
    · intro x _ hx
      have ux := of_decide_eq_true hx
      have cx := h5 x ux
      have px := sd_ple cx.1
      refine ⟨by omega, decide_eq_true (fun z => ?_)⟩
      have e1 : en x % 2 ^ dp b = en b := by rw [z, Nat.add_mod_right, Nat.mod_eq_of_lt c.2.1]
      have e2 := sd_Dir_inj hh hb ux e1 (sd_Dir_en hh ux)
      rw [← e2] at z
      have := Nat.two_pow_pos (dp b)
      omega
    · intro x y _ _ hx hy z
      have ux := of_decide_eq_true hx
      have uy := of_decide_eq_true hy
      exact sd_Dir_inj hh ux uy (sd_Dir_en hh ux) (by rw [z]; exact sd_Dir_en hh uy)
    · exact sd_cn_lt (a := en b + 2 ^ dp b) (by omega) (decide_eq_false (fun z => z rfl))
  obtain ⟨a, ha, hz⟩ := sd_cn_ex lt
  have := of_decide_eq_false hz
  have := h2 a
  exact ⟨a, ha, by omega⟩
def sd_rdr (dir : Nat → Nat) (x d e c : Nat) : Nat → Nat := fun i => if i < x ∧ i % 2 ^ d = e ∧ i / 2 ^ d % 2 = 1 then c else dir i
theorem sd_Dir_split (h : sd_Dir D dir us dp en) {b c d : Nat} (hb : us b = 1) (e : dp b = d) (hd : d < D) (hc : us c = 0) (hc6 : c < 64) : sd_Dir D (sd_rdr dir (2 ^ D) d (en b) c) (sd_un us c 1) (sd_un (sd_un dp b (d + 1)) c (d + 1)) (sd_un en c (en b + 2 ^ d)) := by
  obtain ⟨h1, h2, h3, h4, h5⟩ := h
  have bc : b ≠ c := fun z => by rw [z] at hb; omega
  have cb := h5 b hb
  rw [e] at cb
  have nc : ∀ i, i < 2 ^ D → dir i ≠ c := fun i hi z => by have := h4 i hi; rw [z] at this; omega
  have q := Nat.two_pow_pos d
  refine ⟨h1, ?_, ?_, ?_, ?_⟩
  · intro x
    by_cases z : x = c
    · rw [sd_ue z]; exact Nat.le_refl 1
    · rw [sd_ux z]; exact h2 x
  · intro x
    by_cases z : x = c
    · intro _; omega
    · rw [sd_ux z]; exact h3 x
  · intro i hi
    unfold sd_rdr
    by_cases z : i < 2 ^ D ∧ i % 2 ^ d = en b ∧ i / 2 ^ d % 2 = 1
    · rw [if_pos z, sd_us]
    · rw [if_neg z, sd_ux (nc i hi)]; exact h4 i hi
  · intro x hx
    by_cases z : x = c
    · rw [sd_ue z, sd_ue z, z]
      refine ⟨by omega, by rw [sd_p1]; omega, ?_⟩
      intro i hi
      have l := sd_lt i d
      rw [sd_m1]
      unfold sd_rdr
      by_cases w : i < 2 ^ D ∧ i % 2 ^ d = en b ∧ i / 2 ^ d % 2 = 1
      · rw [if_pos w, if_pos w.2.2, w.2.1]
        exact ⟨fun _ => rfl, fun _ => rfl⟩
      · rw [if_neg w]
        refine ⟨fun y => absurd y (nc i hi), fun y => absurd ?_ w⟩
        by_cases v : i / 2 ^ d % 2 = 1
        · rw [if_pos v] at y
          exact ⟨hi, by omega, v⟩
        · rw [if_neg v] at y
          omega
    · rw [sd_ux z] at hx
      rw [sd_ux z, sd_ux z]
      by_cases w : x = b
      · rw [sd_ue w, w]
        refine ⟨by omega, by rw [sd_p1]; omega, ?_⟩
        intro i hi
        have l := sd_lt i d
        rw [sd_m1]
        unfold sd_rdr
        by_cases v : i < 2 ^ D ∧ i % 2 ^ d = en b ∧ i / 2 ^ d % 2 = 1
        · rw [if_pos v, if_pos v.2.2]
          exact ⟨fun y => absurd y.symm bc, fun y => by omega⟩
        · rw [if_neg v, cb.2.2 i hi]
          by_cases t : i / 2 ^ d % 2 = 1
          · rw [if_pos t]
            exact ⟨fun y => absurd ⟨hi, y, t⟩ v, fun y => by omega⟩
          · rw [if_neg t]
            exact Iff.rfl
      · rw [sd_ux w]
        have cx := h5 x hx
        refine ⟨cx.1, cx.2.1, ?_⟩
        intro i hi
        unfold sd_rdr
        by_cases v : i < 2 ^ D ∧ i % 2 ^ d = en b ∧ i / 2 ^ d % 2 = 1
        · rw [if_pos v]
          refine ⟨fun y => absurd y.symm z, fun y => absurd ?_ w⟩
          rw [← (cx.2.2 i hi).mpr y]
          exact (cb.2.2 i hi).mpr v.2.1
        · rw [if_neg v]
          exact cx.2.2 i hi
def sd_rdj (dir : Nat → Nat) (x b c : Nat) : Nat → Nat := fun i => if i < x ∧ dir i = c then b else dir i
theorem sd_Dir_join (h : sd_Dir D dir us dp en) {b c d : Nat} (hb : us b = 1) (hc : us c = 1) (bc : b ≠ c) (eb : dp b = d + 1) (ec : dp c = d + 1) (e : en b % 2 ^ d = en c % 2 ^ d) : sd_Dir D (sd_rdj dir (2 ^ D) b c) (sd_un us c 0) (sd_un dp b d) (sd_un en b (en b % 2 ^ d)) := by
  obtain ⟨h1, h2, h3, h4, h5⟩ := h
  have hh : sd_Dir D dir us dp en := ⟨h1, h2, h3, h4, h5⟩
  have cb := h5 b hb
  have cc := h5 c hc
  have nb := sd_Dir_en hh hb
  have nc := sd_Dir_en hh hc
  rw [eb] at cb nb
  rw [ec] at cc nc
  have ne : ¬ (en b / 2 ^ d % 2 = 1 ↔ en c / 2 ^ d % 2 = 1) := fun z => by
    have y := (sd_up (en b) (en c) d).mpr ⟨e, z⟩
    exact bc (sd_Dir_inj hh (k := en b) hb hc (by rw [eb]; exact nb) (by rw [ec, y]; exact nc))
  refine ⟨h1, ?_, ?_, ?_, ?_⟩
  · intro x
    by_cases z : x = c
    · rw [sd_ue z]; exact Nat.zero_le 1
    · rw [sd_ux z]; exact h2 x
  · intro x
    by_cases z : x = c
    · rw [sd_ue z]; intro y; omega
    · rw [sd_ux z]; exact h3 x
  · intro i hi
    unfold sd_rdj
    by_cases z : i < 2 ^ D ∧ dir i = c
    · rw [if_pos z, sd_ux bc]; exact hb
    · rw [if_neg z, sd_ux (fun y => z ⟨hi, y⟩)]; exact h4 i hi
  · intro x hx
    have xc : x ≠ c := fun z => by rw [sd_ue z] at hx; omega
    rw [sd_ux xc] at hx
    by_cases w : x = b
    · rw [sd_ue w, sd_ue w, w]
      refine ⟨by omega, sd_lt _ _, ?_⟩
      intro i hi
      have k1 := cb.2.2 i hi
      have k2 := cc.2.2 i hi
      rw [← nb, sd_up] at k1
      rw [← nc, sd_up, ← e] at k2
      unfold sd_rdj
      by_cases z : i < 2 ^ D ∧ dir i = c
      · rw [if_pos z]
        exact ⟨fun _ => (k2.mp z.2).1, fun _ => rfl⟩
      · rw [if_neg z]
        refine ⟨fun y => (k1.mp y).1, fun y => ?_⟩
        refine k1.mpr ⟨y, ?_⟩
        have k3 : ¬ (i / 2 ^ d % 2 = 1 ↔ en c / 2 ^ d % 2 = 1) := fun v => z ⟨hi, k2.mpr ⟨y, v⟩⟩
        generalize i / 2 ^ d % 2 = A at *
        generalize en b / 2 ^ d % 2 = B at *
        generalize en c / 2 ^ d % 2 = C at *
        omega
    · rw [sd_ux w, sd_ux w]
      have cx := h5 x hx
      refine ⟨cx.1, cx.2.1, ?_⟩
      intro i hi
      unfold sd_rdj
      by_cases z : i < 2 ^ D ∧ dir i = c
      · rw [if_pos z]
        refine ⟨fun y => absurd y.symm w, fun y => absurd ?_ xc⟩
        rw [← (cx.2.2 i hi).mpr y]
        exact z.2
      · rw [if_neg z]
        exact cx.2.2 i hi
end
end
section
/-! the keys that are there; what the buckets hold; the whole -/
def sd_T (th : Nat → Nat) : Prop := (∀ k, th k ≤ 1) ∧ (∀ k, th k = 1 → k < 256)
def sd_Con (th : Nat → Nat) (yv : Nat → Int32) (us dp en ld ks : Nat → Nat) (vs : Nat → Int32) : Prop :=
  ∀ b, us b = 1 → ld b ≤ 5 ∧ sd_BK ks vs yv b (ld b) (fun k => th k = 1 ∧ k % 2 ^ dp b = en b)
def sd_St (th : Nat → Nat) (yv : Nat → Int32) (en : Nat → Nat) (D bc kc : Nat) (dir us dp ld ks : Nat → Nat) (vs : Nat → Int32) : Prop :=
  sd_T th ∧ sd_Dir D dir us dp en ∧ sd_Con th yv us dp en ld ks vs ∧ bc = sd_cn (fun b => decide (us b = 1)) 64 ∧ kc = sd_cn (fun k => decide (th k = 1)) 256
def sd_Up (th us dp en : Nat → Nat) : Prop := ∀ b, us b = 1 → dp b = 0 ∨ 4 < sd_ct th (en b) (dp b - 1)
def sd_Can (th us dp en ld : Nat → Nat) : Prop := sd_Up th us dp en ∧ ∀ b, us b = 1 → ld b ≤ 4
def sd_Lo (us dp en ld : Nat → Nat) (key : Nat) : Prop := ∀ b, us b = 1 → ld b ≤ 4 ∨ key % 2 ^ dp b = en b
def sd_Del (th us dp en ld : Nat → Nat) (key : Nat) : Prop :=
  (∀ b, us b = 1 → ld b ≤ 4) ∧ ∀ b, us b = 1 → dp b = 0 ∨ 4 < sd_ct th (en b) (dp b - 1) ∨ key % 2 ^ (dp b - 1) = en b % 2 ^ (dp b - 1)
section
variable {th : Nat → Nat} {yv : Nat → Int32} {en : Nat → Nat} {D bc kc : Nat} {dir us dp ld ks : Nat → Nat} {vs : Nat → Int32}
theorem sd_cpe (S : sd_St th yv en D bc kc dir us dp ld ks vs) {b : Nat} (hb : us b = 1) (k : Nat) : (th k = 1 ∧ k % 2 ^ dp b = en b) ↔ (k < 256 ∧ sd_cp th (en b) (dp b) k = true) := by
  rw [sd_cp_iff, sd_Dir_en S.2.1 hb]
  exact ⟨fun z => ⟨S.1.2 k z.1, z⟩, fun z => z.2⟩
theorem sd_ld (S : sd_St th yv en D bc kc dir us dp ld ks vs) {b : Nat} (hb : us b = 1) : ld b = sd_ct th (en b) (dp b) :=
  sd_BK_cn (S.2.2.1 b hb).2 (sd_cpe S hb)
theorem sd_ld6 (S : sd_St th yv en D bc kc dir us dp ld ks vs) {b : Nat} (hb : us b = 1) (h : 4 < ld b) : dp b ≤ 5 := by
  rw [sd_ld S hb] at h
  rcases Nat.lt_or_ge (dp b) 6 with a | a
  · omega
  · have := sd_ct_6 th (en b) a
    omega
theorem sd_ks (S : sd_St th yv en D bc kc dir us dp ld ks vs) {b : Nat} (hb : us b = 1) {j : Nat} (hj : j < ld b) : ks (b * 5 + j) < 256 := S.1.2 _ ((S.2.2.1 b hb).2.1 j hj).1.1
theorem sd_thz (S : sd_St th yv en D bc kc dir us dp ld ks vs) {k : Nat} (h : ¬ th k = 1) : th k = 0 := by
  have := S.1.1 k
  omega
/-- a key that is not there is put into its bucket -/
theorem sd_St_app (S : sd_St th yv en D bc kc dir us dp ld ks vs) {key b : Nat} (v : Int32) (hk : key < 256) (h0 : th key = 0) (eb : dir (key % 2 ^ D) = b) (h4 : ld b ≤ 4) : sd_St (sd_un th key 1) (upd yv key v) en D bc (kc + 1) dir us dp (sd_un ld b (ld b + 1)) (sd_un ks (b * 5 + ld b) key) (upd vs (b * 5 + ld b) v) := by
  obtain ⟨T, d, C, e1, e2⟩ := S
  have o := sd_Dir_of d key
  rw [eb] at o
  refine ⟨⟨?_, ?_⟩, d, ?_, e1, ?_⟩
  · intro k
    by_cases z : k = key
    · rw [sd_ue z]; exact Nat.le_refl 1
    · rw [sd_ux z]; exact T.1 k
  · intro k
    by_cases z : k = key
    · intro _; omega
    · rw [sd_ux z]; exact T.2 k
  · intro x hx
    have c := C x hx
    have yy : ∀ k, (th k = 1 ∧ k % 2 ^ dp x = en x) → upd yv key v k = yv k := fun k z => pk_un (fun w => by rw [w] at z; omega)
    by_cases z : x = b
    · rw [sd_ue z, z]
      rw [z] at c yy
      refine ⟨by omega, ?_⟩
      refine sd_BK_iff (sd_BK_push (k := key) (v := v) (sd_BK_yv c.2 yy) (fun w => by omega) pk_us.symm) ?_
      intro k
      by_cases w : k = key
      · rw [sd_ue w]
        exact ⟨fun _ => ⟨rfl, by rw [w]; exact o.2.2.2⟩, fun _ => Or.inr w⟩
      · rw [sd_ux w]
        exact ⟨fun y => y.elim id (fun u => absurd u w), fun y => Or.inl y⟩
    · rw [sd_ux z]
      refine ⟨c.1, ?_⟩
      refine sd_BK_iff (sd_BK_yv (sd_BK_fr c.2 (fun j hj => ⟨sd_ux (by omega), pk_un (by omega)⟩)) yy) ?_
      intro k
      by_cases w : k = key
      · rw [sd_ue w, w]
        exact ⟨fun y => by omega, fun y => absurd (sd_Dir_inj d hx o.1 y.2 o.2.2.2) z⟩
      · rw [sd_ux w]
  · rw [e2]
    refine (sd_cn_add (a := key) hk ?_ ?_ ?_).symm
    · intro i hi
      show decide (sd_un th key 1 i = 1) = decide (th i = 1)
      rw [sd_ux hi]
    · exact decide_eq_false (by omega)
    · exact decide_eq_true sd_us
/-- a key is taken out of its bucket -/
theorem sd_St_del (S : sd_St th yv en D bc kc dir us dp ld ks vs) {key b n pl : Nat} (eb : dir (key % 2 ^ D) = b) (hn : ld b = n + 1) (hp : pl < n + 1) (hk : ks (b * 5 + pl) = key) : sd_St (sd_un th key 0) yv en D bc (kc - 1) dir us dp (sd_un ld b n) (sd_un ks (b * 5 + pl) (ks (b * 5 + n))) (upd vs (b * 5 + pl) (vs (b * 5 + n))) := by
  obtain ⟨T, d, C, e1, e2⟩ := S
  have o := sd_Dir_of d key
  rw [eb] at o
  have cb := C b o.1
  rw [hn] at cb
  have t1 : th key = 1 := by rw [← hk]; exact (cb.2.1 pl hp).1.1
  refine ⟨⟨?_, ?_⟩, d, ?_, e1, ?_⟩
  · intro k
    by_cases z : k = key
    · rw [sd_ue z]; exact Nat.zero_le 1
    · rw [sd_ux z]; exact T.1 k
  · intro k
    by_cases z : k = key
    · rw [sd_ue z]; intro y; omega
    · rw [sd_ux z]; exact T.2 k
  · intro x hx
    have c := C x hx
    by_cases z : x = b
    · rw [sd_ue z, z]
      refine ⟨by omega, ?_⟩
      refine sd_BK_iff (sd_BK_drop cb.2 hp hk) ?_
      intro k
      by_cases w : k = key
      · rw [sd_ue w]
        exact ⟨fun y => absurd w y.2, fun y => by omega⟩
      · rw [sd_ux w]
        exact ⟨fun y => y.1, fun y => ⟨y, w⟩⟩
    · rw [sd_ux z]
      refine ⟨c.1, ?_⟩
      refine sd_BK_iff (sd_BK_fr c.2 (fun j hj => ⟨sd_ux (by omega), pk_un (by omega)⟩)) ?_
      intro k
      by_cases w : k = key
      · rw [sd_ue w, w]
        exact ⟨fun y => absurd (sd_Dir_inj d hx o.1 y.2 o.2.2.2) z, fun y => by omega⟩
      · rw [sd_ux w]
  · have y : sd_cn (fun k => decide (th k = 1)) 256 = sd_cn (fun k => decide (sd_un th key 0 k = 1)) 256 + 1 := by
      refine sd_cn_add (a := key) (T.2 key t1) ?_ ?_ ?_
      · intro i hi
        show decide (th i = 1) = decide (sd_un th key 0 i = 1)
        rw [sd_ux hi]
      · exact decide_eq_false (by rw [sd_us]; decide)
      · exact decide_eq_true t1
    omega
theorem sd_ct_off {key x e d : Nat} (h : key % 2 ^ d ≠ e % 2 ^ d) : sd_ct (sd_un th key x) e d = sd_ct th e d := by
  refine sd_cn_congr (fun i _ => ?_)
  unfold sd_cp
  by_cases z : i = key
  · rw [z, decide_eq_false (fun y => h y.2), decide_eq_false (fun y => h y.2)]
  · rw [sd_ux z]
theorem sd_ct_on {key e d : Nat} (hk : key < 256) (h0 : th key = 0) : sd_ct th e d ≤ sd_ct (sd_un th key 1) e d := by
  refine sd_cn_inj 256 (fun i => i) ?_ ?_
  · intro i hi hp
    refine ⟨hi, ?_⟩
    rw [sd_cp_iff] at hp ⊢
    rw [sd_ux (fun z => by rw [z] at hp; omega)]
    exact hp
  · intro i j _ _ _ _ e
    exact e
theorem sd_Del_of {key b n : Nat} (h : sd_Can th us dp en ld) (hb : us b = 1) (hn : n ≤ ld b) : sd_Del (sd_un th key 0) us dp en (sd_un ld b n) key := by
  refine ⟨?_, ?_⟩
  · intro x hx
    have := h.2 x hx
    by_cases z : x = b
    · rw [sd_ue z]; rw [z] at this; omega
    · rw [sd_ux z]; exact this
  · intro x hx
    rcases h.1 x hx with a | a
    · exact Or.inl a
    · by_cases z : key % 2 ^ (dp x - 1) = en x % 2 ^ (dp x - 1)
      · exact Or.inr (Or.inr z)
      · exact Or.inr (Or.inl (by rw [sd_ct_off z]; exact a))
theorem sd_Can_0 (S : sd_St th yv en D bc kc dir us dp ld ks vs) {key : Nat} (h : sd_Del th us dp en ld key) (h0 : dp (dir (key % 2 ^ D)) = 0) : sd_Can th us dp en ld := by
  refine ⟨fun x hx => Or.inl ?_, h.1⟩
  have o := sd_Dir_of S.2.1 key
  have e : dir (key % 2 ^ D) = x := by
    refine sd_Dir_inj S.2.1 (k := en x) o.1 hx ?_ (sd_Dir_en S.2.1 hx)
    have l := (S.2.1.2.2.2.2 _ o.1).2.1
    rw [h0] at l ⊢
    omega
  rw [← e, h0]
theorem sd_Can_b (S : sd_St th yv en D bc kc dir us dp ld ks vs) {key d : Nat} (h : sd_Del th us dp en ld key) (h0 : dp (dir (key % 2 ^ D)) = d + 1) (h4 : 4 < sd_ct th key d) : sd_Can th us dp en ld := by
  refine ⟨fun x hx => ?_, h.1⟩
  have o := sd_Dir_of S.2.1 key
  rcases h.2 x hx with a | a | a
  · exact Or.inl a
  · exact Or.inr a
  · refine Or.inr ?_
    rw [sd_ct_e a.symm]
    refine Nat.lt_of_lt_of_le h4 (sd_ct_mn th key ?_)
    rcases Nat.lt_or_ge (d + 1) (dp x) with c | c
    · exfalso
      have e1 := sd_down (show d + 1 ≤ dp x - 1 by omega) a
      have e2 : x = dir (key % 2 ^ D) := by
        refine sd_Dir_inj S.2.1 (k := en x) hx o.1 (sd_Dir_en S.2.1 hx) ?_
        rw [← o.2.2.2, h0, e1]
      rw [← e2] at h0
      omega
    · omega
/-! the moves of a split -/
def sd_LI (ks0 : Nat → Nat) (vs0 yv : Nat → Int32) (b c n d i nb nc : Nat) (ks : Nat → Nat) (vs : Nat → Int32) : Prop :=
  nb ≤ i ∧ nc ≤ i ∧ (∀ j, i ≤ j → j < n → ks (b * 5 + j) = ks0 (b * 5 + j) ∧ vs (b * 5 + j) = vs0 (b * 5 + j)) ∧
  sd_BK ks vs yv b nb (fun k => (∃ j, j < i ∧ ks0 (b * 5 + j) = k) ∧ ¬ k / 2 ^ d % 2 = 1) ∧
  sd_BK ks vs yv c nc (fun k => (∃ j, j < i ∧ ks0 (b * 5 + j) = k) ∧ k / 2 ^ d % 2 = 1) ∧
  (∀ x, ¬ (b * 5 ≤ x ∧ x < b * 5 + 5) → ¬ (c * 5 ≤ x ∧ x < c * 5 + 5) → ks x = ks0 x ∧ vs x = vs0 x)
theorem sd_LI_0 (ks0 : Nat → Nat) (vs0 yv : Nat → Int32) (b c n d : Nat) : sd_LI ks0 vs0 yv b c n d 0 0 0 ks0 vs0 :=
  ⟨Nat.le_refl 0, Nat.le_refl 0, fun j _ _ => ⟨rfl, rfl⟩, sd_BK_0 _ _ _ _ (fun k z => by obtain ⟨⟨j, hj, _⟩, _⟩ := z; omega), sd_BK_0 _ _ _ _ (fun k z => by obtain ⟨⟨j, hj, _⟩, _⟩ := z; omega), fun x _ _ => ⟨rfl, rfl⟩⟩
theorem sd_LI_b {ks0 : Nat → Nat} {vs0 : Nat → Int32} {b c n d i nb nc : Nat} {P : Nat → Prop} (B : sd_BK ks0 vs0 yv b n P) (hn : n ≤ 5) (bc : b ≠ c) (L : sd_LI ks0 vs0 yv b c n d i nb nc ks vs) (hi : i < n) (hk : ¬ ks (b * 5 + i) / 2 ^ d % 2 = 1) : sd_LI ks0 vs0 yv b c n d (i + 1) (nb + 1) nc (sd_un ks (b * 5 + nb) (ks (b * 5 + i))) (upd vs (b * 5 + nb) (vs (b * 5 + i))) := by
  obtain ⟨l1, l2, l3, l4, l5, l6⟩ := L
  have E := l3 i (Nat.le_refl i) hi
  rw [E.1] at hk ⊢
  rw [E.2]
  refine ⟨by omega, by omega, ?_, ?_, ?_, ?_⟩
  · intro j h1 h2
    rw [sd_ux (by omega), pk_un (by omega)]
    exact l3 j (by omega) h2
  · refine sd_BK_iff (sd_BK_push l4 ?_ (B.1 i hi).2) ?_
    · intro z
      obtain ⟨⟨j, hj, e⟩, _⟩ := z
      have := B.2.1 j i (by omega) hi e
      omega
    · intro x
      constructor
      · intro z
        rcases z with z | z
        · obtain ⟨⟨j, hj, e⟩, w⟩ := z
          exact ⟨⟨j, by omega, e⟩, w⟩
        · rw [z]
          exact ⟨⟨i, by omega, rfl⟩, hk⟩
      · intro z
        obtain ⟨⟨j, hj, e⟩, w⟩ := z
        by_cases y : j = i
        · exact Or.inr (by rw [← e, y])
        · exact Or.inl ⟨⟨j, by omega, e⟩, w⟩
  · refine sd_BK_iff (sd_BK_fr l5 (fun j hj => ⟨sd_ux (by omega), pk_un (by omega)⟩)) ?_
    intro x
    constructor
    · intro z
      obtain ⟨⟨j, hj, e⟩, w⟩ := z
      exact ⟨⟨j, by omega, e⟩, w⟩
    · intro z
      obtain ⟨⟨j, hj, e⟩, w⟩ := z
      by_cases y : j = i
      · rw [y] at e
        rw [e] at hk
        exact absurd w hk
      · exact ⟨⟨j, by omega, e⟩, w⟩
  · intro x h1 h2
    rw [sd_ux (by omega), pk_un (by omega)]
    exact l6 x h1 h2
theorem sd_LI_c {ks0 : Nat → Nat} {vs0 : Nat → Int32} {b c n d i nb nc : Nat} {P : Nat → Prop} (B : sd_BK ks0 vs0 yv b n P) (hn : n ≤ 5) (bc : b ≠ c) (L : sd_LI ks0 vs0 yv b c n d i nb nc ks vs) (hi : i < n) (hk : ks (b * 5 + i) / 2 ^ d % 2 = 1) : sd_LI ks0 vs0 yv b c n d (i + 1) nb (nc + 1) (sd_un ks (c * 5 + nc) (ks (b * 5 + i))) (upd vs (c * 5 + nc) (vs (b * 5 + i))) := by
  obtain ⟨l1, l2, l3, l4, l5, l6⟩ := L
  have E := l3 i (Nat.le_refl i) hi
  rw [E.1] at hk ⊢
  rw [E.2]
  refine ⟨by omega, by omega, ?_, ?_, ?_, ?_⟩
  · intro j h1 h2
    rw [sd_ux (by omega), pk_un (by omega)]
    exact l3 j (by omega) h2
  · refine sd_BK_iff (sd_BK_fr l4 (fun j hj => ⟨sd_ux (by omega), pk_un (by omega)⟩)) ?_
    intro x
    constructor
    · intro z
      obtain ⟨⟨j, hj, e⟩, w⟩ := z
      exact ⟨⟨j, by omega, e⟩, w⟩
    · intro z
      obtain ⟨⟨j, hj, e⟩, w⟩ := z
      by_cases y : j = i
      · rw [y] at e
        rw [e] at hk
        exact absurd hk w
      · exact ⟨⟨j, by omega, e⟩, w⟩
  · refine sd_BK_iff (sd_BK_push l5 ?_ (B.1 i hi).2) ?_
    · intro z
      obtain ⟨⟨j, hj, e⟩, _⟩ := z
      have := B.2.1 j i (by omega) hi e
      omega
    · intro x
      constructor
      · intro z
        rcases z with z | z
        · obtain ⟨⟨j, hj, e⟩, w⟩ := z
          exact ⟨⟨j, by omega, e⟩, w⟩
        · rw [z]
          exact ⟨⟨i, by omega, rfl⟩, hk⟩
      · intro z
        obtain ⟨⟨j, hj, e⟩, w⟩ := z
        by_cases y : j = i
        · exact Or.inr (by rw [← e, y])
        · exact Or.inl ⟨⟨j, by omega, e⟩, w⟩
  · intro x h1 h2
    rw [sd_ux (by omega), pk_un (by omega)]
    exact l6 x h1 h2
end
end
section
section
variable {th : Nat → Nat} {yv : Nat → Int32} {en : Nat → Nat} {D bc kc : Nat} {dir us dp ld ks : Nat → Nat} {vs : Nat → Int32}
theorem sd_St_split (S : sd_St th yv en D bc kc dir us dp ld ks vs) {b c d nb nc : Nat} {ks' : Nat → Nat} {vs' : Nat → Int32} (hb : us b = 1) (e : dp b = d) (hd : d < D) (hc : us c = 0) (hc6 : c < 64) (L : sd_LI ks vs yv b c (ld b) d (ld b) nb nc ks' vs') : sd_St th yv (sd_un en c (en b + 2 ^ d)) D (bc + 1) kc (sd_rdr dir (2 ^ D) d (en b) c) (sd_un us c 1) (sd_un (sd_un dp b (d + 1)) c (d + 1)) (sd_un (sd_un ld b nb) c nc) ks' vs' := by
  obtain ⟨T, dd, C, e1, e2⟩ := S
  have bc' : b ≠ c := fun z => by rw [z] at hb; omega
  obtain ⟨l1, l2, l3, l4, l5, l6⟩ := L
  have cb := C b hb
  have lb := (dd.2.2.2.2 b hb).2.1
  rw [e] at cb lb
  have HB : ∀ k, (∃ j, j < ld b ∧ ks (b * 5 + j) = k) ↔ (th k = 1 ∧ k % 2 ^ d = en b) := by
    intro k
    constructor
    · intro z
      obtain ⟨j, hj, w⟩ := z
      rw [← w]
      exact (cb.2.1 j hj).1
    · intro z
      exact cb.2.2.2 k z
  refine ⟨T, sd_Dir_split dd hb e hd hc hc6, ?_, ?_, e2⟩
  · intro x hx
    by_cases z : x = c
    · rw [sd_ue z, sd_ue z, sd_ue z, z]
      refine ⟨by omega, sd_BK_iff l5 ?_⟩
      intro k
      have lk := sd_lt k d
      rw [HB, sd_m1]
      by_cases w : k / 2 ^ d % 2 = 1
      · rw [if_pos w]
        exact ⟨fun y => ⟨y.1.1, by omega⟩, fun y => ⟨⟨y.1, by omega⟩, w⟩⟩
      · rw [if_neg w]
        exact ⟨fun y => absurd y.2 w, fun y => by omega⟩
    · rw [sd_ux z] at hx
      rw [sd_ux z, sd_ux z, sd_ux z]
      by_cases w : x = b
      · rw [sd_ue w, sd_ue w, w]
        refine ⟨by omega, sd_BK_iff l4 ?_⟩
        intro k
        have lk := sd_lt k d
        rw [HB, sd_m1]
        by_cases w : k / 2 ^ d % 2 = 1
        · rw [if_pos w]
          exact ⟨fun y => absurd w y.2, fun y => by omega⟩
        · rw [if_neg w]
          exact ⟨fun y => y.1, fun y => ⟨y, w⟩⟩
      · rw [sd_ux w, sd_ux w]
        have cx := C x hx
        refine ⟨cx.1, sd_BK_fr cx.2 ?_⟩
        intro j hj
        exact l6 _ (by omega) (by omega)
  · rw [e1]
    refine (sd_cn_add (a := c) hc6 ?_ ?_ ?_).symm
    · intro i hi
      show decide (sd_un us c 1 i = 1) = decide (us i = 1)
      rw [sd_ux hi]
    · exact decide_eq_false (by omega)
    · exact decide_eq_true sd_us
theorem sd_Up_split (S : sd_St th yv en D bc kc dir us dp ld ks vs) {b c d : Nat} (U : sd_Up th us dp en) (hb : us b = 1) (e : dp b = d) (hc : us c = 0) (h4 : 4 < ld b) : sd_Up th (sd_un us c 1) (sd_un (sd_un dp b (d + 1)) c (d + 1)) (sd_un en c (en b + 2 ^ d)) := by
  have lb := sd_ld S hb
  rw [e] at lb
  have bc' : b ≠ c := fun z => by rw [z] at hb; omega
  intro x hx
  by_cases z : x = c
  · rw [sd_ue z, sd_ue z]
    refine Or.inr ?_
    rw [Nat.add_sub_cancel, sd_ct_e (sd_flip (en b) d).1]
    omega
  · rw [sd_ux z] at hx
    rw [sd_ux z, sd_ux z]
    by_cases w : x = b
    · rw [sd_ue w, w]
      refine Or.inr ?_
      rw [Nat.add_sub_cancel]
      omega
    · rw [sd_ux w]
      exact U x hx
theorem sd_Lo_split (S : sd_St th yv en D bc kc dir us dp ld ks vs) {b c d nb nc key : Nat} {D' bc' kc' : Nat} {dir' ks' : Nat → Nat} {vs' : Nat → Int32} (O : sd_Lo us dp en ld key) (hb : us b = 1) (e : dp b = d) (hc : us c = 0) (h5 : ld b ≤ 5) (t1 : th key = 1) (ek : key % 2 ^ d = en b) (S' : sd_St th yv (sd_un en c (en b + 2 ^ d)) D' bc' kc' dir' (sd_un us c 1) (sd_un (sd_un dp b (d + 1)) c (d + 1)) (sd_un (sd_un ld b nb) c nc) ks' vs') : sd_Lo (sd_un us c 1) (sd_un (sd_un dp b (d + 1)) c (d + 1)) (sd_un en c (en b + 2 ^ d)) (sd_un (sd_un ld b nb) c nc) key := by
  have lb := sd_ld S hb
  rw [e] at lb
  have q := Nat.two_pow_pos d
  have bc' : b ≠ c := fun z => by rw [z] at hb; omega
  have two := sd_ct_2 th (en b) d
  have k256 := S.1.2 key t1
  have enb := (S.2.1.2.2.2.2 b hb).2.1
  rw [e] at enb
  have km := sd_m1 key d
  rw [ek] at km
  have p1 := sd_p1 d
  intro x hx
  have lx := sd_ld S' hx
  by_cases z : x = c
  · rw [sd_ue z, sd_ue z, sd_ue z]
    rw [sd_ue z, sd_ue z, sd_ue z] at lx
    by_cases w : key / 2 ^ d % 2 = 1
    · rw [if_pos w] at km
      exact Or.inr km
    · rw [if_neg w] at km
      refine Or.inl ?_
      have : 0 < sd_ct th (en b) (d + 1) := sd_cn_pos k256 (sd_cp_iff.mpr ⟨t1, by rw [km, Nat.mod_eq_of_lt (by omega)]; rfl⟩)
      omega
  · rw [sd_ux z, sd_ux z, sd_ux z]
    rw [sd_ux z, sd_ux z, sd_ux z] at lx
    rw [sd_ux z] at hx
    by_cases w : x = b
    · rw [sd_ue w, sd_ue w, w]
      rw [sd_ue w, sd_ue w, w] at lx
      by_cases v : key / 2 ^ d % 2 = 1
      · rw [if_pos v] at km
        refine Or.inl ?_
        have : 0 < sd_ct th (en b + 2 ^ d) (d + 1) := sd_cn_pos k256 (sd_cp_iff.mpr ⟨t1, by rw [km, Nat.mod_eq_of_lt (by omega)]⟩)
        omega
      · rw [if_neg v] at km
        exact Or.inr km
    · rw [sd_ux w, sd_ux w]
      exact O x hx
/-- the depth of the key's bucket grows by one -/
theorem sd_dp_split (S : sd_St th yv en D bc kc dir us dp ld ks vs) {b c d key : Nat} (hb : us b = 1) (e : dp b = d) (hc : us c = 0) (eb : dir (key % 2 ^ D) = b) : sd_un (sd_un dp b (d + 1)) c (d + 1) (sd_rdr dir (2 ^ D) d (en b) c (key % 2 ^ D)) = d + 1 := by
  have bc' : b ≠ c := fun z => by rw [z] at hb; omega
  unfold sd_rdr
  by_cases w : key % 2 ^ D < 2 ^ D ∧ key % 2 ^ D % 2 ^ d = en b ∧ key % 2 ^ D / 2 ^ d % 2 = 1
  · rw [if_pos w, sd_us]
  · rw [if_neg w, eb, sd_ux bc', sd_us]
/-! the moves of a join -/
def sd_JI (ks0 : Nat → Nat) (vs0 yv : Nat → Int32) (b c nb i : Nat) (P : Nat → Prop) (ks : Nat → Nat) (vs : Nat → Int32) : Prop :=
  sd_BK ks vs yv b (nb + i) (fun k => P k ∨ ∃ j, j < i ∧ ks0 (c * 5 + j) = k) ∧
  (∀ x, ¬ (b * 5 ≤ x ∧ x < b * 5 + 5) → ks x = ks0 x ∧ vs x = vs0 x)
theorem sd_JI_0 {ks0 : Nat → Nat} {vs0 yv : Nat → Int32} {b c nb : Nat} {P : Nat → Prop} (B : sd_BK ks0 vs0 yv b nb P) : sd_JI ks0 vs0 yv b c nb 0 P ks0 vs0 := by
  refine ⟨sd_BK_iff B ?_, fun x _ => ⟨rfl, rfl⟩⟩
  intro k
  constructor
  · intro z; exact Or.inl z
  · intro z
    rcases z with z | z
    · exact z
    · obtain ⟨j, hj, _⟩ := z
      omega
theorem sd_JI_s {ks0 : Nat → Nat} {vs0 : Nat → Int32} {b c nb n i : Nat} {P Q : Nat → Prop} (B : sd_BK ks0 vs0 yv c n Q) (bc : b ≠ c) (h4 : nb + n ≤ 4) (PQ : ∀ k, P k → Q k → False) (J : sd_JI ks0 vs0 yv b c nb i P ks vs) (hi : i < n) : sd_JI ks0 vs0 yv b c nb (i + 1) P (sd_un ks (b * 5 + (nb + i)) (ks (c * 5 + i))) (upd vs (b * 5 + (nb + i)) (vs (c * 5 + i))) := by
  obtain ⟨j1, j2⟩ := J
  have E := j2 (c * 5 + i) (by omega)
  rw [E.1, E.2]
  have Bi := B.1 i hi
  refine ⟨?_, ?_⟩
  · refine sd_BK_iff (sd_BK_push j1 ?_ Bi.2) ?_
    · intro z
      rcases z with z | z
      · exact PQ _ z Bi.1
      · obtain ⟨j, hj, e⟩ := z
        have := B.2.1 j i (by omega) hi e
        omega
    · intro k
      constructor
      · intro z
        rcases z with (z | z) | z
        · exact Or.inl z
        · obtain ⟨j, hj, e⟩ := z
          exact Or.inr ⟨j, by omega, e⟩
        · exact Or.inr ⟨i, by omega, z.symm⟩
      · intro z
        rcases z with z | z
        · exact Or.inl (Or.inl z)
        · obtain ⟨j, hj, e⟩ := z
          by_cases w : j = i
          · rw [w] at e
            exact Or.inr e.symm
          · exact Or.inl (Or.inr ⟨j, by omega, e⟩)
  · intro x hx
    rw [sd_ux (by omega), pk_un (by omega)]
    exact j2 x hx
theorem sd_St_join (S : sd_St th yv en D bc kc dir us dp ld ks vs) {b c d : Nat} {ks' : Nat → Nat} {vs' : Nat → Int32} (hb : us b = 1) (hc : us c = 1) (nbc : b ≠ c) (eb : dp b = d + 1) (ec : dp c = d + 1) (e : en b % 2 ^ d = en c % 2 ^ d) (h4 : ld b + ld c ≤ 4) (J : sd_JI ks vs yv b c (ld b) (ld c) (fun k => th k = 1 ∧ k % 2 ^ dp b = en b) ks' vs') : sd_St th yv (sd_un en b (en b % 2 ^ d)) D (bc - 1) kc (sd_rdj dir (2 ^ D) b c) (sd_un us c 0) (sd_un dp b d) (sd_un ld b (ld b + ld c)) ks' vs' := by
  obtain ⟨T, dd, C, e1, e2⟩ := S
  obtain ⟨j1, j2⟩ := J
  have cc := C c hc
  have nb := sd_Dir_en dd hb
  have nc := sd_Dir_en dd hc
  have c64 := dd.2.2.1 c hc
  have ne : ¬ (en b / 2 ^ d % 2 = 1 ↔ en c / 2 ^ d % 2 = 1) := fun z => by
    have y := (sd_up (en b) (en c) d).mpr ⟨e, z⟩
    exact nbc (sd_Dir_inj dd (k := en b) hb hc nb (by rw [ec, y, ← ec]; exact nc))
  rw [eb] at nb j1
  rw [ec] at nc cc
  refine ⟨T, sd_Dir_join dd hb hc nbc eb ec e, ?_, ?_, e2⟩
  · intro x hx
    have xc : x ≠ c := fun z => by rw [sd_ue z] at hx; omega
    rw [sd_ux xc] at hx
    by_cases z : x = b
    · rw [sd_ue z, sd_ue z, sd_ue z, z]
      refine ⟨by omega, sd_BK_iff j1 ?_⟩
      intro k
      have HC : (∃ j, j < ld c ∧ ks (c * 5 + j) = k) ↔ (th k = 1 ∧ k % 2 ^ (d + 1) = en c) := by
        constructor
        · intro z
          obtain ⟨j, hj, w⟩ := z
          rw [← w]
          exact (cc.2.1 j hj).1
        · intro z
          exact cc.2.2.2 k z
      rw [HC]
      dsimp only
      rw [← nb, ← nc, sd_up, sd_up, nb, ← e]
      constructor
      · intro z
        rcases z with z | z
        · exact ⟨z.1, z.2.1⟩
        · exact ⟨z.1, z.2.1⟩
      · intro z
        by_cases w : (k / 2 ^ d % 2 = 1 ↔ en b / 2 ^ d % 2 = 1)
        · exact Or.inl ⟨z.1, z.2, w⟩
        · refine Or.inr ⟨z.1, z.2, ?_⟩
          generalize k / 2 ^ d % 2 = A at *
          generalize en b / 2 ^ d % 2 = B at *
          generalize en c / 2 ^ d % 2 = C at *
          omega
    · rw [sd_ux z, sd_ux z, sd_ux z]
      have cx := C x hx
      refine ⟨cx.1, sd_BK_fr cx.2 ?_⟩
      intro j hj
      exact j2 _ (by omega)
  · have y : sd_cn (fun b => decide (us b = 1)) 64 = sd_cn (fun b => decide (sd_un us c 0 b = 1)) 64 + 1 := by
      refine sd_cn_add (a := c) c64 ?_ ?_ ?_
      · intro i hi
        show decide (us i = 1) = decide (sd_un us c 0 i = 1)
        rw [sd_ux hi]
      · exact decide_eq_false (by rw [sd_us]; decide)
      · exact decide_eq_true hc
    omega
theorem sd_Del_join {b c d key : Nat} (h : sd_Del th us dp en ld key) (hb : us b = 1) (ek : key % 2 ^ (d + 1) = en b) (h4 : ld b + ld c ≤ 4) : sd_Del th (sd_un us c 0) (sd_un dp b d) (sd_un en b (en b % 2 ^ d)) (sd_un ld b (ld b + ld c)) key := by
  refine ⟨?_, ?_⟩
  · intro x hx
    have xc : x ≠ c := fun z => by rw [sd_ue z] at hx; omega
    rw [sd_ux xc] at hx
    by_cases z : x = b
    · rw [sd_ue z]; exact h4
    · rw [sd_ux z]; exact h.1 x hx
  · intro x hx
    have xc : x ≠ c := fun z => by rw [sd_ue z] at hx; omega
    rw [sd_ux xc] at hx
    by_cases z : x = b
    · rw [sd_ue z, sd_ue z]
      refine Or.inr (Or.inr ?_)
      rw [← ek, sd_mm (Nat.le_succ d), sd_mm (Nat.sub_le d 1)]
    · rw [sd_ux z, sd_ux z]; exact h.2 x hx
theorem sd_dp_join {b c d key : Nat} (eb : dir (key % 2 ^ D) = b) (nbc : b ≠ c) : sd_un dp b d (sd_rdj dir (2 ^ D) b c (key % 2 ^ D)) = d := by
  unfold sd_rdj
  rw [if_neg (fun z => nbc (by rw [← eb, z.2])), eb, sd_us]
/-! the bucket beside a key's -/
theorem sd_xor : ∀ k, k < 256 → ∀ d, d < 6 → (k ^^^ 2 ^ d) < 256 ∧ (k ^^^ 2 ^ d) % 2 ^ d = k % 2 ^ d ∧ ((k ^^^ 2 ^ d) / 2 ^ d % 2 = 1 ↔ ¬ k / 2 ^ d % 2 = 1) := by decide +kernel
theorem sd_beside {k d : Nat} (hk : k < 256) (hd : d < 6) : (k ^^^ 2 ^ d) % 2 ^ (d + 1) = (k + 2 ^ d) % 2 ^ (d + 1) := by
  have a := sd_xor k hk d hd
  have f := sd_flip k d
  rw [sd_up, a.2.1, a.2.2, f.1, f.2]
  exact ⟨rfl, Iff.rfl⟩
/-- joinAt does nothing: all is as it should be -/
theorem sd_Can_j {key d : Nat} (S : sd_St th yv en D bc kc dir us dp ld ks vs) (h : sd_Del th us dp en ld key) (hk : key < 256) (h0 : dp (dir (key % 2 ^ D)) = d + 1) (hx : dp (dir ((key ^^^ 2 ^ d) % 2 ^ D)) = d + 1 → 4 < ld (dir (key % 2 ^ D)) + ld (dir ((key ^^^ 2 ^ d) % 2 ^ D))) : sd_Can th us dp en ld := by
  refine sd_Can_b S h h0 ?_
  have o := sd_Dir_of S.2.1 key
  have p := sd_Dir_of S.2.1 (key ^^^ 2 ^ d)
  have D6 := S.2.1.1
  have d6 : d < 6 := by omega
  have x := sd_xor key hk d d6
  have lb := sd_ld S o.1
  have lc := sd_ld S p.1
  have two := sd_ct_2 th key d
  by_cases c : dp (dir ((key ^^^ 2 ^ d) % 2 ^ D)) = d + 1
  · have h4 := hx c
    rw [lb, lc, h0, c] at h4
    have e1 : sd_ct th (en (dir (key % 2 ^ D))) (d + 1) = sd_ct th key (d + 1) := by
      rw [← o.2.2.2, h0]
      exact sd_ct_e (Nat.mod_mod _ _)
    have e2 : sd_ct th (en (dir ((key ^^^ 2 ^ d) % 2 ^ D))) (d + 1) = sd_ct th (key + 2 ^ d) (d + 1) := by
      rw [← p.2.2.2, c, sd_beside hk d6]
      exact sd_ct_e (Nat.mod_mod _ _)
    omega
  · have nbc : dir (key % 2 ^ D) ≠ dir ((key ^^^ 2 ^ d) % 2 ^ D) := fun z => by rw [z] at h0; exact c h0
    have big : d + 2 ≤ dp (dir ((key ^^^ 2 ^ d) % 2 ^ D)) := by
      rcases Nat.lt_or_ge d (dp (dir ((key ^^^ 2 ^ d) % 2 ^ D))) with a | a
      · omega
      · exfalso
        refine nbc (sd_Dir_inj S.2.1 (k := key) o.1 p.1 o.2.2.2 ?_)
        rw [← sd_down a x.2.1]
        exact p.2.2.2
    rcases h.2 _ p.1 with a | a | a
    · omega
    · refine Nat.lt_of_lt_of_le a ?_
      refine Nat.le_trans (sd_ct_mn th _ (show d ≤ _ by omega)) (Nat.le_of_eq ?_)
      rw [← p.2.2.2]
      refine sd_ct_e ?_
      rw [sd_mm (by omega), x.2.1]
    · exfalso
      have a' := sd_down (show d + 1 ≤ dp (dir ((key ^^^ 2 ^ d) % 2 ^ D)) - 1 by omega) a
      rw [← p.2.2.2, sd_mm (by omega), sd_up, x.2.2] at a'
      have w := a'.2
      generalize key / 2 ^ d % 2 = A at *
      omega
end
end
section
/-! numbers of the print -/
theorem xw_p2 : ∀ D, D < 9 → (1 : Int32) <<< (nI D &&& 31) = nI (2 ^ D) := by decide +kernel
theorem xw_p2m : ∀ D, D < 9 → (((1 : Int32) <<< (nI D &&& 31)) - 1).toBitVec.toNat = 2 ^ D - 1 := by decide +kernel
theorem xw_mask {k D : Nat} (hk : k < 256) (hD : D < 9) : nI k &&& (((1 : Int32) <<< (nI D &&& 31)) - 1) = nI (k % 2 ^ D) := pk_andN (by omega) D (xw_p2m D hD)
theorem xw_bit {k d : Nat} (hk : k < 256) (hd : d < 9) : (nI k >>> (nI d &&& 31)) &&& 1 = nI (k / 2 ^ d % 2) := by
  have h : k / 2 ^ d ≤ k := Nat.div_le_self _ _
  rw [pk_shrN (by omega) _ d (s_l d (by omega)), pk_andN (m := 1) (by omega) 1 (by decide)]
theorem xw_cell (b j : Nat) : nI b * 5 + nI j = nI (b * 5 + j) := by
  rw [show (5 : Int32) = nI 5 from rfl, pk_mul, nI_add]
theorem xw_i8 : ∀ x, x < 128 → (nI x).toInt8.toInt32 = nI x := by decide +kernel
theorem xw_i16 : ∀ x, x < 256 → (nI x).toInt16.toInt32 = nI x := by decide +kernel
theorem xw_nb {x : Nat} (h : x < 128) : vp_nar .byte (nI x) = nI x := by rw [vp_nar_byte, xw_i8 x h]
theorem xw_ns {x : Nat} (h : x < 256) : vp_nar .short (nI x) = nI x := by rw [vp_nar_short, xw_i16 x h]
theorem xw_t1 : vp_nar .boolean 1 = nI 1 := rfl
theorem xw_t0 : vp_nar .boolean 0 = nI 0 := rfl
theorem xw_b0 : vp_nar .byte 0 = nI 0 := xw_nb (x := 0) (by decide)
theorem xw_64 {D : Nat} (h : D ≤ 6) : 2 ^ D ≤ 64 := sd_ple h
theorem xw_in {n N : Nat} (h : n < N) (hN : N < 1000) : vp_in (nI n) N := vp_in_nI h (by omega)
def xw_S (D bc kc : Nat) (dir us dp ld ks : Nat → Nat) (vs : Nat → Int32) : SX := (nI D, nI bc, nI kc, sd_nF dir, sd_nF us, sd_nF dp, sd_nF ld, sd_nF ks, vs)
theorem xw_isKey_t {post : Int32 → Prop} {k : Nat} (hk : k < 256) (h : post 1) : wpX_isKey post (nI k) := by
  unfold wpX_isKey
  exact br_f (nI_pos (by omega)) (br_f (nI_ge (b := 256) hk (by decide)) h)
theorem xw_isKey_f {post : Int32 → Prop} {x : Int32} (hx : x < 0 ∨ nI 256 ≤ x) (h : post 0) : wpX_isKey post x := by
  unfold wpX_isKey
  by_cases z : x < 0
  · exact br_t z h
  · exact br_f z (br_t (hx.resolve_left z) h)
section
variable {D bc kc : Nat} {dir us dp ld ks : Nat → Nat} {vs : Nat → Int32}
theorem xw_bucketOf {post : Int32 → Prop} {k : Nat} (hk : k < 256) (hD : D ≤ 6) (h : post (nI (dir (k % 2 ^ D)))) : wpX_bucketOf post (xw_S D bc kc dir us dp ld ks vs) (nI k) := by
  have e := xw_mask hk (show D < 9 by omega)
  have l : k % 2 ^ D < 64 := Nat.lt_of_lt_of_le (sd_lt k D) (xw_64 hD)
  have e2 : (nI (k % 2 ^ D)).toNatClampNeg = k % 2 ^ D := nI_clamp (by omega)
  unfold wpX_bucketOf xw_S
  simp only [e, e2, sd_nFa]
  exact ⟨xw_in l (by decide), h⟩
theorem xw_append {post : SX → Prop} {b k : Nat} {v : Int32} (hb : b < 64) (hl : ld b ≤ 4) (hk : k < 256) (h : post (xw_S D bc kc dir us dp (sd_un ld b (ld b + 1)) (sd_un ks (b * 5 + ld b) k) (upd vs (b * 5 + ld b) v))) : wpX_append post (xw_S D bc kc dir us dp ld ks vs) (nI b) (nI k) v := by
  have e1 : (nI b).toNatClampNeg = b := nI_clamp (by omega)
  have e2 : (nI (b * 5 + ld b)).toNatClampNeg = b * 5 + ld b := nI_clamp (by omega)
  have i1 : vp_in (nI b) 65 := xw_in (by omega) (by decide)
  have i2 : vp_in (nI (b * 5 + ld b)) 325 := xw_in (by omega) (by decide)
  have n1 : vp_nar .byte ((nI (ld b) + 1).toInt8.toInt32) = nI (ld b + 1) := by rw [nI_1, xw_i8 _ (by omega), xw_nb (by omega)]
  have n2 : vp_nar .short (nI k).toInt16.toInt32 = nI k := by rw [xw_i16 k hk, xw_ns hk]
  unfold wpX_append xw_S
  simp only [e1, sd_nFa, xw_cell, e2, n1, n2, forall_eq, sd_nFu]
  exact ⟨i1, i2, i1, i2, i1, i1, h⟩
theorem xw_find_2 {post : Int32 → Prop} {fd fb fk : Int32} {ad au ap : Nat → Int32} {b k : Nat} (hb : b < 64) (hl : ld b ≤ 5) (hk : k < 256) (hs : ∀ j, j < ld b → ks (b * 5 + j) < 256) (hit : ∀ j, j < ld b → ks (b * 5 + j) = k → post (nI j)) (mis : (∀ j, j < ld b → ks (b * 5 + j) ≠ k) → post (-1)) (n : Nat) : ∀ i, i ≤ ld b → ld b < n + i → (∀ j, j < i → ks (b * 5 + j) ≠ k) → wX_find_2 post (nI b) (nI k) fd fb fk ad au ap (sd_nF ld) (sd_nF ks) vs n (nI i) := by
  induction n with
  | zero => intro i h1 h2; omega
  | succ n ih =>
    intro i h1 h2 h3
    have e1 : (nI b).toNatClampNeg = b := nI_clamp (by omega)
    have e2 : (nI (b * 5 + i)).toNatClampNeg = b * 5 + i := nI_clamp (by omega)
    simp only [wX_find_2, e1, sd_nFa, xw_cell, e2, forall_eq, nI_1]
    refine ⟨xw_in (by omega) (by decide), pk_le (ld b) i (fun z => mis (fun j hj => h3 j (by omega))) (fun z => ⟨xw_in (by omega) (by decide), ?_⟩)⟩
    have s := hs i z
    refine pk_eq (ks (b * 5 + i)) k (fun w => hit i z w) (fun w => ih (i + 1) (by omega) (by omega) (fun j hj => ?_))
    by_cases y : j = i
    · rw [y]; exact w
    · exact h3 j (by omega)
theorem xw_find {th : Nat → Nat} {yv : Nat → Int32} {en : Nat → Nat} (S : sd_St th yv en D bc kc dir us dp ld ks vs) {post : Int32 → Prop} {b k : Nat} (hb : us b = 1) (hk : k < 256) (hit : ∀ j, j < ld b → ks (b * 5 + j) = k → post (nI j)) (mis : (∀ j, j < ld b → ks (b * 5 + j) ≠ k) → post (-1)) : wpX_find post (xw_S D bc kc dir us dp ld ks vs) (nI b) (nI k) := by
  unfold wpX_find xw_S
  exact ⟨6, xw_find_2 (S.2.1.2.2.1 b hb) (S.2.2.1 b hb).1 hk (fun j hj => sd_ks S hb hj) hit mis 6 0 (by omega) (by have := (S.2.2.1 b hb).1; omega) (fun j hj => by omega)⟩
theorem xw_newBucket_2 {post : Int32 → SX → Prop} {c : Nat} (hc : c < 64) (h0 : us c = 0) (h1 : ∀ j, j < c → us j ≠ 0) (u1 : ∀ j, us j ≤ 1) (h : post (nI c) (xw_S D (bc + 1) kc dir (sd_un us c 1) dp (sd_un ld c 0) ks vs)) (n : Nat) : ∀ i, i ≤ c → c < n + i → wX_newBucket_2 post (nI D) (nI bc) (nI kc) (sd_nF dir) (sd_nF us) (sd_nF dp) (sd_nF ld) (sd_nF ks) vs n (nI i) := by
  induction n with
  | zero => intro i h1 h2; omega
  | succ n ih =>
    intro i h2 h3
    have e1 : (nI i).toNatClampNeg = i := nI_clamp (by omega)
    have i1 : vp_in (nI i) 65 := xw_in (by omega) (by decide)
    have u := u1 i
    simp only [wX_newBucket_2, e1, sd_nFa, forall_eq, nI_1, xw_t1, xw_b0, sd_nFu]
    refine ⟨i1, pk_eq (us i) 0 (fun z => ⟨i1, i1, ?_⟩) (fun z => ?_)⟩
    · have e : i = c := by
        rcases Nat.lt_or_ge i c with a | a
        · exact absurd z (h1 i a)
        · omega
      rw [e]
      exact h
    · exact ih (i + 1) (by
        rcases Nat.lt_or_ge i c with a | a
        · omega
        · exact absurd (by rw [show i = c by omega]; exact h0) z) (by omega)
theorem xw_newBucket {post : Int32 → SX → Prop} (u1 : ∀ j, us j ≤ 1) (ex : ∃ c, c < 64 ∧ us c = 0) (h : ∀ c, c < 64 → us c = 0 → post (nI c) (xw_S D (bc + 1) kc dir (sd_un us c 1) dp (sd_un ld c 0) ks vs)) : wpX_newBucket post (xw_S D bc kc dir us dp ld ks vs) := by
  obtain ⟨c, hc, hl⟩ := pk_least _ ex
  unfold wpX_newBucket xw_S
  refine ⟨c + 1, xw_newBucket_2 hc.1 hc.2 (fun j hj z => hl j hj ⟨by omega, z⟩) u1 (h c hc.1 hc.2) (c + 1) 0 (by omega) (by omega)⟩
theorem xw_deepest_4 {post : Int32 → Prop} {fd fb fk : Int32} {ad al ak av : Nat → Int32} (u1 : ∀ b, us b ≤ 1) (hd : ∀ b, us b = 1 → dp b ≤ 6) (h : ∀ m, m ≤ 6 → (∀ b, b < 64 → us b = 1 → dp b ≤ m) → (m = 0 ∨ ∃ b, b < 64 ∧ us b = 1 ∧ dp b = m) → post (nI m)) (n : Nat) : ∀ i m, i ≤ 64 → 64 < n + i → m ≤ 6 → (∀ b, b < i → us b = 1 → dp b ≤ m) → (m = 0 ∨ ∃ b, b < 64 ∧ us b = 1 ∧ dp b = m) → wX_deepest_4 post fd fb fk ad (sd_nF us) (sd_nF dp) al ak av n (nI m) (nI i) := by
  induction n with
  | zero => intro i m h1 h2; omega
  | succ n ih =>
    intro i m h1 h2 h3 h4 h5
    have u := u1 i
    simp only [wX_deepest_4, forall_eq, nI_1]
    refine pk_le 64 i (fun z => h m h3 (fun b hb => h4 b (by omega)) h5) (fun z => ?_)
    have e1 : (nI i).toNatClampNeg = i := nI_clamp (by omega)
    have i1 : vp_in (nI i) 65 := xw_in (by omega) (by decide)
    simp only [e1, sd_nFa]
    refine ⟨i1, pk_eq (us i) 0 (fun y => ?_) (fun y => ⟨i1, ?_⟩)⟩
    · refine ih (i + 1) m (by omega) (by omega) h3 (fun b hb ub => ?_) h5
      by_cases w : b = i
      · rw [w] at ub; omega
      · exact h4 b (by omega) ub
    · have u1 : us i = 1 := by omega
      have d6 := hd i u1
      refine pk_le (dp i) m (fun w => ?_) (fun w => ⟨i1, ?_⟩)
      · refine ih (i + 1) m (by omega) (by omega) h3 (fun b hb ub => ?_) h5
        by_cases v : b = i
        · rw [v]; exact w
        · exact h4 b (by omega) ub
      · refine ih (i + 1) (dp i) (by omega) (by omega) d6 (fun b hb ub => ?_) (Or.inr ⟨i, by omega, u1, rfl⟩)
        by_cases v : b = i
        · rw [v]; exact Nat.le_refl _
        · have := h4 b (by omega) ub
          omega
theorem xw_deepest {post : Int32 → Prop} (u1 : ∀ b, us b ≤ 1) (hd : ∀ b, us b = 1 → dp b ≤ 6) (h : ∀ m, m ≤ 6 → (∀ b, b < 64 → us b = 1 → dp b ≤ m) → (m = 0 ∨ ∃ b, b < 64 ∧ us b = 1 ∧ dp b = m) → post (nI m)) : wpX_deepest post (xw_S D bc kc dir us dp ld ks vs) := by
  unfold wpX_deepest xw_S
  exact ⟨65, xw_deepest_4 u1 hd h 65 0 0 (by omega) (by omega) (by omega) (fun b hb => by omega) (Or.inl rfl)⟩
theorem xw_ofDepth_4 {post : Int32 → Prop} {fd fb fk : Int32} {ad al ak av : Nat → Int32} {q : Int32} (u1 : ∀ b, us b ≤ 1) (h : post (nI (sd_cn (fun b => decide (us b = 1 ∧ nI (dp b) = q)) 64))) (n : Nat) : ∀ i, i ≤ 64 → 64 < n + i → wX_ofDepth_4 post q fd fb fk ad (sd_nF us) (sd_nF dp) al ak av n (nI (sd_cn (fun b => decide (us b = 1 ∧ nI (dp b) = q)) i)) (nI i) := by
  induction n with
  | zero => intro i h1 h2; omega
  | succ n ih =>
    intro i h1 h2
    have u := u1 i
    have hi := ih (i + 1)
    have e0 : ∀ x : Int32, x + 0 = x := Int32.add_zero
    simp only [wX_ofDepth_4, forall_eq, nI_1, e0]
    refine pk_le 64 i (fun z => ?_) (fun z => ?_)
    · rw [show i = 64 by omega]
      exact h
    have e1 : (nI i).toNatClampNeg = i := nI_clamp (by omega)
    have i1 : vp_in (nI i) 65 := xw_in (by omega) (by decide)
    simp only [e1, sd_nFa]
    refine ⟨i1, pk_eq (us i) 0 (fun y => ?_) (fun y => ⟨i1, br_c (fun w => ?_) (fun w => ?_)⟩)⟩
    · rw [sd_cn_f (decide_eq_false (by omega))] at hi
      exact hi (by omega) (by omega)
    · rw [sd_cn_t (decide_eq_true ⟨by omega, w⟩)] at hi
      exact hi (by omega) (by omega)
    · rw [sd_cn_f (decide_eq_false (fun v => w v.2))] at hi
      exact hi (by omega) (by omega)
theorem xw_ofDepth {post : Int32 → Prop} {q : Int32} (u1 : ∀ b, us b ≤ 1) (h : post (nI (sd_cn (fun b => decide (us b = 1 ∧ nI (dp b) = q)) 64))) : wpX_ofDepth post (xw_S D bc kc dir us dp ld ks vs) q := by
  unfold wpX_ofDepth xw_S
  exact ⟨65, xw_ofDepth_4 u1 h 65 0 (by omega) (by omega)⟩
end
end
section
theorem sd_un_cm {f : Nat → Nat} {a b x y : Nat} (h : a ≠ b) : sd_un (sd_un f a x) b y = sd_un (sd_un f b y) a x := by
  funext j
  by_cases z : j = a
  · rw [sd_ue z, sd_ux (by omega), sd_ue z]
  · rw [sd_ux (k := a) z]
    by_cases w : j = b
    · rw [sd_ue w, sd_ue w]
    · rw [sd_ux w, sd_ux w, sd_ux z]
theorem sd_un_un {f : Nat → Nat} {a x y : Nat} : sd_un (sd_un f a x) a y = sd_un f a y := by
  funext j
  by_cases z : j = a
  · rw [sd_ue z, sd_ue z]
  · rw [sd_ux z, sd_ux z, sd_ux z]
theorem sd_un_id {f : Nat → Nat} {a : Nat} : sd_un f a (f a) = f := by
  funext j
  by_cases z : j = a
  · rw [sd_ue z, z]
  · rw [sd_ux z]
theorem sd_un_eq {f : Nat → Nat} {a x : Nat} (h : f a = x) : sd_un f a x = f := by
  rw [← h]
  exact sd_un_id
section
variable {D bc kc : Nat} {dir us dp ld ks : Nat → Nat} {vs : Nat → Int32}
theorem sd_rdr_1 {i d e c : Nat} (h : i % 2 ^ d = e) (h2 : i / 2 ^ d % 2 = 1) : sd_un (sd_rdr dir i d e c) i c = sd_rdr dir (i + 1) d e c := by
  funext j
  unfold sd_rdr
  by_cases z : j = i
  · rw [sd_ue z, z, if_pos ⟨by omega, h, h2⟩]
  · rw [sd_ux z]
    by_cases w : j < i ∧ j % 2 ^ d = e ∧ j / 2 ^ d % 2 = 1
    · rw [if_pos w, if_pos ⟨by omega, w.2⟩]
    · rw [if_neg w, if_neg (fun y => w ⟨by omega, y.2⟩)]
theorem sd_rdr_n {i d e c : Nat} (h : ¬ (i % 2 ^ d = e ∧ i / 2 ^ d % 2 = 1)) : sd_rdr dir i d e c = sd_rdr dir (i + 1) d e c := by
  funext j
  unfold sd_rdr
  by_cases w : j < i ∧ j % 2 ^ d = e ∧ j / 2 ^ d % 2 = 1
  · rw [if_pos w, if_pos ⟨by omega, w.2⟩]
  · rw [if_neg w, if_neg (fun y => ?_)]
    by_cases z : j = i
    · rw [z] at y; exact h y.2
    · exact w ⟨by omega, y.2⟩
theorem sd_rdr_0 {d e c : Nat} : sd_rdr dir 0 d e c = dir := by
  funext j
  unfold sd_rdr
  rw [if_neg (fun y => absurd y.1 (Nat.not_lt_zero j))]
theorem xw_split_183 {post : SX → Prop} {key d c : Nat} (hD : D ≤ 6) (hd : d ≤ 6) (hk : key < 256) (hc : c < 64) (h : post (xw_S D bc kc (sd_rdr dir (2 ^ D) d (key % 2 ^ d) c) us dp ld ks vs)) (n : Nat) : ∀ i, i ≤ 2 ^ D → 2 ^ D < n + i → wX_split_183 post (nI key) (nI d) (nI c) (((1 : Int32) <<< (nI d &&& 31)) - 1) (nI D) (nI bc) (nI kc) n (nI i) (sd_nF (sd_rdr dir i d (key % 2 ^ d) c)) (sd_nF us) (sd_nF dp) (sd_nF ld) (sd_nF ks) vs := by
  induction n with
  | zero => intro i h1 h2; omega
  | succ n ih =>
    intro i h1 h2
    have p := xw_64 hD
    have i256 : i < 256 := by omega
    have l1 := sd_lt i d
    have l2 := sd_lt key d
    have l3 := xw_64 hd
    have m2 : i / 2 ^ d % 2 < 2 := Nat.mod_lt _ (by decide)
    simp only [wX_split_183, forall_eq, nI_1, xw_p2 D (by omega), xw_mask i256 (show d < 9 by omega), xw_mask hk (show d < 9 by omega), xw_bit i256 (show d < 9 by omega)]
    refine pk_le (2 ^ D) i (fun z => ?_) (fun z => ?_)
    · rw [show i = 2 ^ D by omega]
      exact h
    have e1 : (nI i).toNatClampNeg = i := nI_clamp (by omega)
    have n1 : vp_nar .byte (nI c).toInt8.toInt32 = nI c := by rw [xw_i8 _ (by omega), xw_nb (by omega)]
    simp only [e1, n1, sd_nFu]
    refine pk_eq (i % 2 ^ d) (key % 2 ^ d) (fun y => pk_eq (i / 2 ^ d % 2) 1 (fun w => ⟨xw_in (by omega) (by decide), ?_⟩) (fun w => ?_)) (fun y => ?_)
    · rw [sd_rdr_1 y w]
      exact ih (i + 1) (by omega) (by omega)
    · rw [sd_rdr_n (fun v => w v.2)]
      exact ih (i + 1) (by omega) (by omega)
    · rw [sd_rdr_n (fun v => y v.1)]
      exact ih (i + 1) (by omega) (by omega)
theorem xw_split_111 {post : SX → Prop} {yv : Nat → Int32} {ks0 : Nat → Nat} {vs0 : Nat → Int32} {key d b c m : Nat} {P : Nat → Prop} (hD : D ≤ 6) (hd : d ≤ 6) (hk : key < 256) (hb : b < 64) (hc : c < 64) (nbc : b ≠ c) (hm : m ≤ 5) (B : sd_BK ks0 vs0 yv b m P) (B6 : ∀ j, j < m → ks0 (b * 5 + j) < 256)
    (h : ∀ nb nc ks vs, sd_LI ks0 vs0 yv b c m d m nb nc ks vs → post (xw_S D bc kc (sd_rdr dir (2 ^ D) d (key % 2 ^ d) c) us dp (sd_un (sd_un ld b nb) c nc) ks vs)) (n : Nat) : ∀ i nb nc ks vs, i ≤ m → m < n + i → sd_LI ks0 vs0 yv b c m d i nb nc ks vs → wX_split_111 post (nI b) (nI key) (nI d) (nI c) (nI m) n (nI i) (nI D) (nI bc) (nI kc) (sd_nF dir) (sd_nF us) (sd_nF dp) (sd_nF (sd_un (sd_un ld b nb) c nc)) (sd_nF ks) vs := by
  induction n with
  | zero => intro i nb nc ks vs h1 h2; omega
  | succ n ih =>
    intro i nb nc ks vs h1 h2 L
    rw [wX_split_111]
    refine pk_le m i (fun z => ?_) (fun z => ?_)
    · rw [show i = m by omega] at L
      have w := xw_split_183 (n := 2 ^ D + 1) (us := us) (dp := dp) (bc := bc) (kc := kc) hD hd hk hc (h nb nc ks vs L) 0 (Nat.zero_le _) (by omega)
      rw [sd_rdr_0] at w
      exact nm_e ⟨_, w⟩
    · have e2 : (nI (b * 5 + i)).toNatClampNeg = b * 5 + i := nI_clamp (by omega)
      have E := L.2.2.1 i (Nat.le_refl i) z
      have k6 : ks (b * 5 + i) < 256 := by rw [E.1]; exact B6 i z
      have lb := L.1
      have lc := L.2.1
      have m2 : ks (b * 5 + i) / 2 ^ d % 2 < 2 := Nat.mod_lt _ (by decide)
      simp only [xw_cell, e2, sd_nFa]
      refine ⟨xw_in (by omega) (by decide), nm_e ?_⟩
      simp only [xw_bit k6 (show d < 9 by omega)]
      have f1 : sd_un (sd_un ld b nb) c nc b = nb := by rw [sd_ux nbc, sd_us]
      have f2 : sd_un (sd_un ld b nb) c nc c = nc := sd_us
      refine pk_eq (ks (b * 5 + i) / 2 ^ d % 2) 0 (fun y => ?_) (fun y => ?_)
      · unfold wX_split_146
        simp only [xw_cell, e2]
        refine ⟨xw_in (by omega) (by decide), ?_⟩
        refine xw_append (k := ks (b * 5 + i)) hb (by rw [f1]; omega) k6 ?_
        simp only [xw_S, forall_eq, nI_1, f1]
        rw [sd_un_cm (Ne.symm nbc), sd_un_un]
        exact ih (i + 1) (nb + 1) nc _ _ (by omega) (by omega) (sd_LI_b B hm nbc L z (by omega))
      · unfold wX_split_146
        simp only [xw_cell, e2]
        refine ⟨xw_in (by omega) (by decide), ?_⟩
        refine xw_append (k := ks (b * 5 + i)) hc (by rw [f2]; omega) k6 ?_
        simp only [xw_S, forall_eq, nI_1, f2]
        rw [sd_un_un]
        exact ih (i + 1) nb (nc + 1) _ _ (by omega) (by omega) (sd_LI_c B hm nbc L z (by omega))
theorem xw_split_66 {th : Nat → Nat} {yv : Nat → Int32} {en : Nat → Nat} (S : sd_St th yv en D bc kc dir us dp ld ks vs) {post : SX → Prop} {key d b : Nat} (hk : key < 256) (hb : us b = 1) (e : dp b = d) (hd : d < D) (ek : key % 2 ^ d = en b)
    (h : ∀ c nb nc ks' vs', c < 64 → us c = 0 → sd_LI ks vs yv b c (ld b) d (ld b) nb nc ks' vs' → post (xw_S D (bc + 1) kc (sd_rdr dir (2 ^ D) d (en b) c) (sd_un us c 1) (sd_un (sd_un dp b (d + 1)) c (d + 1)) (sd_un (sd_un ld b nb) c nc) ks' vs')) : wX_split_66 post (nI b) (nI key) (nI d) (nI D) (nI bc) (nI kc) (sd_nF dir) (sd_nF us) (sd_nF dp) (sd_nF ld) (sd_nF ks) vs := by
  have D6 := S.2.1.1
  have b64 := S.2.1.2.2.1 b hb
  have C := S.2.2.1 b hb
  unfold wX_split_66
  refine xw_newBucket S.2.1.2.1 (sd_Dir_room S.2.1 hb (by omega)) (fun c c64 uc => ?_)
  have nbc : b ≠ c := fun z => by rw [z] at hb; omega
  have e1 : (nI b).toNatClampNeg = b := nI_clamp (by omega)
  have e2 : (nI c).toNatClampNeg = c := nI_clamp (by omega)
  have i1 : vp_in (nI b) 65 := xw_in (by omega) (by decide)
  have i2 : vp_in (nI c) 65 := xw_in (by omega) (by decide)
  have n1 : vp_nar .byte ((nI d + 1).toInt8.toInt32) = nI (d + 1) := by rw [nI_1, xw_i8 _ (by omega), xw_nb (by omega)]
  have f1 : sd_un ld c 0 b = ld b := sd_ux nbc
  simp only [xw_S, forall_eq, e1, e2, n1, xw_b0, sd_nFu, sd_nFa, f1]
  refine ⟨i1, i2, i1, i1, ld b + 1, ?_⟩
  rw [sd_un_cm (Ne.symm nbc)]
  refine xw_split_111 D6 (by omega) hk b64 c64 nbc C.1 C.2 (fun j hj => sd_ks S hb hj) ?_ (ld b + 1) 0 0 0 ks vs (by omega) (by omega) (sd_LI_0 _ _ _ _ _ _ _)
  intro nb nc ks' vs' L
  rw [ek]
  exact h c nb nc ks' vs' c64 uc L
theorem sd_dbl_s {i : Nat} (h : i < 2 ^ D) : sd_un (sd_dbl dir D i) (i + 2 ^ D) (dir i) = sd_dbl dir D (i + 1) := by
  funext j
  unfold sd_dbl
  by_cases z : j = i + 2 ^ D
  · rw [sd_ue z, z, if_pos ⟨by omega, by omega⟩, Nat.add_sub_cancel]
  · rw [sd_ux z]
    by_cases w : 2 ^ D ≤ j ∧ j < 2 ^ D + i
    · rw [if_pos w, if_pos ⟨w.1, by omega⟩]
    · rw [if_neg w, if_neg (fun y => w ⟨y.1, by omega⟩)]
theorem sd_dbl_l {i : Nat} (h : i < 2 ^ D) : sd_dbl dir D i i = dir i := by
  unfold sd_dbl
  rw [if_neg (fun y => by omega)]
theorem sd_dbl_0 : sd_dbl dir D 0 = dir := by
  funext j
  unfold sd_dbl
  rw [if_neg (fun y => by omega)]
theorem xw_split_18 {post : SX → Prop} {x1 x2 x3 : Int32} (hD : D ≤ 5) (hu : ∀ i, i < 2 ^ D → dir i < 64) (h : wX_split_66 post x1 x2 x3 (nI (D + 1)) (nI bc) (nI kc) (sd_nF (sd_dbl dir D (2 ^ D))) (sd_nF us) (sd_nF dp) (sd_nF ld) (sd_nF ks) vs) (n : Nat) : ∀ i, i ≤ 2 ^ D → 2 ^ D < n + i → wX_split_18 post x1 x2 x3 (nI D) (nI bc) (nI kc) n (nI i) (sd_nF (sd_dbl dir D i)) (sd_nF us) (sd_nF dp) (sd_nF ld) (sd_nF ks) vs := by
  induction n with
  | zero => intro i h1 h2; omega
  | succ n ih =>
    intro i h1 h2
    have p : 2 ^ D ≤ 32 := sd_ple hD
    simp only [wX_split_18, forall_eq, nI_1, nI_add, xw_p2 D (by omega)]
    refine pk_le (2 ^ D) i (fun z => ?_) (fun z => ?_)
    · rw [show i = 2 ^ D by omega]
      exact h
    have e1 : (nI i).toNatClampNeg = i := nI_clamp (by omega)
    have e2 : (nI (i + 2 ^ D)).toNatClampNeg = i + 2 ^ D := nI_clamp (by omega)
    have u := hu i z
    simp only [e1, e2, sd_nFa, sd_dbl_l z, xw_nb (show dir i < 128 by omega), sd_nFu, sd_dbl_s z]
    exact ⟨xw_in (by omega) (by decide), xw_in (by omega) (by decide), ih (i + 1) (by omega) (by omega)⟩
theorem xw_split {th : Nat → Nat} {yv : Nat → Int32} {en : Nat → Nat} (S : sd_St th yv en D bc kc dir us dp ld ks vs) {post : SX → Prop} {key b : Nat} (hk : key < 256) (t1 : th key = 1) (eb : dir (key % 2 ^ D) = b) (h4 : 4 < ld b) (U : sd_Up th us dp en) (O : sd_Lo us dp en ld key)
    (h : ∀ en' D' dir' us' dp' ld' ks' vs', sd_St th yv en' D' (bc + 1) kc dir' us' dp' ld' ks' vs' → sd_Up th us' dp' en' → sd_Lo us' dp' en' ld' key → dp' (dir' (key % 2 ^ D')) = dp b + 1 → post (xw_S D' (bc + 1) kc dir' us' dp' ld' ks' vs')) : wpX_split post (xw_S D bc kc dir us dp ld ks vs) (nI b) (nI key) := by
  have o := sd_Dir_of S.2.1 key
  rw [eb] at o
  have d5 := sd_ld6 S o.1 h4
  have D6 := S.2.1.1
  have C := S.2.2.1 b o.1
  have e1 : (nI b).toNatClampNeg = b := nI_clamp (by omega)
  unfold wpX_split xw_S
  simp only [e1, sd_nFa, forall_eq]
  refine ⟨xw_in (by omega) (by decide), pk_eq (dp b) D (fun z => ?_) (fun z => ?_)⟩
  · have S' : sd_St th yv en (D + 1) bc kc (sd_dbl dir D (2 ^ D)) us dp ld ks vs := ⟨S.1, sd_Dir_dbl S.2.1 (by omega), S.2.2.1, S.2.2.2⟩
    have eb' : sd_dbl dir D (2 ^ D) (key % 2 ^ (D + 1)) = b := by rw [sd_dbl_at (sd_lt _ _), sd_mm (Nat.le_succ D), eb]
    refine ⟨2 ^ D + 1, ?_⟩
    have w := xw_split_18 (D := D) (dir := dir) (post := post) (bc := bc) (kc := kc) (us := us) (dp := dp) (ld := ld) (ks := ks) (vs := vs) (x1 := nI b) (x2 := nI key) (x3 := nI (dp b)) (by omega) (fun i hi => S.2.1.2.2.1 _ (S.2.1.2.2.2.1 i hi)) ?_ (2 ^ D + 1) 0 (Nat.zero_le _) (by omega)
    · rw [sd_dbl_0] at w
      exact w
    · refine xw_split_66 S' hk o.1 rfl (by omega) o.2.2.2 ?_
      intro c nb nc ks' vs' c64 uc L
      have S2 := sd_St_split S' o.1 rfl (by omega) uc c64 L
      exact h _ _ _ _ _ _ _ _ S2 (sd_Up_split S' U o.1 rfl uc h4) (sd_Lo_split S' O o.1 rfl uc C.1 t1 o.2.2.2 S2) (sd_dp_split S' o.1 rfl uc eb')
  · refine xw_split_66 S hk o.1 rfl (by omega) o.2.2.2 ?_
    intro c nb nc ks' vs' c64 uc L
    have S2 := sd_St_split S o.1 rfl (by omega) uc c64 L
    exact h _ _ _ _ _ _ _ _ S2 (sd_Up_split S U o.1 rfl uc h4) (sd_Lo_split S O o.1 rfl uc C.1 t1 o.2.2.2 S2) (sd_dp_split S o.1 rfl uc eb)
end
end
section
theorem xw_insert_26 {th : Nat → Nat} {yv : Nat → Int32} {kc : Nat} {post : SX → Prop} {key : Nat} (hk : key < 256) (t1 : th key = 1) (h : ∀ en D bc dir us dp ld ks vs, sd_St th yv en D bc kc dir us dp ld ks vs → sd_Can th us dp en ld → post (xw_S D bc kc dir us dp ld ks vs)) (n : Nat) : ∀ (r : Nat) (en : Nat → Nat) (D bc : Nat) (dir us dp ld ks : Nat → Nat) (vs : Nat → Int32), r ≤ 6 → 6 < n + r → sd_St th yv en D bc kc dir us dp ld ks vs → sd_Up th us dp en → sd_Lo us dp en ld key → r ≤ dp (dir (key % 2 ^ D)) → wX_insert_26 post (nI key) n (nI (dir (key % 2 ^ D))) (nI r) (nI D) (nI bc) (nI kc) (sd_nF dir) (sd_nF us) (sd_nF dp) (sd_nF ld) (sd_nF ks) vs := by
  induction n with
  | zero => intro r en D bc dir us dp ld ks vs h1 h2; omega
  | succ n ih =>
    intro r en D bc dir us dp ld ks vs h1 h2 S U O hr
    have o := sd_Dir_of S.2.1 key
    have D6 := S.2.1.1
    have c5 := (S.2.2.1 _ o.1).1
    have fin : ld (dir (key % 2 ^ D)) ≤ 4 → post (xw_S D bc kc dir us dp ld ks vs) := by
      intro z
      refine h _ _ _ _ _ _ _ _ _ S ⟨U, fun x hx => ?_⟩
      rcases O x hx with a | a
      · exact a
      · rw [sd_Dir_inj S.2.1 hx o.1 a o.2.2.2]
        exact z
    have e1 : (nI (dir (key % 2 ^ D))).toNatClampNeg = dir (key % 2 ^ D) := nI_clamp (by omega)
    simp only [wX_insert_26, e1, sd_nFa]
    refine pk_le 6 r (fun z => fin ?_) (fun z => ⟨xw_in (by omega) (by decide), pk_le (ld (dir (key % 2 ^ D))) 4 (fun y => fin y) (fun y => ?_)⟩)
    · rw [sd_ld S o.1]
      exact sd_ct_6 _ _ (by omega)
    · refine xw_split S hk t1 rfl y U O ?_
      intro en' D' dir' us' dp' ld' ks' vs' S' U' O' ed
      refine xw_bucketOf hk S'.2.1.1 ?_
      simp only [forall_eq, nI_1]
      exact ih (r + 1) _ _ _ _ _ _ _ _ _ (by omega) (by omega) S' U' O' (by omega)
section
variable {th : Nat → Nat} {yv : Nat → Int32} {en : Nat → Nat} {D bc kc : Nat} {dir us dp ld ks : Nat → Nat} {vs : Nat → Int32}
theorem xw_insert (S : sd_St th yv en D bc kc dir us dp ld ks vs) (C : sd_Can th us dp en ld) {post : SX → Prop} {key : Nat} (v : Int32) (hk : key < 256) (t0 : th key = 0) (h : ∀ en' D' bc' dir' us' dp' ld' ks' vs', sd_St (sd_un th key 1) (upd yv key v) en' D' bc' (kc + 1) dir' us' dp' ld' ks' vs' → sd_Can (sd_un th key 1) us' dp' en' ld' → post (xw_S D' bc' (kc + 1) dir' us' dp' ld' ks' vs')) : wpX_insert post (xw_S D bc kc dir us dp ld ks vs) (nI key) v := by
  have o := sd_Dir_of S.2.1 key
  have l4 := C.2 _ o.1
  unfold wpX_insert xw_S
  refine xw_bucketOf hk S.2.1.1 ?_
  refine xw_append o.2.1 l4 hk ?_
  simp only [xw_S, forall_eq, nI_1]
  refine ⟨7, xw_insert_26 hk sd_us h 7 0 en _ _ _ _ _ _ _ _ (by omega) (by omega) (sd_St_app S v hk t0 rfl l4) ?_ ?_ (Nat.zero_le _)⟩
  · intro x hx
    rcases C.1 x hx with a | a
    · exact Or.inl a
    · exact Or.inr (Nat.lt_of_lt_of_le a (sd_ct_on hk t0))
  · intro x hx
    by_cases z : x = dir (key % 2 ^ D)
    · rw [z]; exact Or.inr o.2.2.2
    · rw [sd_ux z]; exact Or.inl (C.2 x hx)
theorem sd_rdj_l {i b c : Nat} : sd_rdj dir i b c i = dir i := by
  unfold sd_rdj
  rw [if_neg (fun y => by omega)]
theorem sd_rdj_0 {b c : Nat} : sd_rdj dir 0 b c = dir := by
  funext j
  unfold sd_rdj
  rw [if_neg (fun y => by omega)]
theorem sd_rdj_1 {i b c : Nat} (h : dir i = c) : sd_un (sd_rdj dir i b c) i b = sd_rdj dir (i + 1) b c := by
  funext j
  unfold sd_rdj
  by_cases z : j = i
  · rw [sd_ue z, z, if_pos ⟨by omega, h⟩]
  · rw [sd_ux z]
    by_cases w : j < i ∧ dir j = c
    · rw [if_pos w, if_pos ⟨by omega, w.2⟩]
    · rw [if_neg w, if_neg (fun y => w ⟨by omega, y.2⟩)]
theorem sd_rdj_n {i b c : Nat} (h : ¬ dir i = c) : sd_un (sd_rdj dir i b c) i (dir i) = sd_rdj dir (i + 1) b c := by
  funext j
  unfold sd_rdj
  by_cases z : j = i
  · rw [sd_ue z, z, if_neg (fun y => h y.2)]
  · rw [sd_ux z]
    by_cases w : j < i ∧ dir j = c
    · rw [if_pos w, if_pos ⟨by omega, w.2⟩]
    · rw [if_neg w, if_neg (fun y => w ⟨by omega, y.2⟩)]
theorem xw_joinAt_154 {post : Int32 → SX → Prop} {b c : Nat} (hD : D ≤ 6) (hb : b < 64) (hc : c < 64) (hu : ∀ i, i < 2 ^ D → dir i < 64) (h : post 1 (xw_S D bc kc (sd_rdj dir (2 ^ D) b c) us dp ld ks vs)) (n : Nat) : ∀ i, i ≤ 2 ^ D → 2 ^ D < n + i → wX_joinAt_154 post (nI b) (nI c) (nI D) (nI bc) (nI kc) n (nI i) (sd_nF (sd_rdj dir i b c)) (sd_nF us) (sd_nF dp) (sd_nF ld) (sd_nF ks) vs := by
  induction n with
  | zero => intro i h1 h2; omega
  | succ n ih =>
    intro i h1 h2
    have p := xw_64 hD
    simp only [wX_joinAt_154, forall_eq, nI_1, xw_p2 D (by omega)]
    refine pk_le (2 ^ D) i (fun z => ?_) (fun z => ?_)
    · rw [show i = 2 ^ D by omega]
      exact h
    have e1 : (nI i).toNatClampNeg = i := nI_clamp (by omega)
    have n1 : vp_nar .byte (nI b).toInt8.toInt32 = nI b := by rw [xw_i8 _ (by omega), xw_nb (by omega)]
    have u := hu i z
    have i1 : vp_in (nI i) 64 := xw_in (by omega) (by decide)
    simp only [e1, n1, sd_nFa, sd_rdj_l, xw_nb (show dir i < 128 by omega), sd_nFu]
    refine ⟨i1, pk_eq (dir i) c (fun y => ⟨i1, ?_⟩) (fun y => ⟨i1, i1, ?_⟩)⟩
    · rw [sd_rdj_1 y]
      exact ih (i + 1) (by omega) (by omega)
    · rw [sd_rdj_n y]
      exact ih (i + 1) (by omega) (by omega)
theorem xw_joinAt_76 {post : Int32 → SX → Prop} {ks0 : Nat → Nat} {vs0 : Nat → Int32} {b c d : Nat} {P Q : Nat → Prop} (hD : D ≤ 6) (hb : b < 64) (hc : c < 64) (nbc : b ≠ c) (hu : ∀ i, i < 2 ^ D → dir i < 64) (hd : d ≤ 6) (h1 : 1 ≤ bc) (h4 : ld b + ld c ≤ 4) (B : sd_BK ks0 vs0 yv c (ld c) Q) (B6 : ∀ j, j < ld c → ks0 (c * 5 + j) < 256) (PQ : ∀ k, P k → Q k → False)
    (h : ∀ ks vs, sd_JI ks0 vs0 yv b c (ld b) (ld c) P ks vs → post 1 (xw_S D (bc - 1) kc (sd_rdj dir (2 ^ D) b c) (sd_un us c 0) (sd_un dp b d) (sd_un ld b (ld b + ld c)) ks vs)) (n : Nat) : ∀ i ks vs, i ≤ ld c → ld c < n + i → sd_JI ks0 vs0 yv b c (ld b) i P ks vs → wX_joinAt_76 post (nI b) (nI (d + 1)) (nI c) n (nI i) (nI D) (nI bc) (nI kc) (sd_nF dir) (sd_nF us) (sd_nF dp) (sd_nF (sd_un ld b (ld b + i))) (sd_nF ks) vs := by
  induction n with
  | zero => intro i ks vs h1 h2; omega
  | succ n ih =>
    intro i ks vs h2 h3 J
    have e1 : (nI c).toNatClampNeg = c := nI_clamp (by omega)
    have e2 : (nI b).toNatClampNeg = b := nI_clamp (by omega)
    have e3 : (nI (c * 5 + i)).toNatClampNeg = c * 5 + i := nI_clamp (by omega)
    have f1 : sd_un ld b (ld b + i) c = ld c := sd_ux (Ne.symm nbc)
    have f2 : sd_un ld b (ld b + i) b = ld b + i := sd_us
    have n0 : nI bc - 1 = nI (bc - 1) := pk_sub (b := 1) h1
    have n1 : vp_nar .byte ((nI (d + 1) - 1).toInt8.toInt32) = nI d := by rw [nI_pred, xw_i8 _ (by omega), xw_nb (by omega)]
    have i1 : vp_in (nI c) 65 := xw_in (by omega) (by decide)
    have i2 : vp_in (nI b) 65 := xw_in (by omega) (by decide)
    simp only [wX_joinAt_76, forall_eq, e1, e2, sd_nFa, f1, n0, n1, xw_cell, e3, xw_t0, sd_nFu]
    refine ⟨i1, pk_le (ld c) i (fun z => ⟨i1, i2, 2 ^ D + 1, ?_⟩) (fun z => ⟨xw_in (by omega) (by decide), xw_in (by omega) (by decide), ?_⟩)⟩
    · rw [show i = ld c by omega] at J ⊢
      have w := xw_joinAt_154 (n := 2 ^ D + 1) (kc := kc) hD hb hc hu (h ks vs J) 0 (Nat.zero_le _) (by omega)
      rw [sd_rdj_0] at w
      exact w
    · have k6 : ks (c * 5 + i) < 256 := by rw [(J.2 (c * 5 + i) (by omega)).1]; exact B6 i z
      refine xw_append (k := ks (c * 5 + i)) hb (by rw [f2]; omega) k6 ?_
      simp only [xw_S, forall_eq, nI_1, f2]
      rw [sd_un_un]
      exact ih (i + 1) _ _ (by omega) (by omega) (sd_JI_s B nbc h4 PQ J z)
theorem xw_joinAt (S : sd_St th yv en D bc kc dir us dp ld ks vs) {post : Int32 → SX → Prop} {key : Nat} (L : sd_Del th us dp en ld key) (hk : key < 256) (h0 : sd_Can th us dp en ld → post 0 (xw_S D bc kc dir us dp ld ks vs))
    (h1 : ∀ en' dir' us' dp' ld' ks' vs', sd_St th yv en' D (bc - 1) kc dir' us' dp' ld' ks' vs' → sd_Del th us' dp' en' ld' key → dp' (dir' (key % 2 ^ D)) + 1 = dp (dir (key % 2 ^ D)) → post 1 (xw_S D (bc - 1) kc dir' us' dp' ld' ks' vs')) : wpX_joinAt post (xw_S D bc kc dir us dp ld ks vs) (nI key) := by
  have o := sd_Dir_of S.2.1 key
  have D6 := S.2.1.1
  have l4 := L.1 _ o.1
  have e1 : (nI (dir (key % 2 ^ D))).toNatClampNeg = dir (key % 2 ^ D) := nI_clamp (by omega)
  have i1 : vp_in (nI (dir (key % 2 ^ D))) 65 := xw_in (by omega) (by decide)
  unfold wpX_joinAt xw_S
  refine xw_bucketOf hk D6 ?_
  simp only [forall_eq, e1, sd_nFa]
  refine ⟨i1, pk_eq (dp (dir (key % 2 ^ D))) 0 (fun z => h0 (sd_Can_0 S L z)) (fun z => ?_)⟩
  obtain ⟨d, hd⟩ : ∃ d, dp (dir (key % 2 ^ D)) = d + 1 := ⟨dp (dir (key % 2 ^ D)) - 1, by omega⟩
  have d6 : d < 6 := by omega
  have x := sd_xor key hk d d6
  have p := sd_Dir_of S.2.1 (key ^^^ 2 ^ d)
  have e : nI (dp (dir (key % 2 ^ D))) - 1 = nI d := by rw [hd, nI_pred]
  have lk : (key ^^^ 2 ^ d) % 2 ^ D < 64 := Nat.lt_of_lt_of_le (sd_lt _ D) (xw_64 D6)
  have e2 : (nI ((key ^^^ 2 ^ d) % 2 ^ D)).toNatClampNeg = (key ^^^ 2 ^ d) % 2 ^ D := nI_clamp (by omega)
  have e3 : (nI (dir ((key ^^^ 2 ^ d) % 2 ^ D))).toNatClampNeg = dir ((key ^^^ 2 ^ d) % 2 ^ D) := nI_clamp (by omega)
  have m4 := L.1 _ p.1
  simp only [e, xw_p2 d (by omega), nx_xor]
  simp only [xw_mask x.1 (show D < 9 by omega), e2, e3, nI_add]
  refine ⟨xw_in lk (by decide), xw_in (by omega) (by decide), pk_eq (dp (dir ((key ^^^ 2 ^ d) % 2 ^ D))) (dp (dir (key % 2 ^ D))) (fun y => ⟨i1, xw_in (by omega) (by decide), ?_⟩) (fun y => h0 (sd_Can_j S L hk hd (fun w => absurd (w.trans hd.symm) y)))⟩
  refine pk_le (ld (dir (key % 2 ^ D)) + ld (dir ((key ^^^ 2 ^ d) % 2 ^ D))) 4 (fun w => ⟨ld (dir ((key ^^^ 2 ^ d) % 2 ^ D)) + 1, ?_⟩) (fun w => h0 (sd_Can_j S L hk hd (fun _ => w)))
  have ec := y.trans hd
  have ob := o.2.2.2
  have oc := p.2.2.2
  rw [hd] at ob
  rw [ec] at oc
  have nbc : dir (key % 2 ^ D) ≠ dir ((key ^^^ 2 ^ d) % 2 ^ D) := fun v => by
    rw [← v, ← ob, sd_up, x.2.2] at oc
    have := oc.2
    generalize key / 2 ^ d % 2 = A at *
    omega
  have ee : en (dir (key % 2 ^ D)) % 2 ^ d = en (dir ((key ^^^ 2 ^ d) % 2 ^ D)) % 2 ^ d := by
    rw [← ob, ← oc, sd_mm (Nat.le_succ d), sd_mm (Nat.le_succ d), x.2.1]
  have B := S.2.2.1 _ o.1
  have B' := S.2.2.1 _ p.1
  have b1 : 1 ≤ bc := by
    rw [S.2.2.2.1]
    exact sd_cn_pos o.2.1 (decide_eq_true o.1)
  have f : sd_nF ld = sd_nF (sd_un ld (dir (key % 2 ^ D)) (ld (dir (key % 2 ^ D)) + 0)) := by rw [Nat.add_zero, sd_un_id]
  rw [f, hd]
  refine xw_joinAt_76 D6 o.2.1 p.2.1 nbc (fun i hi => S.2.1.2.2.1 _ (S.2.1.2.2.2.1 i hi)) (by omega) b1 w B'.2 (fun j hj => sd_ks S p.1 hj) (fun k q1 q2 => nbc (sd_Dir_inj S.2.1 o.1 p.1 q1.2 q2.2)) ?_ _ 0 ks vs (by omega) (by omega) (sd_JI_0 B.2)
  intro ks' vs' J
  exact h1 _ _ _ _ _ _ _ (sd_St_join S o.1 p.1 nbc hd ec ee w J) (sd_Del_join L o.1 ob w) (by rw [sd_dp_join rfl nbc, hd])
theorem xw_delete_102 {post : SX → Prop} (h : ∀ D, sd_St th yv en D bc kc dir us dp ld ks vs → post (xw_S D bc kc dir us dp ld ks vs)) (n : Nat) : ∀ D, D < n → sd_St th yv en D bc kc dir us dp ld ks vs → wX_delete_102 post (nI bc) (nI kc) (sd_nF dir) (sd_nF us) (sd_nF dp) (sd_nF ld) (sd_nF ks) vs n (nI D) := by
  induction n with
  | zero => intro D h1; omega
  | succ n ih =>
    intro D h1 S
    have D6 := S.2.1.1
    simp only [wX_delete_102, forall_eq]
    refine pk_le D 0 (fun z => h D S) (fun z => ?_)
    refine xw_deepest (D := D) S.2.1.2.1 (fun b hb => Nat.le_trans (S.2.1.2.2.2.2 b hb).1 D6) (fun m m6 hm _ => ?_)
    refine pk_le D m (fun w => h D S) (fun w => ?_)
    obtain ⟨E, rfl⟩ : ∃ E, D = E + 1 := ⟨D - 1, by omega⟩
    rw [nI_pred]
    refine ih E (by omega) ⟨S.1, sd_Dir_less S.2.1 (fun b hb => ?_), S.2.2⟩
    have := hm b (S.2.1.2.2.1 b hb) hb
    omega
end
theorem xw_delete_77z {th : Nat → Nat} {yv : Nat → Int32} {kc : Nat} {post : SX → Prop} {x3 x5 : Int32} (h : ∀ en D bc dir us dp ld ks vs, sd_St th yv en D bc kc dir us dp ld ks vs → sd_Can th us dp en ld → post (xw_S D bc kc dir us dp ld ks vs)) (n : Nat) {en : Nat → Nat} {D bc : Nat} {dir us dp ld ks : Nat → Nat} {vs : Nat → Int32} (S : sd_St th yv en D bc kc dir us dp ld ks vs) (C : sd_Can th us dp en ld) : wX_delete_77 post x3 (n + 1) 0 x5 (nI D) (nI bc) (nI kc) (sd_nF dir) (sd_nF us) (sd_nF dp) (sd_nF ld) (sd_nF ks) vs := by
  have w := xw_delete_102 (post := post) (fun D S => h _ _ _ _ _ _ _ _ _ S C) (D + 1) D (by omega) S
  simp only [wX_delete_77]
  by_cases z : 6 ≤ x5
  · exact br_t z ⟨_, w⟩
  · exact br_f z (br_t (by trivial) ⟨_, w⟩)
theorem xw_delete_77 {th : Nat → Nat} {yv : Nat → Int32} {kc : Nat} {post : SX → Prop} {key : Nat} (hk : key < 256) (h : ∀ en D bc dir us dp ld ks vs, sd_St th yv en D bc kc dir us dp ld ks vs → sd_Can th us dp en ld → post (xw_S D bc kc dir us dp ld ks vs)) (n : Nat) : ∀ (r : Nat) (en : Nat → Nat) (D bc : Nat) (dir us dp ld ks : Nat → Nat) (vs : Nat → Int32), r ≤ 6 → 6 < n + r → sd_St th yv en D bc kc dir us dp ld ks vs → sd_Del th us dp en ld key → dp (dir (key % 2 ^ D)) + r ≤ 6 → wX_delete_77 post (nI key) n 1 (nI r) (nI D) (nI bc) (nI kc) (sd_nF dir) (sd_nF us) (sd_nF dp) (sd_nF ld) (sd_nF ks) vs := by
  induction n with
  | zero => intro r en D bc dir us dp ld ks vs h1 h2; omega
  | succ n ih =>
    intro r en D bc dir us dp ld ks vs h1 h2 S L hr
    simp only [wX_delete_77, forall_eq, nI_1]
    refine pk_le 6 r (fun z => ?_) (fun z => br_f (by decide) ?_)
    · exact ⟨_, xw_delete_102 (post := post) (fun D S' => h _ _ _ _ _ _ _ _ _ S' (sd_Can_0 S L (by omega))) (D + 1) D (by omega) S⟩
    · refine xw_joinAt S L hk ?_ ?_
      · intro C
        obtain ⟨m, rfl⟩ : ∃ m, n = m + 1 := ⟨n - 1, by omega⟩
        exact xw_delete_77z h m S C
      · intro en' dir' us' dp' ld' ks' vs' S' L' e
        exact ih (r + 1) _ _ _ _ _ _ _ _ _ (by omega) (by omega) S' L' (by omega)
section
variable {th : Nat → Nat} {yv : Nat → Int32} {en : Nat → Nat} {D bc kc : Nat} {dir us dp ld ks : Nat → Nat} {vs : Nat → Int32}
theorem xw_delete (S : sd_St th yv en D bc kc dir us dp ld ks vs) (C : sd_Can th us dp en ld) {post : SX → Prop} {key b pl : Nat} (hk : key < 256) (eb : dir (key % 2 ^ D) = b) (hp : pl < ld b) (ek : ks (b * 5 + pl) = key) (h : ∀ en' D' bc' dir' us' dp' ld' ks' vs', sd_St (sd_un th key 0) yv en' D' bc' (kc - 1) dir' us' dp' ld' ks' vs' → sd_Can (sd_un th key 0) us' dp' en' ld' → post (xw_S D' bc' (kc - 1) dir' us' dp' ld' ks' vs')) : wpX_delete post (xw_S D bc kc dir us dp ld ks vs) (nI b) (nI pl) (nI key) := by
  have o := sd_Dir_of S.2.1 key
  rw [eb] at o
  have D6 := S.2.1.1
  have l4 := C.2 _ o.1
  obtain ⟨n, hn⟩ : ∃ n, ld b = n + 1 := ⟨ld b - 1, by omega⟩
  have k6 := sd_ks S o.1 (show n < ld b by omega)
  have t1 : th key = 1 := by rw [← ek]; exact ((S.2.2.1 b o.1).2.1 pl hp).1.1
  have k1 : 1 ≤ kc := by
    rw [S.2.2.2.2]
    exact sd_cn_pos hk (decide_eq_true t1)
  have e1 : (nI b).toNatClampNeg = b := nI_clamp (by omega)
  have e2 : (nI (b * 5 + n)).toNatClampNeg = b * 5 + n := nI_clamp (by omega)
  have e3 : (nI (b * 5 + pl)).toNatClampNeg = b * 5 + pl := nI_clamp (by omega)
  have n1 : vp_nar .byte ((nI (ld b) - 1).toInt8.toInt32) = nI n := by rw [hn, nI_pred, xw_i8 _ (by omega), xw_nb (by omega)]
  have n2 : nI kc - 1 = nI (kc - 1) := pk_sub (b := 1) k1
  have f : sd_un ld b n b = n := sd_us
  have i1 : vp_in (nI b) 65 := xw_in (by omega) (by decide)
  have i2 : vp_in (nI (b * 5 + n)) 325 := xw_in (by omega) (by decide)
  have i3 : vp_in (nI (b * 5 + pl)) 325 := xw_in (by omega) (by decide)
  unfold wpX_delete xw_S
  simp only [forall_eq, e1, sd_nFa, n1, sd_nFu, f, xw_cell, e2, e3, xw_ns k6, n2]
  have S' := sd_St_del S eb hn (by omega) ek
  refine ⟨i1, i1, i1, i2, i3, i1, i2, i3, 7, ?_⟩
  refine xw_delete_77 hk h 7 0 en D bc _ _ _ _ _ _ (by omega) (by omega) S' (sd_Del_of C o.1 (by omega)) ?_
  rw [eb]
  omega
end
end
section
/-! the reference's counts -/
def yw_Ct (th : Nat → Nat) (cts : Nat → Int32) : Prop := ∀ d, d ≤ 8 → ∀ e, e < 2 ^ d → cts (2 ^ d - 1 + e) = nI (sd_ct th e d)
def yw_Ck (th : Nat → Nat) (k : Nat) (cts : Nat → Int32) : Prop := ∀ d, d ≤ 8 → ∀ e, e < 2 ^ d → cts (2 ^ d - 1 + e) = nI (sd_cn (sd_cp th e d) k)
def yw_Cd (th : Nat → Nat) (k m : Nat) (cts : Nat → Int32) : Prop := ∀ d, d ≤ 8 → ∀ e, e < 2 ^ d → cts (2 ^ d - 1 + e) = nI (sd_cn (sd_cp th e d) (if d < m then k + 1 else k))
theorem yw_ix {d d' e e' : Nat} (he : e < 2 ^ d) (he' : e' < 2 ^ d') (h : 2 ^ d - 1 + e = 2 ^ d' - 1 + e') : d = d' ∧ e = e' := by
  have q := Nat.two_pow_pos d
  have q' := Nat.two_pow_pos d'
  rcases Nat.lt_trichotomy d d' with a | a | a
  · exfalso
    have p := sd_ple (show d + 1 ≤ d' by omega)
    rw [sd_p1] at p
    omega
  · rw [a] at h
    exact ⟨a, by omega⟩
  · exfalso
    have p := sd_ple (show d' + 1 ≤ d by omega)
    rw [sd_p1] at p
    omega
theorem yw_256 {d : Nat} (h : d ≤ 8) : 2 ^ d ≤ 256 := sd_ple h
theorem yw_pm1 : ∀ D, D < 9 → ((1 : Int32) <<< (nI D &&& 31)) - 1 = nI (2 ^ D - 1) := by decide +kernel
section
variable {th : Nat → Nat} {yv : Nat → Int32} {cts : Nat → Int32}
theorem yw_ending {post : Int32 → Prop} {u : SY} {k d : Nat} (hk : k < 256) (hd : d ≤ 8) (h : post (nI (2 ^ d - 1 + k % 2 ^ d))) : wpY_ending post u (nI k) (nI d) := by
  obtain ⟨a, b, c⟩ := u
  unfold wpY_ending
  simp only [xw_mask hk (show d < 9 by omega)]
  rw [yw_pm1 d (by omega), nI_add]
  exact h
theorem yw_key_t {post : Int32 → Prop} {u : SY} {k : Nat} (hk : k < 256) (h : post 1) : wpY_key post u (nI k) := by
  obtain ⟨a, b, c⟩ := u
  unfold wpY_key
  exact br_f (nI_pos (by omega)) (br_f (nI_nlt (a := 255) (b := k) (by omega) (by decide)) h)
theorem yw_key_f {post : Int32 → Prop} {u : SY} {x : Int32} (hx : x < 0 ∨ nI 256 ≤ x) (h : post 0) : wpY_key post u x := by
  obtain ⟨a, b, c⟩ := u
  unfold wpY_key
  by_cases z : x < 0
  · exact br_t z h
  · obtain ⟨j, hj, rfl⟩ := nI_of z
    have w := hx.resolve_left z
    rw [nI_leI (by decide) hj] at w
    exact br_f z (br_t (nI_lt (a := 255) (by omega) hj) h)
theorem yw_count_33 {post : SY → Prop} {J : Int32 → (Nat → Int32) → (Nat → Int32) → (Nat → Int32) → Prop} {k : Nat} (hk : k < 256) (t : th k ≤ 1) (h : ∀ cts, yw_Ck th (k + 1) cts → J (nI (k + 1)) (sd_nF th) yv cts) (n : Nat) : ∀ m cts, m ≤ 9 → 9 < n + m → (th k = 0 → m = 0) → yw_Cd th k m cts → wY_count_33 post J (nI k) n (nI m) (sd_nF th) yv cts := by
  induction n with
  | zero => intro m cts h1 h2; omega
  | succ n ih =>
    intro m cts h1 h2 h3 C
    have e1 : (nI k).toNatClampNeg = k := nI_clamp (by omega)
    simp only [wY_count_33, forall_eq, nI_1, e1, sd_nFa]
    refine pk_lt 8 m (fun z => h cts ?_) (fun z => ⟨xw_in hk (by decide), pk_eq (th k) 0 (fun y => h cts ?_) (fun y => ?_)⟩)
    · intro d hd e he
      rw [C d hd e he, if_pos (by omega)]
    · intro d hd e he
      rw [C d hd e he, if_neg (by have := h3 y; omega), sd_cn_f]
      exact decide_eq_false (fun w => by omega)
    · have q := Nat.two_pow_pos m
      have lk := sd_lt k m
      have p := yw_256 z
      have tk : th k = 1 := by omega
      refine yw_ending hk z ?_
      have e2 : (nI (2 ^ m - 1 + k % 2 ^ m)).toNatClampNeg = 2 ^ m - 1 + k % 2 ^ m := nI_clamp (by omega)
      have i2 : vp_in (nI (2 ^ m - 1 + k % 2 ^ m)) 511 := xw_in (by omega) (by decide)
      have v : cts (2 ^ m - 1 + k % 2 ^ m) = nI (sd_cn (sd_cp th (k % 2 ^ m) m) k) := by
        rw [C m z _ lk, if_neg (by omega)]
      simp only [e2, v, nI_1]
      refine ⟨i2, i2, ih (m + 1) _ (by omega) (by omega) (fun w => by omega) ?_⟩
      intro d hd e he
      by_cases w : d = m
      · rw [w] at he
        rw [w, if_pos (by omega)]
        by_cases x : e = k % 2 ^ m
        · rw [x, pk_us, sd_cn_t]
          exact sd_cp_iff.mpr ⟨tk, (Nat.mod_mod _ _).symm⟩
        · rw [pk_un (by omega), C m z e he, if_neg (by omega), sd_cn_f]
          refine decide_eq_false (fun y => x ?_)
          rw [y.2, Nat.mod_eq_of_lt he]
      · rw [pk_un (fun y => w (yw_ix he lk y).1), C d hd e he]
        by_cases x : d < m
        · rw [if_pos x, if_pos (by omega)]
        · rw [if_neg x, if_neg (by omega)]
theorem yw_count_24 {post : SY → Prop} (t : ∀ k, th k ≤ 1) (h : ∀ cts, yw_Ck th 256 cts → post (sd_nF th, yv, cts)) (n : Nat) : ∀ k cts, k ≤ 256 → 256 < n + k → yw_Ck th k cts → wY_count_24 post n (nI k) (sd_nF th) yv cts := by
  induction n with
  | zero => intro k cts h1 h2; omega
  | succ n ih =>
    intro k cts h1 h2 C
    simp only [wY_count_24]
    refine pk_le 256 k (fun z => h cts (by rw [show k = 256 by omega] at C; exact C)) (fun z => ⟨10, ?_⟩)
    refine yw_count_33 z (t k) (fun cts' C' => ih (k + 1) cts' (by omega) (by omega) C') 10 0 cts (by omega) (by omega) (fun _ => rfl) ?_
    intro d hd e he
    rw [if_neg (Nat.not_lt_zero d)]
    exact C d hd e he
theorem yw_count_2 {post : SY → Prop} (t : ∀ k, th k ≤ 1) (h : ∀ cts, yw_Ck th 256 cts → post (sd_nF th, yv, cts)) (n : Nat) : ∀ i cts, i ≤ 511 → 511 < n + i → (∀ j, j < i → cts j = 0) → wY_count_2 post n (nI i) (sd_nF th) yv cts := by
  induction n with
  | zero => intro i cts h1 h2; omega
  | succ n ih =>
    intro i cts h1 h2 Z
    have e1 : (nI i).toNatClampNeg = i := nI_clamp (by omega)
    simp only [wY_count_2, forall_eq, nI_1, e1]
    refine pk_le 511 i (fun z => ⟨257, ?_⟩) (fun z => ⟨xw_in (by omega) (by decide), ih (i + 1) _ (by omega) (by omega) ?_⟩)
    · refine yw_count_24 t h 257 0 cts (by omega) (by omega) ?_
      intro d hd e he
      have p := yw_256 hd
      rw [Z _ (by omega)]
      rfl
    · intro j hj
      by_cases w : j = i
      · rw [w, pk_us]
      · rw [pk_un w]; exact Z j (by omega)
theorem yw_count {post : SY → Prop} (t : ∀ k, th k ≤ 1) (h : ∀ cts, yw_Ct th cts → post (sd_nF th, yv, cts)) : wpY_count post (sd_nF th, yv, cts) := by
  unfold wpY_count
  exact ⟨512, yw_count_2 t h 512 0 cts (by omega) (by omega) (fun j hj => by omega)⟩
theorem yw_at (C : yw_Ct th cts) {k d : Nat} (hd : d ≤ 8) : cts (2 ^ d - 1 + k % 2 ^ d) = nI (sd_ct th k d) := by
  rw [C d hd _ (sd_lt k d), sd_ct_e (Nat.mod_mod k (2 ^ d))]
theorem yw_ct_le (e d : Nat) : sd_ct th e d ≤ 256 := sd_cn_le _ 256
theorem yw_isBucket {post : Int32 → Prop} {k d : Nat} (C : yw_Ct th cts) (hk : k < 256) (hd : d ≤ 8) (ht : sd_isB th k d = true → post 1) (hf : sd_isB th k d = false → post 0) : wpY_isBucket post (sd_nF th, yv, cts) (nI k) (nI d) := by
  have key : ∀ d, d ≤ 8 → (nI (2 ^ d - 1 + k % 2 ^ d)).toNatClampNeg = 2 ^ d - 1 + k % 2 ^ d ∧ vp_in (nI (2 ^ d - 1 + k % 2 ^ d)) 511 ∧ cts (2 ^ d - 1 + k % 2 ^ d) = nI (sd_ct th k d) := by
    intro d hd
    have q := Nat.two_pow_pos d
    have lk := sd_lt k d
    have p := yw_256 hd
    exact ⟨nI_clamp (by omega), xw_in (by omega) (by decide), yw_at C hd⟩
  have c := yw_ct_le (th := th) k d
  have K := key d hd
  unfold wpY_isBucket
  refine yw_ending hk hd ?_
  simp only [K.1, K.2.2]
  refine ⟨K.2.1, pk_lt 4 (sd_ct th k d) (fun z => hf (decide_eq_false (fun w => by omega))) (fun z => pk_eq d 0 (fun y => ht (decide_eq_true ⟨z, Or.inl y⟩)) (fun y => ?_))⟩
  obtain ⟨m, rfl⟩ : ∃ m, d = m + 1 := ⟨d - 1, by omega⟩
  have K' := key m (by omega)
  have c' := yw_ct_le (th := th) k m
  rw [nI_pred]
  refine yw_ending hk (by omega) ?_
  simp only [K'.1, K'.2.2]
  refine ⟨K'.2.1, pk_le (sd_ct th k m) 4 (fun w => hf (decide_eq_false (fun v => ?_))) (fun w => ht (decide_eq_true ⟨z, Or.inr w⟩))⟩
  rcases v.2 with v | v
  · omega
  · rw [Nat.add_sub_cancel] at v
    omega
theorem yw_ofDepth_8 {post : Int32 → SY → Prop} {d : Nat} (C : yw_Ct th cts) (hd : d ≤ 8) (h : post (nI (sd_cn (fun e => sd_isB th e d) (2 ^ d))) (sd_nF th, yv, cts)) (n : Nat) : ∀ e, e ≤ 2 ^ d → 2 ^ d < n + e → wY_ofDepth_8 post (nI d) (sd_nF th) yv cts n (nI (sd_cn (fun e => sd_isB th e d) e)) (nI e) := by
  induction n with
  | zero => intro e h1 h2; omega
  | succ n ih =>
    intro e h1 h2
    have p := yw_256 hd
    have hi := ih (e + 1)
    simp only [wY_ofDepth_8, forall_eq, nI_1, xw_p2 d (by omega)]
    refine br_f (nI_pos (by omega)) (br_f (nI_nlt (a := 8) hd (by decide)) (pk_le (2 ^ d) e (fun z => ?_) (fun z => ?_)))
    · rw [show e = 2 ^ d by omega]
      exact h
    · refine yw_isBucket C (by omega) hd (fun w => br_f (by decide) ?_) (fun w => br_t rfl ?_)
      · rw [sd_cn_t (p := fun e => sd_isB th e d) (n := e) w] at hi
        exact hi (by omega) (by omega)
      · rw [sd_cn_f (p := fun e => sd_isB th e d) (n := e) w] at hi
        exact hi (by omega) (by omega)
theorem yw_ofDepth {post : Int32 → SY → Prop} {d : Nat} (t : ∀ k, th k ≤ 1) (hd : d ≤ 8) (h : ∀ cts, post (nI (sd_cn (fun e => sd_isB th e d) (2 ^ d))) (sd_nF th, yv, cts)) : wpY_ofDepth post (sd_nF th, yv, cts) (nI d) := by
  unfold wpY_ofDepth
  refine yw_count t (fun cts' C => ?_)
  exact ⟨2 ^ d + 1, yw_ofDepth_8 C hd (h cts') _ 0 (Nat.zero_le _) (by omega)⟩
theorem yw_ofDepth_o {post : Int32 → SY → Prop} {q : Int32} (t : ∀ k, th k ≤ 1) (hq : q < 0 ∨ 8 < q) (h : ∀ cts, post 0 (sd_nF th, yv, cts)) : wpY_ofDepth post (sd_nF th, yv, cts) q := by
  unfold wpY_ofDepth
  refine yw_count t (fun cts' C => ?_)
  refine ⟨1, ?_⟩
  simp only [wY_ofDepth_8]
  by_cases z : q < 0
  · exact br_t z (h cts')
  · exact br_f z (br_t (hq.resolve_left z) (h cts'))
def yw_nb (th : Nat → Nat) (d : Nat) : Nat := sd_cn (fun e => sd_isB th e d) (2 ^ d)
theorem yw_buckets_4 {post : Int32 → SY → Prop} (t : ∀ k, th k ≤ 1) (h : ∀ cts, post (nI (sd_sm (yw_nb th) 9)) (sd_nF th, yv, cts)) (n : Nat) : ∀ d cts, d ≤ 9 → 9 < n + d → wY_buckets_4 post n (nI (sd_sm (yw_nb th) d)) (nI d) (sd_nF th) yv cts := by
  induction n with
  | zero => intro d cts h1 h2; omega
  | succ n ih =>
    intro d cts h1 h2
    simp only [wY_buckets_4]
    refine pk_lt 8 d (fun z => ?_) (fun z => ?_)
    · rw [show d = 9 by omega]
      exact h cts
    · refine yw_ofDepth t z (fun cts' => ?_)
      simp only [forall_eq, nI_1, nI_add]
      exact ih (d + 1) cts' (by omega) (by omega)
theorem yw_buckets {post : Int32 → SY → Prop} (t : ∀ k, th k ≤ 1) (h : ∀ cts, post (nI (sd_sm (yw_nb th) 9)) (sd_nF th, yv, cts)) : wpY_buckets post (sd_nF th, yv, cts) := by
  unfold wpY_buckets
  exact ⟨10, yw_buckets_4 t h 10 0 cts (by omega) (by omega)⟩
theorem yw_size_4 {post : Int32 → Prop} (t : ∀ k, th k ≤ 1) (h : post (nI (sd_cn (fun k => decide (th k = 1)) 256))) (n : Nat) : ∀ k, k ≤ 256 → 256 < n + k → wY_size_4 post (sd_nF th) yv cts n (nI (sd_cn (fun k => decide (th k = 1)) k)) (nI k) := by
  induction n with
  | zero => intro k h1 h2; omega
  | succ n ih =>
    intro k h1 h2
    have hi := ih (k + 1)
    have tk := t k
    have e1 : (nI k).toNatClampNeg = k := nI_clamp (by omega)
    simp only [wY_size_4, forall_eq, nI_1, e1, sd_nFa]
    refine pk_le 256 k (fun z => ?_) (fun z => ⟨xw_in z (by decide), pk_eq (th k) 0 (fun y => ?_) (fun y => ?_)⟩)
    · rw [show k = 256 by omega]
      exact h
    · rw [sd_cn_f (decide_eq_false (by omega))] at hi
      exact hi (by omega) (by omega)
    · rw [sd_cn_t (decide_eq_true (by omega))] at hi
      exact hi (by omega) (by omega)
theorem yw_size {post : Int32 → Prop} (t : ∀ k, th k ≤ 1) (h : post (nI (sd_cn (fun k => decide (th k = 1)) 256))) : wpY_size post (sd_nF th, yv, cts) := by
  unfold wpY_size
  exact ⟨257, yw_size_4 t h 257 0 (by omega) (by omega)⟩
theorem yw_deepest_4 {post : Int32 → SY → Prop} (t : ∀ k, th k ≤ 1) (h : ∀ m cts, (∀ d, d ≤ 8 → 0 < yw_nb th d → d ≤ m) → (m = 0 ∨ (m ≤ 8 ∧ 0 < yw_nb th m)) → post (nI m) (sd_nF th, yv, cts)) (n : Nat) : ∀ d m cts, d ≤ 9 → 9 < n + d → m ≤ 8 → (∀ d', d' < d → 0 < yw_nb th d' → d' ≤ m) → (m = 0 ∨ (m < d ∧ 0 < yw_nb th m)) → wY_deepest_4 post n (nI m) (nI d) (sd_nF th) yv cts := by
  induction n with
  | zero => intro d m cts h1 h2; omega
  | succ n ih =>
    intro d m cts h1 h2 h3 h4 h5
    simp only [wY_deepest_4]
    refine pk_lt 8 d (fun z => ?_) (fun z => ?_)
    · exact h m cts (fun d' hd => h4 d' (by omega)) (h5.imp id (fun w => ⟨h3, w.2⟩))
    · refine yw_ofDepth t z (fun cts' => ?_)
      have b : sd_cn (fun e => sd_isB th e d) (2 ^ d) ≤ 256 := Nat.le_trans (sd_cn_le _ _) (yw_256 z)
      simp only [forall_eq, nI_1]
      refine pk_le (sd_cn (fun e => sd_isB th e d) (2 ^ d)) 0 (fun w => ?_) (fun w => ?_)
      · refine ih (d + 1) m cts' (by omega) (by omega) h3 (fun d' hd hp => ?_) (h5.imp id (fun w => ⟨by omega, w.2⟩))
        by_cases x : d' = d
        · rw [x] at hp
          have hp' : 0 < sd_cn (fun e => sd_isB th e d) (2 ^ d) := hp
          omega
        · exact h4 d' (by omega) hp
      · exact ih (d + 1) d cts' (by omega) (by omega) z (fun d' hd _ => by omega) (Or.inr ⟨by omega, w⟩)
theorem yw_deepest {post : Int32 → SY → Prop} (t : ∀ k, th k ≤ 1) (h : ∀ m cts, (∀ d, d ≤ 8 → 0 < yw_nb th d → d ≤ m) → (m = 0 ∨ (m ≤ 8 ∧ 0 < yw_nb th m)) → post (nI m) (sd_nF th, yv, cts)) : wpY_deepest post (sd_nF th, yv, cts) := by
  unfold wpY_deepest
  exact ⟨10, yw_deepest_4 t h 10 0 0 cts (by omega) (by omega) (by omega) (fun d hd => by omega) (Or.inl rfl)⟩
theorem yw_depthOf_6 {post : Int32 → SY → Prop} {k d : Nat} (C : yw_Ct th cts) (hk : k < 256) (hd : d ≤ 8) (B : sd_isB th k d = true) (h : post (nI d) (sd_nF th, yv, cts)) (n : Nat) : ∀ i, i ≤ d → d < n + i → wY_depthOf_6 post (nI k) (sd_nF th) yv cts n (nI i) := by
  induction n with
  | zero => intro i h1 h2; omega
  | succ n ih =>
    intro i h1 h2
    simp only [wY_depthOf_6, forall_eq, nI_1]
    refine br_f (nI_nlt (a := 8) (by omega) (by decide)) ?_
    refine yw_key_t hk (br_f (by decide) ?_)
    refine yw_isBucket C hk (by omega) (fun w => br_f (by decide) ?_) (fun w => br_t rfl ?_)
    · rw [sd_isB_uq w B]
      exact h
    · refine ih (i + 1) ?_ (by omega)
      rcases Nat.lt_or_ge i d with a | a
      · omega
      · rw [show i = d by omega, B] at w
        exact absurd w (by decide)
theorem yw_depthOf {post : Int32 → SY → Prop} {k d : Nat} (t : ∀ k, th k ≤ 1) (hk : k < 256) (hd : d ≤ 8) (B : sd_isB th k d = true) (h : ∀ cts, yw_Ct th cts → post (nI d) (sd_nF th, yv, cts)) : wpY_depthOf post (sd_nF th, yv, cts) (nI k) := by
  unfold wpY_depthOf
  refine yw_count t (fun cts' C => ?_)
  exact ⟨d + 1, yw_depthOf_6 C hk hd B (h cts' C) _ 0 (by omega) (by omega)⟩
theorem yw_depthOf_o {post : Int32 → SY → Prop} {x : Int32} (t : ∀ k, th k ≤ 1) (hx : x < 0 ∨ nI 256 ≤ x) (h : ∀ cts, post (-1) (sd_nF th, yv, cts)) : wpY_depthOf post (sd_nF th, yv, cts) x := by
  unfold wpY_depthOf
  refine yw_count t (fun cts' C => ?_)
  refine ⟨1, ?_⟩
  simp only [wY_depthOf_6]
  refine br_f (by decide) ?_
  exact yw_key_f hx (br_t rfl (h cts'))
theorem yw_inBucket_12 {post : Int32 → SY → Prop} {key d : Nat} {q : Int32} (hk : key < 256) (hd : d ≤ 8) (t : ∀ k, th k ≤ 1) (hit : ∀ j, j < 256 → sd_cp th key d j = true → nI (sd_cn (sd_cp th key d) j) = q → post (nI j) (sd_nF th, yv, cts)) (mis : (∀ j, j < 256 → sd_cp th key d j = true → nI (sd_cn (sd_cp th key d) j) ≠ q) → post (-1) (sd_nF th, yv, cts)) (n : Nat) : ∀ j, j ≤ 256 → 256 < n + j → (∀ i, i < j → sd_cp th key d i = true → nI (sd_cn (sd_cp th key d) i) ≠ q) → wY_inBucket_12 post (nI key) q (nI d) (sd_nF th) yv cts n (nI (sd_cn (sd_cp th key d) j)) (nI j) := by
  induction n with
  | zero => intro j h1 h2; omega
  | succ n ih =>
    intro j h1 h2 h3
    have hi := ih (j + 1)
    have tj := t j
    have e1 : (nI j).toNatClampNeg = j := nI_clamp (by omega)
    have nx : (sd_cp th key d j = true → nI (sd_cn (sd_cp th key d) j) ≠ q) → ∀ i, i < j + 1 → sd_cp th key d i = true → nI (sd_cn (sd_cp th key d) i) ≠ q := by
      intro w i hi
      by_cases x : i = j
      · rw [x]; exact w
      · exact h3 i (by omega)
    simp only [wY_inBucket_12, forall_eq, nI_1, e1, sd_nFa]
    refine pk_le 256 j (fun z => mis (fun i hi => h3 i (by omega))) (fun z => br_f (nI_pos (by omega)) ⟨xw_in z (by decide), pk_eq (th j) 0 (fun y => ?_) (fun y => ?_)⟩)
    · have f : sd_cp th key d j = false := decide_eq_false (fun w => by omega)
      rw [sd_cn_f f] at hi
      exact hi (by omega) (by omega) (nx (fun w => by rw [f] at w; exact absurd w (by decide)))
    · refine yw_ending z hd (yw_ending hk hd ?_)
      have p := yw_256 hd
      have l1 := sd_lt j d
      have l2 := sd_lt key d
      refine pk_eq (2 ^ d - 1 + j % 2 ^ d) (2 ^ d - 1 + key % 2 ^ d) (fun w => ?_) (fun w => ?_)
      · have f : sd_cp th key d j = true := decide_eq_true ⟨by omega, by omega⟩
        refine br_c (fun v => hit j z f v) (fun v => ?_)
        rw [sd_cn_t f] at hi
        exact hi (by omega) (by omega) (nx (fun _ => v))
      · have f : sd_cp th key d j = false := decide_eq_false (fun v => w (by rw [v.2]))
        rw [sd_cn_f f] at hi
        exact hi (by omega) (by omega) (nx (fun v => by rw [f] at v; exact absurd v (by decide)))
theorem yw_next_t {post : Int32 → Prop} {q : Int32} {k : Nat} (t : ∀ k, th k ≤ 1) (hk : k < 256) (hq : ¬ nI k < q) (tk : th k = 1) (hl : ∀ j, j < k → ¬ nI j < q → th j = 0) (h : post (nI k)) (n : Nat) : ∀ i, i ≤ k → k < n + i → wY_next_2 post q (sd_nF th) yv cts n (nI i) := by
  induction n with
  | zero => intro i h1 h2; omega
  | succ n ih =>
    intro i h1 h2
    have ti := t i
    have e1 : (nI i).toNatClampNeg = i := nI_clamp (by omega)
    simp only [wY_next_2, forall_eq, nI_1, e1, sd_nFa]
    refine br_f (nI_ge (b := 256) (by omega) (by decide)) ?_
    by_cases c : i = k
    · rw [c]
      exact br_f hq ⟨xw_in hk (by decide), br_f (nI_ne0 (by omega) (by omega)) h⟩
    · have nx := ih (i + 1) (by omega) (by omega)
      refine br_c (fun _ => nx) (fun w => ⟨xw_in (by omega) (by decide), br_t ?_ nx⟩)
      rw [hl i (by omega) w]
      rfl
theorem yw_next_f {post : Int32 → Prop} {q : Int32} (t : ∀ k, th k ≤ 1) (hl : ∀ j, j < 256 → ¬ nI j < q → th j = 0) (h : post (-1)) (n : Nat) : ∀ i, i ≤ 256 → 256 < n + i → wY_next_2 post q (sd_nF th) yv cts n (nI i) := by
  induction n with
  | zero => intro i h1 h2; omega
  | succ n ih =>
    intro i h1 h2
    have ti := t i
    have e1 : (nI i).toNatClampNeg = i := nI_clamp (by omega)
    simp only [wY_next_2, forall_eq, nI_1, e1, sd_nFa]
    refine pk_le 256 i (fun _ => h) (fun z => ?_)
    have nx := ih (i + 1) (by omega) (by omega)
    refine br_c (fun _ => nx) (fun w => ⟨xw_in z (by decide), br_t ?_ nx⟩)
    rw [hl i z w]
    rfl
end
end
section
section
variable {th : Nat → Nat} {yv : Nat → Int32} {en : Nat → Nat} {D bc kc : Nat} {dir us dp ld ks : Nat → Nat} {vs : Nat → Int32} {cts : Nat → Int32}
/-! the buckets are just those that the reference counts -/
theorem sd_isB_at (S : sd_St th yv en D bc kc dir us dp ld ks vs) (C : sd_Can th us dp en ld) (k : Nat) : sd_isB th k (dp (dir (k % 2 ^ D))) = true := by
  have o := sd_Dir_of S.2.1 k
  have e : k % 2 ^ dp (dir (k % 2 ^ D)) = en (dir (k % 2 ^ D)) % 2 ^ dp (dir (k % 2 ^ D)) := by rw [sd_Dir_en S.2.1 o.1, o.2.2.2]
  rw [sd_isB_e e, sd_isB_iff]
  exact ⟨by rw [← sd_ld S o.1]; exact C.2 _ o.1, C.1 _ o.1⟩
theorem sd_nb_eq (S : sd_St th yv en D bc kc dir us dp ld ks vs) (C : sd_Can th us dp en ld) (d : Nat) : sd_cn (fun b => decide (us b = 1) && decide (dp b = d)) 64 = yw_nb th d := by
  apply Nat.le_antisymm
  · refine sd_cn_inj 64 en ?_ ?_
    · intro b _ hb
      rw [Bool.and_eq_true, decide_eq_true_eq, decide_eq_true_eq] at hb
      have l := (S.2.1.2.2.2.2 b hb.1).2.1
      have a := sd_isB_at S C (en b)
      rw [sd_Dir_to S.2.1 hb.1 (sd_Dir_en S.2.1 hb.1), hb.2] at a
      rw [hb.2] at l
      exact ⟨l, a⟩
    · intro b c _ _ hb hc e
      rw [Bool.and_eq_true, decide_eq_true_eq, decide_eq_true_eq] at hb hc
      exact sd_Dir_inj S.2.1 hb.1 hc.1 (sd_Dir_en S.2.1 hb.1) (by rw [e]; exact sd_Dir_en S.2.1 hc.1)
  · refine sd_cn_inj (2 ^ d) (fun e => dir (e % 2 ^ D)) ?_ ?_
    · intro e he hp
      have o := sd_Dir_of S.2.1 e
      refine ⟨o.2.1, ?_⟩
      rw [Bool.and_eq_true, decide_eq_true_eq, decide_eq_true_eq]
      exact ⟨o.1, sd_isB_uq (sd_isB_at S C e) hp⟩
    · intro e f he hf hp hq z
      have o := sd_Dir_of S.2.1 e
      have p := sd_Dir_of S.2.1 f
      have z' : dir (e % 2 ^ D) = dir (f % 2 ^ D) := z
      have w := sd_isB_uq (sd_isB_at S C e) hp
      rw [← z'] at p
      have q := o.2.2.2.trans p.2.2.2.symm
      rw [w, Nat.mod_eq_of_lt he, Nat.mod_eq_of_lt hf] at q
      exact q
theorem sd_bc_eq (S : sd_St th yv en D bc kc dir us dp ld ks vs) (C : sd_Can th us dp en ld) : sd_sm (yw_nb th) 9 = bc := by
  rw [S.2.2.2.1, sd_sm_congr (h := fun d => sd_cn (fun b => decide (us b = 1) && decide (dp b = d)) 64) (fun d _ => (sd_nb_eq S C d).symm), sd_sm_cn]
  refine sd_cn_congr (fun b _ => ?_)
  by_cases z : us b = 1
  · have l := (S.2.1.2.2.2.2 b z).1
    have D6 := S.2.1.1
    rw [decide_eq_true (p := dp b < 9) (by omega), Bool.and_true]
  · rw [decide_eq_false z, Bool.false_and]
theorem sd_bc_64 (S : sd_St th yv en D bc kc dir us dp ld ks vs) : bc ≤ 64 := by
  rw [S.2.2.2.1]
  exact sd_cn_le _ 64
theorem sd_kc_256 (S : sd_St th yv en D bc kc dir us dp ld ks vs) : kc ≤ 256 := by
  rw [S.2.2.2.2]
  exact sd_cn_le _ 256
theorem sd_dp6 (S : sd_St th yv en D bc kc dir us dp ld ks vs) {b : Nat} (hb : us b = 1) : dp b ≤ 6 := Nat.le_trans (S.2.1.2.2.2.2 b hb).1 S.2.1.1
theorem sd_St_yv (S : sd_St th yv en D bc kc dir us dp ld ks vs) {yv' : Nat → Int32} (e : ∀ k, th k = 1 → yv' k = yv k) : sd_St th yv' en D bc kc dir us dp ld ks vs :=
  ⟨S.1, S.2.1, fun b hb => ⟨(S.2.2.1 b hb).1, sd_BK_yv (S.2.2.1 b hb).2 (fun k z => e k z.1)⟩, S.2.2.2⟩
/-- a key's value is changed -/
theorem sd_St_val (S : sd_St th yv en D bc kc dir us dp ld ks vs) {key b j : Nat} (v : Int32) (eb : dir (key % 2 ^ D) = b) (hj : j < ld b) (ek : ks (b * 5 + j) = key) : sd_St th (upd yv key v) en D bc kc dir us dp ld ks (upd vs (b * 5 + j) v) := by
  have o := sd_Dir_of S.2.1 key
  rw [eb] at o
  refine ⟨S.1, S.2.1, fun x hx => ?_, S.2.2.2⟩
  have c := S.2.2.1 x hx
  have cb := S.2.2.1 b o.1
  refine ⟨c.1, fun i hi => ?_, c.2.2⟩
  refine ⟨(c.2.1 i hi).1, ?_⟩
  by_cases z : x = b
  · by_cases w : i = j
    · rw [z, w, pk_us, ek, pk_us]
    · rw [z] at hi ⊢
      have n : ks (b * 5 + i) ≠ key := fun y => w (cb.2.2.1 i j hi hj (by rw [y, ek]))
      rw [pk_un (by omega), pk_un n]
      exact (cb.2.1 i hi).2
  · have n : ks (x * 5 + i) ≠ key := fun y => z (sd_Dir_inj S.2.1 hx o.1 (by rw [← y]; exact (c.2.1 i hi).1.2) o.2.2.2)
    have b5 := cb.1
    have c5 := c.1
    rw [pk_un (by omega), pk_un n]
    exact (c.2.1 i hi).2
theorem sd_hit (S : sd_St th yv en D bc kc dir us dp ld ks vs) {key j : Nat} (hj : j < ld (dir (key % 2 ^ D))) (e : ks (dir (key % 2 ^ D) * 5 + j) = key) : th key = 1 := by
  have o := sd_Dir_of S.2.1 key
  have w := ((S.2.2.1 _ o.1).2.1 j hj).1.1
  rw [e] at w
  exact w
theorem sd_mis (S : sd_St th yv en D bc kc dir us dp ld ks vs) {key : Nat} (h : ∀ j, j < ld (dir (key % 2 ^ D)) → ks (dir (key % 2 ^ D) * 5 + j) ≠ key) : th key = 0 := by
  refine sd_thz S (fun z => ?_)
  have o := sd_Dir_of S.2.1 key
  obtain ⟨j, hj, e⟩ := (S.2.2.1 _ o.1).2.2.2 key ⟨z, o.2.2.2⟩
  exact h j hj e
theorem xw_has (S : sd_St th yv en D bc kc dir us dp ld ks vs) {post : Int32 → Prop} {key : Nat} (hk : key < 256) (h1 : th key = 1 → post 1) (h0 : th key = 0 → post 0) : wpX_has post (xw_S D bc kc dir us dp ld ks vs) (nI key) := by
  have o := sd_Dir_of S.2.1 key
  have c5 := (S.2.2.1 _ o.1).1
  unfold wpX_has xw_S
  refine xw_isKey_t hk (br_f (by decide) (xw_bucketOf hk S.2.1.1 (xw_find S o.1 hk (fun j hj e => br_f (nI_pos (by omega)) (h1 (sd_hit S hj e))) (fun m => br_t (by decide) (h0 (sd_mis S m))))))
theorem xw_has_o {post : Int32 → Prop} {x : Int32} (hx : x < 0 ∨ nI 256 ≤ x) (h : post 0) : wpX_has post (xw_S D bc kc dir us dp ld ks vs) x := by
  unfold wpX_has xw_S
  exact xw_isKey_f hx (br_t rfl h)
theorem xw_remove (S : sd_St th yv en D bc kc dir us dp ld ks vs) (C : sd_Can th us dp en ld) {post : Int32 → SX → Prop} {key : Nat} (hk : key < 256) (t1 : th key = 1) (h : ∀ en' D' bc' dir' us' dp' ld' ks' vs', sd_St (sd_un th key 0) yv en' D' bc' (kc - 1) dir' us' dp' ld' ks' vs' → sd_Can (sd_un th key 0) us' dp' en' ld' → post (nI bc') (xw_S D' bc' (kc - 1) dir' us' dp' ld' ks' vs')) : wpX_remove post (xw_S D bc kc dir us dp ld ks vs) (nI key) := by
  have o := sd_Dir_of S.2.1 key
  unfold wpX_remove xw_S
  refine xw_has S hk (fun _ => br_f (by decide) ?_) (fun z => by omega)
  refine xw_bucketOf hk S.2.1.1 (xw_find S o.1 hk (fun j hj e => ?_) (fun m => by have := sd_mis S m; omega))
  refine xw_delete S C hk rfl hj e ?_
  intro en' D' bc' dir' us' dp' ld' ks' vs' S' C'
  exact h _ _ _ _ _ _ _ _ _ S' C'
theorem xw_next_t (S : sd_St th yv en D bc kc dir us dp ld ks vs) {post : Int32 → Prop} {k s : Nat} (hk : k < 256) (tk : th k = 1) (hl : ∀ j, s ≤ j → j < k → th j = 0) (h : post (nI k)) (n : Nat) : ∀ i, s ≤ i → i ≤ k → k < n + i → wX_next_10 post (nI D) (nI bc) (nI kc) (sd_nF dir) (sd_nF us) (sd_nF dp) (sd_nF ld) (sd_nF ks) vs n (nI i) := by
  induction n with
  | zero => intro i h0 h1 h2; omega
  | succ n ih =>
    intro i h0 h1 h2
    simp only [wX_next_10, forall_eq, nI_1]
    refine br_f (nI_ge (b := 256) (by omega) (by decide)) ?_
    refine xw_has S (by omega) (fun z => br_f (by decide) ?_) (fun z => br_t rfl ?_)
    · have e : i = k := by
        rcases Nat.lt_or_ge i k with a | a
        · have := hl i h0 a
          omega
        · omega
      rw [e]
      exact h
    · have e : i ≠ k := fun w => by rw [w] at z; omega
      exact ih (i + 1) (by omega) (by omega) (by omega)
theorem xw_next_f (S : sd_St th yv en D bc kc dir us dp ld ks vs) {post : Int32 → Prop} {s : Nat} (hl : ∀ j, s ≤ j → j < 256 → th j = 0) (h : post (-1)) (n : Nat) : ∀ i, s ≤ i → i < 2 ^ 31 → 256 < n + i → 0 < n → wX_next_10 post (nI D) (nI bc) (nI kc) (sd_nF dir) (sd_nF us) (sd_nF dp) (sd_nF ld) (sd_nF ks) vs n (nI i) := by
  induction n with
  | zero => intro i h0 h1 h2 h3; omega
  | succ n ih =>
    intro i h0 h1 h2 h3
    simp only [wX_next_10, forall_eq, nI_1]
    refine pk_le 256 i (fun _ => h) (fun z => ?_)
    refine xw_has S z (fun w => ?_) (fun w => br_t rfl ?_)
    · have := hl i h0 z
      omega
    · exact ih (i + 1) (by omega) (by omega) (by omega) (by omega)
theorem xw_inBucket_35 {post : Int32 → Prop} {J : Int32 → Prop} {fd fb fk : Int32} {ad au ap av : Nat → Int32} {q : Int32} {b i : Nat} (hb : b < 64) (l5 : ld b ≤ 5) (hi : i < ld b) (hs : ∀ j, j < ld b → ks (b * 5 + j) < 256) (ht : nI (sd_cn (fun j => decide (ks (b * 5 + j) < ks (b * 5 + i))) (ld b)) = q → post (nI (ks (b * 5 + i)))) (hf : nI (sd_cn (fun j => decide (ks (b * 5 + j) < ks (b * 5 + i))) (ld b)) ≠ q → J (nI (i + 1))) (n : Nat) : ∀ j, j ≤ ld b → ld b < n + j → wX_inBucket_35 post J q (nI b) (nI i) fd fb fk ad au ap (sd_nF ld) (sd_nF ks) av n (nI (sd_cn (fun j => decide (ks (b * 5 + j) < ks (b * 5 + i))) j)) (nI j) := by
  induction n with
  | zero => intro j h1 h2; omega
  | succ n ih =>
    intro j h1 h2
    have hj := ih (j + 1)
    have e0 : ∀ x : Int32, x + 0 = x := Int32.add_zero
    have e1 : (nI b).toNatClampNeg = b := nI_clamp (by omega)
    have e2 : (nI (b * 5 + i)).toNatClampNeg = b * 5 + i := nI_clamp (by omega)
    have e3 : (nI (b * 5 + j)).toNatClampNeg = b * 5 + j := nI_clamp (by omega)
    have i2 : vp_in (nI (b * 5 + i)) 325 := xw_in (by omega) (by decide)
    have si := hs i hi
    simp only [wX_inBucket_35, forall_eq, nI_1, e0, e1, sd_nFa, xw_cell, e2, e3]
    refine ⟨xw_in (by omega) (by decide), pk_le (ld b) j (fun z => ?_) (fun z => ⟨xw_in (by omega) (by decide), i2, ?_⟩)⟩
    · rw [show j = ld b by omega]
      exact br_c (fun w => ⟨i2, ht w⟩) (fun w => hf w)
    · have sj := hs j z
      refine pk_le (ks (b * 5 + i)) (ks (b * 5 + j)) (fun w => ?_) (fun w => ?_)
      · rw [sd_cn_f (decide_eq_false (by omega))] at hj
        exact hj (by omega) (by omega)
      · rw [sd_cn_t (decide_eq_true (by omega))] at hj
        exact hj (by omega) (by omega)
theorem xw_inBucket_18 {post : Int32 → Prop} {fd fb fk : Int32} {ad au ap av : Nat → Int32} {q : Int32} {b : Nat} (hb : b < 64) (l5 : ld b ≤ 5) (hs : ∀ j, j < ld b → ks (b * 5 + j) < 256) (hit : ∀ i, i < ld b → nI (sd_cn (fun j => decide (ks (b * 5 + j) < ks (b * 5 + i))) (ld b)) = q → post (nI (ks (b * 5 + i)))) (mis : (∀ i, i < ld b → nI (sd_cn (fun j => decide (ks (b * 5 + j) < ks (b * 5 + i))) (ld b)) ≠ q) → post (-1)) (n : Nat) : ∀ i, i ≤ ld b → ld b < n + i → (∀ j, j < i → nI (sd_cn (fun x => decide (ks (b * 5 + x) < ks (b * 5 + j))) (ld b)) ≠ q) → wX_inBucket_18 post q (nI b) fd fb fk ad au ap (sd_nF ld) (sd_nF ks) av n (nI i) := by
  induction n with
  | zero => intro i h1 h2; omega
  | succ n ih =>
    intro i h1 h2 h3
    have e1 : (nI b).toNatClampNeg = b := nI_clamp (by omega)
    simp only [wX_inBucket_18, e1, sd_nFa]
    refine ⟨xw_in (by omega) (by decide), pk_le (ld b) i (fun z => mis (fun j hj => h3 j (by omega))) (fun z => ⟨ld b + 1, ?_⟩)⟩
    refine xw_inBucket_35 hb l5 z hs (fun w => hit i z w) (fun w => ih (i + 1) (by omega) (by omega) (fun j hj => ?_)) (ld b + 1) 0 (by omega) (by omega)
    by_cases x : j = i
    · rw [x]; exact w
    · exact h3 j (by omega)
theorem yw_put_31 {post : Int32 → SY → Prop} {key : Nat} {v : Int32} (t : ∀ k, th k ≤ 1) (hk : key < 256) (h : ∀ cts, post (nI (sd_sm (yw_nb (sd_un th key 1)) 9)) (sd_nF (sd_un th key 1), upd yv key v, cts)) : wY_put_31 post (nI key) v (sd_nF th) yv cts := by
  have e1 : (nI key).toNatClampNeg = key := nI_clamp (by omega)
  unfold wY_put_31
  simp only [forall_eq, e1, xw_t1, sd_nFu]
  refine ⟨xw_in hk (by decide), xw_in hk (by decide), ?_⟩
  refine yw_buckets ?_ (fun cts' => h cts')
  intro k
  by_cases z : k = key
  · rw [sd_ue z]; exact Nat.le_refl 1
  · rw [sd_ux z]; exact t k
theorem yw_has {post : Int32 → Prop} {key : Nat} (t : ∀ k, th k ≤ 1) (hk : key < 256) (h1 : th key = 1 → post 1) (h0 : th key = 0 → post 0) : wpY_has post (sd_nF th, yv, cts) (nI key) := by
  have e1 : (nI key).toNatClampNeg = key := nI_clamp (by omega)
  have tk := t key
  unfold wpY_has
  refine yw_key_t hk (br_f (by decide) ?_)
  simp only [e1, sd_nFa]
  exact ⟨xw_in hk (by decide), pk_eq (th key) 0 h0 (fun z => h1 (by omega))⟩
theorem yw_has_o {post : Int32 → Prop} {x : Int32} (hx : x < 0 ∨ nI 256 ≤ x) (h : post 0) : wpY_has post (sd_nF th, yv, cts) x := by
  unfold wpY_has
  exact yw_key_f hx (br_t rfl h)
end
end
section
/-- both sides hold the same keys with the same values; the buckets are well formed, and just those that the reference counts -/
def i_Rel (k : Nat) (u : SX) (v : SY) : Prop :=
  ∃ (th : Nat → Nat) (yv cts : Nat → Int32) (en : Nat → Nat) (D bc kc : Nat) (dir us dp ld ks : Nat → Nat) (vs : Nat → Int32), u = xw_S D bc kc dir us dp ld ks vs ∧ v = (sd_nF th, yv, cts) ∧ sd_St th yv en D bc kc dir us dp ld ks vs ∧ sd_Can th us dp en ld
theorem rl_mk {k : Nat} {th : Nat → Nat} {yv cts : Nat → Int32} {en : Nat → Nat} {D bc kc : Nat} {dir us dp ld ks : Nat → Nat} {vs : Nat → Int32} (S : sd_St th yv en D bc kc dir us dp ld ks vs) (C : sd_Can th us dp en ld) : i_Rel k (xw_S D bc kc dir us dp ld ks vs) (sd_nF th, yv, cts) :=
  ⟨th, yv, cts, en, D, bc, kc, dir, us, dp, ld, ks, vs, rfl, rfl, S, C⟩
theorem rl_el {k : Nat} {P : SX → SY → Prop} (h : ∀ (th : Nat → Nat) (yv cts : Nat → Int32) (en : Nat → Nat) (D bc kc : Nat) (dir us dp ld ks : Nat → Nat) (vs : Nat → Int32), sd_St th yv en D bc kc dir us dp ld ks vs → sd_Can th us dp en ld → P (xw_S D bc kc dir us dp ld ks vs) (sd_nF th, yv, cts)) {u : SX} {v : SY} (I : i_Rel k u v) : P u v := by
  obtain ⟨th, yv, cts, en, D, bc, kc, dir, us, dp, ld, ks, vs, rfl, rfl, S, C⟩ := I
  exact h th yv cts en D bc kc dir us dp ld ks vs S C
theorem i_up {k : Nat} {u : SX} {v : SY} (h : i_Rel k u v) : i_Rel (k + 3) u v := h
theorem rl_ix (x : Int32) : (x < 0 ∨ nI 256 ≤ x) ∨ ∃ j : Nat, j < 256 ∧ x = nI j := by
  rcases pk_ix x (n := 256) (by decide) with a | a | a
  · exact Or.inl (Or.inl a)
  · exact Or.inl (Or.inr a)
  · exact Or.inr a
theorem rl_0 : (fun _ : Nat => (0 : Int32)) = sd_nF (fun _ => 0) := rfl
theorem i_vc0 : wpX_init (fun u => wpY_init (fun v => i_Rel 0 u v)) := by
  unfold wpX_init wpY_init
  simp only [forall_eq]
  have e : upd (fun _ : Nat => (0 : Int32)) 0 (vp_nar .boolean 1) = sd_nF (sd_un (fun _ => 0) 0 1) := by
    rw [rl_0, xw_t1, sd_nFu]
  rw [e]
  have u0 : ∀ b, sd_un (fun _ => 0) 0 1 b = 1 → b = 0 := fun b hb => by
    by_cases z : b = 0
    · exact z
    · rw [sd_ux z] at hb
      exact absurd hb (by decide)
  refine rl_mk (th := fun _ => 0) (yv := fun _ => 0) (en := fun _ => 0) (D := 0) (bc := 1) (kc := 0) (dir := fun _ => 0) (us := sd_un (fun _ => 0) 0 1) (dp := fun _ => 0) (ld := fun _ => 0) (ks := fun _ => 0) (vs := fun _ => 0) ⟨⟨?_, ?_⟩, ⟨?_, ?_, ?_, ?_, ?_⟩, ?_, ?_, ?_⟩ ⟨?_, ?_⟩
  · intro k; exact Nat.zero_le 1
  · intro k hk; exact absurd (show (0 : Nat) = 1 from hk) (by decide)
  · exact Nat.zero_le 6
  · intro b
    by_cases z : b = 0
    · rw [sd_ue z]; exact Nat.le_refl 1
    · rw [sd_ux z]; exact Nat.zero_le 1
  · intro b hb
    rw [u0 b hb]; decide
  · intro i _
    exact sd_us
  · intro b hb
    refine ⟨Nat.le_refl 0, show 0 < 2 ^ 0 by decide, fun i hi => ?_⟩
    rw [u0 b hb]
    exact ⟨fun _ => Nat.mod_one i, fun _ => rfl⟩
  · intro b hb
    exact ⟨Nat.zero_le 5, sd_BK_0 _ _ _ _ (fun k z => absurd (show (0 : Nat) = 1 from z.1) (by decide))⟩
  · refine ((sd_cn_add (p := fun _ => false) (a := 0) (n := 64) (by decide) ?_ rfl ?_).trans ?_).symm
    · intro i hi
      exact decide_eq_false (fun z => hi (u0 i z))
    · exact decide_eq_true sd_us
    · rw [sd_cn_zero (fun _ _ => rfl)]
  · exact (sd_cn_zero (fun i _ => rfl)).symm
  · intro b hb
    exact Or.inl rfl
  · intro b hb
    exact Nat.zero_le 4
theorem i_vc_put {k : Nat} {u : SX} {v : SY} (I : i_Rel k u v) (hk : k + 3 ≤ 1536) (v1 : Int32) (v2 : Int32) : wpX_put (fun r u' => wpY_put (fun r' v' => r' = r ∧ i_Rel (k + 3) u' v') v v1 v2) u v1 v2 := by
  refine rl_el (P := fun u v => wpX_put (fun r u' => wpY_put (fun r' v' => r' = r ∧ i_Rel (k + 3) u' v') v v1 v2) u v1 v2) ?_ I
  intro th yv cts en D bc kc dir us dp ld ks vs S C
  rcases rl_ix v1 with hx | ⟨key, h6, rfl⟩
  · unfold wpX_put xw_S
    refine xw_isKey_f hx (br_t rfl ?_)
    unfold wpY_put
    exact yw_key_f hx (br_t rfl ⟨rfl, rl_mk S C⟩)
  · have o := sd_Dir_of S.2.1 key
    have c5 := (S.2.2.1 _ o.1).1
    have t := S.1.1
    have e1 : (nI key).toNatClampNeg = key := nI_clamp (by omega)
    have k256 := sd_kc_256 S
    have kcn : nI kc = nI (sd_cn (fun k => decide (th k = 1)) 256) := by rw [← S.2.2.2.2]
    unfold wpX_put xw_S
    refine xw_isKey_t h6 (br_f (by decide) (xw_bucketOf h6 S.2.1.1 (xw_find S o.1 h6 (fun j hj e => br_f (nI_pos (by omega)) ?_) (fun m => br_t (by decide) ?_))))
    · have e2 : (nI (dir (key % 2 ^ D) * 5 + j)).toNatClampNeg = dir (key % 2 ^ D) * 5 + j := nI_clamp (by omega)
      have t1 := sd_hit S hj e
      simp only [xw_cell, e2, forall_eq]
      refine ⟨xw_in (by omega) (by decide), ?_⟩
      unfold wpY_put
      refine yw_key_t h6 (br_f (by decide) ?_)
      simp only [e1, sd_nFa]
      refine ⟨xw_in h6 (by decide), br_f (nI_ne0 (by omega) (by omega)) (yw_put_31 t h6 (fun cts' => ?_))⟩
      rw [sd_un_eq t1]
      exact ⟨by rw [sd_bc_eq S C], rl_mk (sd_St_val S v2 rfl hj e) C⟩
    · have t0 := sd_mis S m
      refine pk_lt kc 40 (fun z => ?_) (fun z => ?_)
      · refine xw_insert S C v2 h6 t0 ?_
        intro en' D' bc' dir' us' dp' ld' ks' vs' S' C'
        unfold wpY_put
        refine yw_key_t h6 (br_f (by decide) ?_)
        simp only [e1, sd_nFa]
        refine ⟨xw_in h6 (by decide), br_t (by rw [t0]; rfl) (yw_size t (br_t ?_ (yw_put_31 t h6 (fun cts' => ?_))))⟩
        · rw [← kcn]
          exact nI_lt (b := 40) z (by decide)
        · exact ⟨by rw [sd_bc_eq S' C'], rl_mk S' C'⟩
      · unfold wpY_put
        refine yw_key_t h6 (br_f (by decide) ?_)
        simp only [e1, sd_nFa]
        refine ⟨xw_in h6 (by decide), br_t (by rw [t0]; rfl) (yw_size t (br_f ?_ ⟨by trivial, rl_mk S C⟩))⟩
        rw [← kcn]
        exact nI_nlt (b := 40) z (by omega)
theorem i_vc_remove {k : Nat} {u : SX} {v : SY} (I : i_Rel k u v) (hk : k + 3 ≤ 1536) (v1 : Int32) : wpX_remove (fun r u' => wpY_remove (fun r' v' => r' = r ∧ i_Rel (k + 3) u' v') v v1) u v1 := by
  refine rl_el (P := fun u v => wpX_remove (fun r u' => wpY_remove (fun r' v' => r' = r ∧ i_Rel (k + 3) u' v') v v1) u v1) ?_ I
  intro th yv cts en D bc kc dir us dp ld ks vs S C
  have t := S.1.1
  rcases rl_ix v1 with hx | ⟨key, h6, rfl⟩
  · unfold wpX_remove xw_S
    refine xw_has_o hx (br_t rfl ?_)
    unfold wpY_remove
    exact yw_has_o hx (br_t rfl ⟨rfl, rl_mk S C⟩)
  · by_cases t1 : th key = 1
    · refine xw_remove S C h6 t1 ?_
      intro en' D' bc' dir' us' dp' ld' ks' vs' S' C'
      have e1 : (nI key).toNatClampNeg = key := nI_clamp (by omega)
      unfold wpY_remove
      refine yw_has t h6 (fun _ => br_f (by decide) ?_) (fun z => by omega)
      simp only [e1, xw_t0, sd_nFu, forall_eq]
      refine ⟨xw_in h6 (by decide), yw_buckets S'.1.1 (fun cts' => ?_)⟩
      exact ⟨by rw [sd_bc_eq S' C'], rl_mk S' C'⟩
    · unfold wpX_remove xw_S
      refine xw_has S h6 (fun z => absurd z t1) (fun z => br_t rfl ?_)
      unfold wpY_remove
      exact yw_has t h6 (fun z => absurd z t1) (fun z => br_t rfl ⟨rfl, rl_mk S C⟩)
theorem i_vc_has {k : Nat} {u : SX} {v : SY} (I : i_Rel k u v) (hk : k + 3 ≤ 1536) (v1 : Int32) : wpX_has (fun r => wpY_has (fun r' => r' = r ∧ i_Rel (k + 3) u v) v v1) u v1 := by
  refine rl_el (P := fun u v => wpX_has (fun r => wpY_has (fun r' => r' = r ∧ i_Rel (k + 3) u v) v v1) u v1) ?_ I
  intro th yv cts en D bc kc dir us dp ld ks vs S C
  have t := S.1.1
  rcases rl_ix v1 with hx | ⟨key, h6, rfl⟩
  · exact xw_has_o hx (yw_has_o hx ⟨rfl, rl_mk S C⟩)
  · exact xw_has S h6 (fun z => yw_has t h6 (fun _ => ⟨rfl, rl_mk S C⟩) (fun w => by omega)) (fun z => yw_has t h6 (fun w => by omega) (fun _ => ⟨rfl, rl_mk S C⟩))
theorem i_vc_get {k : Nat} {u : SX} {v : SY} (I : i_Rel k u v) (hk : k + 3 ≤ 1536) (v1 : Int32) : wpX_get (fun r => wpY_get (fun r' => r' = r ∧ i_Rel (k + 3) u v) v v1) u v1 := by
  refine rl_el (P := fun u v => wpX_get (fun r => wpY_get (fun r' => r' = r ∧ i_Rel (k + 3) u v) v v1) u v1) ?_ I
  intro th yv cts en D bc kc dir us dp ld ks vs S C
  have t := S.1.1
  unfold wpX_get xw_S
  rcases rl_ix v1 with hx | ⟨key, h6, rfl⟩
  · refine xw_has_o hx (br_t rfl ?_)
    unfold wpY_get
    exact yw_has_o hx (br_t rfl ⟨rfl, rl_mk S C⟩)
  · have o := sd_Dir_of S.2.1 key
    have c5 := (S.2.2.1 _ o.1).1
    have e1 : (nI key).toNatClampNeg = key := nI_clamp (by omega)
    refine xw_has S h6 (fun t1 => br_f (by decide) ?_) (fun t0 => br_t rfl ?_)
    · refine xw_bucketOf h6 S.2.1.1 (xw_find S o.1 h6 (fun j hj e => br_t (nI_pos' (by omega)) ?_) (fun m => by have := sd_mis S m; omega))
      have e2 : (nI (dir (key % 2 ^ D) * 5 + j)).toNatClampNeg = dir (key % 2 ^ D) * 5 + j := nI_clamp (by omega)
      simp only [xw_cell, e2]
      refine ⟨xw_in (by omega) (by decide), ?_⟩
      unfold wpY_get
      refine yw_has t h6 (fun _ => br_f (by decide) ?_) (fun z => by omega)
      simp only [e1]
      refine ⟨xw_in h6 (by decide), ?_, rl_mk S C⟩
      rw [((S.2.2.1 _ o.1).2.1 j hj).2, e]
    · unfold wpY_get
      exact yw_has t h6 (fun z => by omega) (fun z => br_t rfl ⟨rfl, rl_mk S C⟩)
theorem i_vc_size {k : Nat} {u : SX} {v : SY} (I : i_Rel k u v) (hk : k + 3 ≤ 1536) : wpX_size (fun r => wpY_size (fun r' => r' = r ∧ i_Rel (k + 3) u v) v) u := by
  refine rl_el (P := fun u v => wpX_size (fun r => wpY_size (fun r' => r' = r ∧ i_Rel (k + 3) u v) v) u) ?_ I
  intro th yv cts en D bc kc dir us dp ld ks vs S C
  unfold wpX_size xw_S
  exact yw_size S.1.1 ⟨by rw [S.2.2.2.2], rl_mk S C⟩
theorem i_vc_buckets {k : Nat} {u : SX} {v : SY} (I : i_Rel k u v) (hk : k + 3 ≤ 1536) : wpX_buckets (fun r => wpY_buckets (fun r' v' => r' = r ∧ i_Rel (k + 3) u v') v) u := by
  refine rl_el (P := fun u v => wpX_buckets (fun r => wpY_buckets (fun r' v' => r' = r ∧ i_Rel (k + 3) u v') v) u) ?_ I
  intro th yv cts en D bc kc dir us dp ld ks vs S C
  unfold wpX_buckets xw_S
  exact yw_buckets S.1.1 (fun cts' => ⟨by rw [sd_bc_eq S C], rl_mk S C⟩)
theorem sd_nb_pos {th : Nat → Nat} {yv : Nat → Int32} {en : Nat → Nat} {D bc kc : Nat} {dir us dp ld ks : Nat → Nat} {vs : Nat → Int32} (S : sd_St th yv en D bc kc dir us dp ld ks vs) (C : sd_Can th us dp en ld) (d : Nat) : 0 < yw_nb th d ↔ ∃ b, b < 64 ∧ us b = 1 ∧ dp b = d := by
  rw [← sd_nb_eq S C d]
  constructor
  · intro h
    obtain ⟨b, hb, z⟩ := sd_cn_pex h
    rw [Bool.and_eq_true, decide_eq_true_eq, decide_eq_true_eq] at z
    exact ⟨b, hb, z⟩
  · intro h
    obtain ⟨b, hb, z⟩ := h
    refine sd_cn_pos hb ?_
    rw [Bool.and_eq_true, decide_eq_true_eq, decide_eq_true_eq]
    exact z
theorem i_vc_deepest {k : Nat} {u : SX} {v : SY} (I : i_Rel k u v) (hk : k + 3 ≤ 1536) : wpX_deepest (fun r => wpY_deepest (fun r' v' => r' = r ∧ i_Rel (k + 3) u v') v) u := by
  refine rl_el (P := fun u v => wpX_deepest (fun r => wpY_deepest (fun r' v' => r' = r ∧ i_Rel (k + 3) u v') v) u) ?_ I
  intro th yv cts en D bc kc dir us dp ld ks vs S C
  refine xw_deepest S.2.1.2.1 (fun b hb => sd_dp6 S hb) (fun m m6 hm hm' => ?_)
  refine yw_deepest S.1.1 (fun m2 cts' h1 h2 => ⟨congrArg nI ?_, rl_mk S C⟩)
  have a : m ≤ m2 := by
    rcases hm' with z | z
    · omega
    · exact h1 m (by omega) ((sd_nb_pos S C m).mpr z)
  have b : m2 ≤ m := by
    rcases h2 with z | z
    · omega
    · obtain ⟨b, hb, z1, z2⟩ := (sd_nb_pos S C m2).mp z.2
      have := hm b hb z1
      omega
  omega
end
section
theorem sd_cp_e {th : Nat → Nat} {e e' d : Nat} (h : e % 2 ^ d = e' % 2 ^ d) : sd_cp th e d = sd_cp th e' d := by
  funext k
  unfold sd_cp
  rw [h]
theorem i_vc_depthOf {k : Nat} {u : SX} {v : SY} (I : i_Rel k u v) (hk : k + 3 ≤ 1536) (v1 : Int32) : wpX_depthOf (fun r => wpY_depthOf (fun r' v' => r' = r ∧ i_Rel (k + 3) u v') v v1) u v1 := by
  refine rl_el (P := fun u v => wpX_depthOf (fun r => wpY_depthOf (fun r' v' => r' = r ∧ i_Rel (k + 3) u v') v v1) u v1) ?_ I
  intro th yv cts en D bc kc dir us dp ld ks vs S C
  unfold wpX_depthOf xw_S
  rcases rl_ix v1 with hx | ⟨key, h6, rfl⟩
  · exact xw_isKey_f hx (br_t rfl (yw_depthOf_o S.1.1 hx (fun cts' => ⟨rfl, rl_mk S C⟩)))
  · have o := sd_Dir_of S.2.1 key
    have d6 := sd_dp6 S o.1
    have e1 : (nI (dir (key % 2 ^ D))).toNatClampNeg = dir (key % 2 ^ D) := nI_clamp (by omega)
    refine xw_isKey_t h6 (br_f (by decide) (xw_bucketOf h6 S.2.1.1 ?_))
    simp only [e1, sd_nFa]
    exact ⟨xw_in (by omega) (by decide), yw_depthOf S.1.1 h6 (by omega) (sd_isB_at S C key) (fun cts' _ => ⟨rfl, rl_mk S C⟩)⟩
theorem i_vc_load {k : Nat} {u : SX} {v : SY} (I : i_Rel k u v) (hk : k + 3 ≤ 1536) (v1 : Int32) : wpX_load (fun r => wpY_load (fun r' v' => r' = r ∧ i_Rel (k + 3) u v') v v1) u v1 := by
  refine rl_el (P := fun u v => wpX_load (fun r => wpY_load (fun r' v' => r' = r ∧ i_Rel (k + 3) u v') v v1) u v1) ?_ I
  intro th yv cts en D bc kc dir us dp ld ks vs S C
  unfold wpX_load xw_S
  rcases rl_ix v1 with hx | ⟨key, h6, rfl⟩
  · refine xw_isKey_f hx (br_t rfl ?_)
    unfold wpY_load
    exact yw_depthOf_o S.1.1 hx (fun cts' => br_f (by decide) ⟨rfl, rl_mk S C⟩)
  · have o := sd_Dir_of S.2.1 key
    have d6 := sd_dp6 S o.1
    have e1 : (nI (dir (key % 2 ^ D))).toNatClampNeg = dir (key % 2 ^ D) := nI_clamp (by omega)
    refine xw_isKey_t h6 (br_f (by decide) (xw_bucketOf h6 S.2.1.1 ?_))
    simp only [e1, sd_nFa]
    refine ⟨xw_in (by omega) (by decide), ?_⟩
    unfold wpY_load
    refine yw_depthOf S.1.1 h6 (by omega) (sd_isB_at S C key) (fun cts' Ct => br_t (nI_pos' (by omega)) (yw_ending h6 (by omega) ?_))
    have q := Nat.two_pow_pos (dp (dir (key % 2 ^ D)))
    have lk := sd_lt key (dp (dir (key % 2 ^ D)))
    have p := yw_256 (show dp (dir (key % 2 ^ D)) ≤ 8 by omega)
    have e2 : (nI (2 ^ dp (dir (key % 2 ^ D)) - 1 + key % 2 ^ dp (dir (key % 2 ^ D)))).toNatClampNeg = 2 ^ dp (dir (key % 2 ^ D)) - 1 + key % 2 ^ dp (dir (key % 2 ^ D)) := nI_clamp (by omega)
    rw [e2]
    refine ⟨xw_in (by omega) (by decide), ?_, rl_mk S C⟩
    rw [yw_at Ct (by omega), sd_ld S o.1, ← o.2.2.2, sd_ct_e (Nat.mod_mod _ _)]
theorem i_vc_inBucket {k : Nat} {u : SX} {v : SY} (I : i_Rel k u v) (hk : k + 3 ≤ 1536) (v1 : Int32) (v2 : Int32) : wpX_inBucket (fun r => wpY_inBucket (fun r' v' => r' = r ∧ i_Rel (k + 3) u v') v v1 v2) u v1 v2 := by
  refine rl_el (P := fun u v => wpX_inBucket (fun r => wpY_inBucket (fun r' v' => r' = r ∧ i_Rel (k + 3) u v') v v1 v2) u v1 v2) ?_ I
  intro th yv cts en D bc kc dir us dp ld ks vs S C
  unfold wpX_inBucket xw_S
  rcases rl_ix v1 with hx | ⟨key, h6, rfl⟩
  · refine xw_isKey_f hx (br_t rfl ?_)
    unfold wpY_inBucket
    refine yw_depthOf_o S.1.1 hx (fun cts' => ⟨1, ?_⟩)
    simp only [wY_inBucket_12]
    exact br_f (by decide) (br_t (by decide) ⟨by trivial, rl_mk S C⟩)
  · have o := sd_Dir_of S.2.1 key
    have d6 := sd_dp6 S o.1
    have B := S.2.2.1 _ o.1
    have cpe : sd_cp th (en (dir (key % 2 ^ D))) (dp (dir (key % 2 ^ D))) = sd_cp th key (dp (dir (key % 2 ^ D))) := sd_cp_e (by rw [← o.2.2.2, Nat.mod_mod])
    have HP : ∀ x, (th x = 1 ∧ x % 2 ^ dp (dir (key % 2 ^ D)) = en (dir (key % 2 ^ D))) ↔ (x < 256 ∧ sd_cp th key (dp (dir (key % 2 ^ D))) x = true) := fun x => by
      rw [← cpe]
      exact sd_cpe S o.1 x
    have rk : ∀ i, i < ld (dir (key % 2 ^ D)) → sd_cn (fun j => decide (ks (dir (key % 2 ^ D) * 5 + j) < ks (dir (key % 2 ^ D) * 5 + i))) (ld (dir (key % 2 ^ D))) = sd_cn (sd_cp th key (dp (dir (key % 2 ^ D)))) (ks (dir (key % 2 ^ D) * 5 + i)) := fun i hi =>
      sd_BK_rk B.2 HP (Nat.le_of_lt (sd_ks S o.1 hi))
    have bd : ∀ j, j < 256 → sd_cn (sd_cp th key (dp (dir (key % 2 ^ D)))) j < 2 ^ 31 := fun j hj => by
      have := sd_cn_le (sd_cp th key (dp (dir (key % 2 ^ D)))) j
      omega
    refine xw_isKey_t h6 (br_f (by decide) (xw_bucketOf h6 S.2.1.1 ⟨ld (dir (key % 2 ^ D)) + 1, ?_⟩))
    refine xw_inBucket_18 o.2.1 B.1 (fun j hj => sd_ks S o.1 hj) (fun i hi e => ?_) (fun m => ?_) _ 0 (by omega) (by omega) (fun j hj => by omega)
    · rw [rk i hi] at e
      have pi := ((HP _).mp (B.2.1 i hi).1)
      unfold wpY_inBucket
      refine yw_depthOf S.1.1 h6 (by omega) (sd_isB_at S C key) (fun cts' _ => ⟨257, ?_⟩)
      refine yw_inBucket_12 h6 (by omega) S.1.1 (fun j hj pj ej => ⟨?_, rl_mk S C⟩) (fun m => absurd e (m _ pi.1 pi.2)) 257 0 (by omega) (by omega) (fun j hj => by omega)
      rw [← e, nI_eq (bd j hj) (bd _ pi.1)] at ej
      rw [sd_cn_uq pj pi.2 ej]
    · unfold wpY_inBucket
      refine yw_depthOf S.1.1 h6 (by omega) (sd_isB_at S C key) (fun cts' _ => ⟨257, ?_⟩)
      refine yw_inBucket_12 h6 (by omega) S.1.1 (fun j hj pj ej => ?_) (fun _ => ⟨rfl, rl_mk S C⟩) 257 0 (by omega) (by omega) (fun j hj => by omega)
      exfalso
      obtain ⟨i, hi, ei⟩ := B.2.2.2 j ((HP j).mpr ⟨hj, pj⟩)
      refine m i hi ?_
      rw [rk i hi, ei, ej]
theorem i_vc_together {k : Nat} {u : SX} {v : SY} (I : i_Rel k u v) (hk : k + 3 ≤ 1536) (v1 : Int32) (v2 : Int32) : wpX_together (fun r => wpY_together (fun r' v' => r' = r ∧ i_Rel (k + 3) u v') v v1 v2) u v1 v2 := by
  refine rl_el (P := fun u v => wpX_together (fun r => wpY_together (fun r' v' => r' = r ∧ i_Rel (k + 3) u v') v v1 v2) u v1 v2) ?_ I
  intro th yv cts en D bc kc dir us dp ld ks vs S C
  unfold wpX_together xw_S
  rcases rl_ix v1 with hx | ⟨a, a6, rfl⟩
  · refine xw_isKey_f hx (br_t rfl ?_)
    unfold wpY_together
    exact yw_depthOf_o S.1.1 hx (fun cts' => br_t (by decide) ⟨rfl, rl_mk S C⟩)
  · have o := sd_Dir_of S.2.1 a
    have d6 := sd_dp6 S o.1
    refine xw_isKey_t a6 (br_f (by decide) ?_)
    rcases rl_ix v2 with hy | ⟨b, b6, rfl⟩
    · refine xw_isKey_f hy (br_t rfl ?_)
      unfold wpY_together
      refine yw_depthOf S.1.1 a6 (by omega) (sd_isB_at S C a) (fun cts' _ => br_f (nI_pos (by omega)) ?_)
      exact yw_key_f hy (br_t rfl ⟨rfl, rl_mk S C⟩)
    · have p := sd_Dir_of S.2.1 b
      have q := Nat.two_pow_pos (dp (dir (a % 2 ^ D)))
      have l1 := sd_lt a (dp (dir (a % 2 ^ D)))
      have l2 := sd_lt b (dp (dir (a % 2 ^ D)))
      have p2 := yw_256 (show dp (dir (a % 2 ^ D)) ≤ 8 by omega)
      refine xw_isKey_t b6 (br_f (by decide) (xw_bucketOf a6 S.2.1.1 (xw_bucketOf b6 S.2.1.1 ?_)))
      refine pk_eq (dir (a % 2 ^ D)) (dir (b % 2 ^ D)) (fun z => ?_) (fun z => ?_)
      · unfold wpY_together
        refine yw_depthOf S.1.1 a6 (by omega) (sd_isB_at S C a) (fun cts' _ => br_f (nI_pos (by omega)) (yw_key_t b6 (br_f (by decide) (yw_ending a6 (by omega) (yw_ending b6 (by omega) (br_t ?_ ⟨rfl, rl_mk S C⟩))))))
        rw [← z] at p
        rw [o.2.2.2, p.2.2.2]
      · unfold wpY_together
        refine yw_depthOf S.1.1 a6 (by omega) (sd_isB_at S C a) (fun cts' _ => br_f (nI_pos (by omega)) (yw_key_t b6 (br_f (by decide) (yw_ending a6 (by omega) (yw_ending b6 (by omega) (br_f (fun w => z ?_) ⟨rfl, rl_mk S C⟩))))))
        rw [nI_eq (by omega) (by omega)] at w
        refine (sd_Dir_to S.2.1 o.1 ?_).symm
        rw [← o.2.2.2]
        omega
theorem i_vc_ofDepth {k : Nat} {u : SX} {v : SY} (I : i_Rel k u v) (hk : k + 3 ≤ 1536) (v1 : Int32) : wpX_ofDepth (fun r => wpY_ofDepth (fun r' v' => r' = r ∧ i_Rel (k + 3) u v') v v1) u v1 := by
  refine rl_el (P := fun u v => wpX_ofDepth (fun r => wpY_ofDepth (fun r' v' => r' = r ∧ i_Rel (k + 3) u v') v v1) u v1) ?_ I
  intro th yv cts en D bc kc dir us dp ld ks vs S C
  refine xw_ofDepth S.2.1.2.1 ?_
  have zero : (∀ d, d ≤ 6 → nI d ≠ v1) → sd_cn (fun b => decide (us b = 1 ∧ nI (dp b) = v1)) 64 = 0 := by
    intro h
    refine sd_cn_zero (fun b _ => decide_eq_false (fun z => ?_))
    exact h _ (sd_dp6 S z.1) z.2
  rcases pk_ix v1 (n := 9) (by decide) with hx | hx | ⟨d, d9, rfl⟩
  · rw [zero (fun d hd z => by rw [← z] at hx; exact nI_pos (by omega) hx)]
    exact yw_ofDepth_o S.1.1 (Or.inl hx) (fun cts' => ⟨rfl, rl_mk S C⟩)
  · rw [zero (fun d hd z => by rw [← z] at hx; exact nI_ge (by omega) (by decide) hx)]
    have h8 : (8 : Int32) < v1 := Int32.lt_of_lt_of_le (by decide) hx
    exact yw_ofDepth_o S.1.1 (Or.inr h8) (fun cts' => ⟨rfl, rl_mk S C⟩)
  · refine yw_ofDepth S.1.1 (by omega) (fun cts' => ⟨congrArg nI ?_, rl_mk S C⟩)
    have e := sd_nb_eq S C d
    refine Eq.trans e.symm (sd_cn_congr (fun b _ => ?_))
    by_cases z : us b = 1
    · have l := sd_dp6 S z
      by_cases w : dp b = d
      · rw [decide_eq_true z, decide_eq_true w, decide_eq_true (p := us b = 1 ∧ nI (dp b) = nI d) ⟨z, by rw [w]⟩]
        rfl
      · rw [decide_eq_true z, decide_eq_false w, decide_eq_false (p := us b = 1 ∧ nI (dp b) = nI d) (fun y => w ((nI_eq (by omega) (by omega)).mp y.2))]
        rfl
    · rw [decide_eq_false z, decide_eq_false (p := us b = 1 ∧ nI (dp b) = nI d) (fun y => z y.1)]
      rfl
theorem rl_next {th : Nat → Nat} {yv : Nat → Int32} {en : Nat → Nat} {D bc kc : Nat} {dir us dp ld ks : Nat → Nat} {vs : Nat → Int32} {cts : Nat → Int32} (S : sd_St th yv en D bc kc dir us dp ld ks vs) {q : Int32} {s : Nat} (s31 : s < 2 ^ 31) (hs : ∀ j, j < 256 → (¬ nI j < q ↔ s ≤ j)) {R : Prop} (hR : R) : ∃ n, wX_next_10 (fun r => wpY_next (fun r' => r' = r ∧ R) (sd_nF th, yv, cts) q) (nI D) (nI bc) (nI kc) (sd_nF dir) (sd_nF us) (sd_nF dp) (sd_nF ld) (sd_nF ks) vs n (nI s) := by
  have t := S.1.1
  by_cases ex : ∃ k, k < 256 ∧ s ≤ k ∧ th k = 1
  · obtain ⟨k, ⟨k6, sk, tk⟩, hl⟩ := pk_least _ ex
    have hz : ∀ j, s ≤ j → j < k → th j = 0 := fun j h1 h2 => sd_thz S (fun z => hl j h2 ⟨by omega, h1, z⟩)
    refine ⟨k + 1, xw_next_t S k6 tk hz ?_ (k + 1) s (by omega) sk (by omega)⟩
    unfold wpY_next
    exact ⟨k + 1, yw_next_t t k6 ((hs k k6).mpr sk) tk (fun j hj w => hz j ((hs j (by omega)).mp w) hj) ⟨rfl, hR⟩ (k + 1) 0 (by omega) (by omega)⟩
  · have hz : ∀ j, s ≤ j → j < 256 → th j = 0 := fun j h1 h2 => sd_thz S (fun z => ex ⟨j, h2, h1, z⟩)
    refine ⟨257, xw_next_f S hz ?_ 257 s (by omega) s31 (by omega) (by omega)⟩
    unfold wpY_next
    exact ⟨257, yw_next_f t (fun j hj w => hz j ((hs j hj).mp w) hj) ⟨rfl, hR⟩ 257 0 (by omega) (by omega)⟩
theorem i_vc_next {k : Nat} {u : SX} {v : SY} (I : i_Rel k u v) (hk : k + 3 ≤ 1536) (v1 : Int32) : wpX_next (fun r => wpY_next (fun r' => r' = r ∧ i_Rel (k + 3) u v) v v1) u v1 := by
  refine rl_el (P := fun u v => wpX_next (fun r => wpY_next (fun r' => r' = r ∧ i_Rel (k + 3) u v) v v1) u v1) ?_ I
  intro th yv cts en D bc kc dir us dp ld ks vs S C
  unfold wpX_next
  by_cases z : v1 < 0
  · refine br_f (fun w => ?_) ?_
    · exact absurd z (Int32.not_lt.mpr w)
    · refine rl_next (s := 0) S (by decide) (fun j hj => ⟨fun _ => Nat.zero_le j, fun _ w => ?_⟩) (rl_mk S C)
      exact nI_pos (by omega) (Int32.lt_trans w z)
  · obtain ⟨s, s31, rfl⟩ := nI_of z
    refine br_t (nI_pos' s31) ?_
    refine rl_next (s := s) S s31 (fun j hj => ?_) (rl_mk S C)
    rw [nI_ltI (by omega) s31]
    omega
theorem i_vc_growth {k : Nat} {u : SX} {v : SY} (I : i_Rel k u v) (hk : k + 3 ≤ 1536) (v1 : Int32) : wpX_growth (fun r u' => wpY_growth (fun r' v' => r' = r ∧ i_Rel (k + 3) u' v') v v1) u v1 := by
  refine rl_el (P := fun u v => wpX_growth (fun r u' => wpY_growth (fun r' v' => r' = r ∧ i_Rel (k + 3) u' v') v v1) u v1) ?_ I
  intro th yv cts en D bc kc dir us dp ld ks vs S C
  have t := S.1.1
  unfold wpX_growth xw_S
  rcases rl_ix v1 with hx | ⟨key, h6, rfl⟩
  · refine xw_isKey_f hx (br_t rfl ?_)
    unfold wpY_growth
    exact yw_key_f hx (br_t rfl ⟨rfl, rl_mk S C⟩)
  · have e1 : (nI key).toNatClampNeg = key := nI_clamp (by omega)
    have i1 : vp_in (nI key) 256 := xw_in h6 (by decide)
    refine xw_isKey_t h6 (br_f (by decide) (xw_has S h6 (fun t1 => br_f (by decide) ?_) (fun t0 => br_t rfl ?_)))
    · unfold wpY_growth
      refine yw_key_t h6 (br_f (by decide) (yw_buckets t (fun cts1 => ?_)))
      simp only [forall_eq, e1, xw_t1, sd_nFu, sd_nFa, sd_un_eq t1, t1]
      refine ⟨i1, i1, yw_buckets t (fun cts2 => ⟨i1, ?_⟩)⟩
      rw [show vp_nar .boolean (nI 1) = nI 1 from rfl, sd_nFu, sd_un_eq t1]
      exact ⟨Int32.sub_self _, rl_mk S C⟩
    · refine xw_insert S C 0 h6 t0 ?_
      intro en' D' bc' dir' us' dp' ld' ks' vs' S' C'
      refine xw_remove S' C' h6 sd_us ?_
      intro en2 D2 bc2 dir2 us2 dp2 ld2 ks2 vs2 S2 C2
      have r : sd_un (sd_un th key 1) key 0 = th := by rw [sd_un_un, sd_un_eq t0]
      rw [r] at S2 C2
      have S3 := sd_St_yv (yv' := yv) S2 (fun k z => (pk_un (fun w => by rw [w] at z; omega)).symm)
      unfold wpY_growth
      refine yw_key_t h6 (br_f (by decide) (yw_buckets t (fun cts1 => ?_)))
      simp only [forall_eq, e1, xw_t1, sd_nFu, sd_nFa, t0]
      refine ⟨i1, i1, yw_buckets S'.1.1 (fun cts3 => ⟨i1, ?_⟩)⟩
      rw [show vp_nar .boolean (nI 0) = nI 0 from rfl, sd_nFu, r, sd_bc_eq S C, sd_bc_eq S' C']
      exact ⟨rfl, rl_mk S3 C2⟩
end
