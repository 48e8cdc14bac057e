section
/-! rows of the kit to paste (PURE-ROWS, BITS): what this claim takes of them -/
theorem pk_us {f : Nat → Int32} {k : Nat} {x : Int32} : upd f k x k = x := if_pos rfl
theorem pk_un {f : Nat → Int32} {k j : Nat} {x : Int32} (h : j ≠ k) : upd f k x j = f j := if_neg h
theorem pk_sub {a b : Nat} (h : b ≤ a) : nI a - nI b = nI (a - b) := by
  obtain ⟨c, rfl⟩ : ∃ c, a = c + b := ⟨a - b, by omega⟩
  rw [← nI_add, Int32.add_sub_cancel, Nat.add_sub_cancel]
theorem pk_m1 (n : Nat) : nI (n + 1) + (-1) = nI n := by
  rw [← nI_1, Int32.add_assoc, show (1 : Int32) + (-1) = 0 from rfl, Int32.add_zero]
theorem pk_mul (a b : Nat) : nI a * nI b = nI (a * b) := (Int32.ofNat_mul a b).symm
theorem pk_div {a d : Nat} (ha : a < 2 ^ 31) (h0 : 0 < d) (hd : d < 2 ^ 31) : nI a / nI d = nI (a / d) := by
  apply Int32.toInt_inj.mp
  rw [lg_idiv_nonneg (by rw [nI_toInt ha]; omega) (by rw [nI_toInt hd]; omega), nI_toInt ha, nI_toInt hd, nI_toInt (Nat.lt_of_le_of_lt (Nat.div_le_self a d) ha)]
  first | rfl | exact (Int.natCast_ediv _ _).symm
theorem pk_rem {a d : Nat} (ha : a < 2 ^ 31) (h0 : 0 < d) (hd : d < 2 ^ 31) : nI a - nI a / nI d * nI d = nI (a % d) := by
  rw [pk_div ha h0 hd, pk_mul, pk_sub (Nat.div_mul_le_self a d)]
  exact congrArg nI (by have := Nat.div_add_mod' a d; omega)
theorem pk_sub_toInt {a b : Nat} (ha : a < 2 ^ 30) (hb : b < 2 ^ 30) : (nI a - nI b).toInt = (a : Int) - b := by
  rw [Int32.toInt_sub, nI_toInt (by omega), nI_toInt (by omega)]
  exact Int.bmod_eq_of_le (by omega) (by omega)
theorem pk_sneg {a b : Nat} (hb : b < 2 ^ 30) (h : a < b) : nI a - nI b < 0 := by
  rw [Int32.lt_iff_toInt_lt, pk_sub_toInt (by omega) hb, show (0 : Int32).toInt = 0 from by decide]
  omega
theorem pk_ix (x : Int32) {n : Nat} (hn : n < 2 ^ 31) : x < 0 ∨ nI n ≤ x ∨ ∃ j : Nat, j < n ∧ x = nI j := by
  by_cases h : x < 0
  · exact Or.inl h
  · obtain ⟨j, hj, rfl⟩ := nI_of h
    by_cases h2 : j < n
    · exact Or.inr (Or.inr ⟨j, h2, rfl⟩)
    · exact Or.inr (Or.inl (nI_le (by omega) hj))
theorem pk_le {x y : Int32} {A B : Prop} (a b : Nat) (f : a ≤ b → A) (g : b < a → B) (hx : x = nI a := by rfl) (hy : y = nI b := by rfl) (ha : a < 2 ^ 31 := by omega) (hb : b < 2 ^ 31 := by omega) : (x ≤ y → A) ∧ (¬ x ≤ y → B) := by
  subst hx hy
  rw [nI_leI ha hb]
  exact ⟨f, fun z => g (by omega)⟩
theorem pk_lt {x y : Int32} {A B : Prop} (a b : Nat) (f : a < b → A) (g : b ≤ a → B) (hx : x = nI a := by rfl) (hy : y = nI b := by rfl) (ha : a < 2 ^ 31 := by omega) (hb : b < 2 ^ 31 := by omega) : (x < y → A) ∧ (¬ x < y → B) := by
  subst hx hy
  rw [nI_ltI ha hb]
  exact ⟨f, fun z => g (by omega)⟩
theorem pk_eq {x y : Int32} {A B : Prop} (a b : Nat) (f : a = b → A) (g : a ≠ b → B) (hx : x = nI a := by rfl) (hy : y = nI b := by rfl) (ha : a < 2 ^ 31 := by omega) (hb : b < 2 ^ 31 := by omega) : (x = y → A) ∧ (¬ x = y → B) := by
  subst hx hy
  rw [nI_eq ha hb]
  exact ⟨f, g⟩
theorem pk_in {x : Int32} (n N : Nat) (h : n < N) (hx : x = nI n := by rfl) (hN : N < 2 ^ 31 := by omega) : vp_in x N := by
  subst hx
  exact vp_in_nI h hN
theorem pk_cl {x : Int32} (n : Nat) (hx : x = nI n := by rfl) (h : n < 2 ^ 31 := by omega) : x.toNatClampNeg = n := by
  subst hx
  exact nI_clamp h
theorem pk_tn {n : Nat} (h : n < 2 ^ 32) : (nI n).toBitVec.toNat = n := Nat.mod_eq_of_lt h
theorem pk_and (x : Int32) {m : Int32} (k : Nat) (hm : m.toBitVec.toNat = 2 ^ k - 1) : x &&& m = nI (x.toBitVec.toNat % 2 ^ k) := by
  apply Int32.toBitVec_inj.mp
  apply BitVec.eq_of_toNat_eq
  rw [Int32.toBitVec_and, BitVec.toNat_and, hm, Nat.and_two_pow_sub_one_eq_mod]
  show _ = (BitVec.ofNat 32 _).toNat
  rw [BitVec.toNat_ofNat]
  exact (Nat.mod_eq_of_lt (Nat.lt_of_le_of_lt (Nat.mod_le _ _) x.toBitVec.isLt)).symm
theorem pk_andN {n : Nat} (h : n < 2 ^ 32) {m : Int32} (k : Nat) (hm : m.toBitVec.toNat = 2 ^ k - 1) : nI n &&& m = nI (n % 2 ^ k) := by
  rw [pk_and _ k hm, pk_tn h]
theorem pk_andE (x : Int32) {m : Int32} (k : Nat) (hm : m.toBitVec.toNat = 2 ^ k - 1) : ∃ j : Nat, j < 2 ^ k ∧ x &&& m = nI j := ⟨_, Nat.mod_lt _ (Nat.two_pow_pos k), pk_and x k hm⟩
theorem pk_andIn (x : Int32) {m : Int32} (k : Nat) (hm : m.toBitVec.toNat = 2 ^ k - 1) (hk : k ≤ 30) : vp_in (x &&& m) (2 ^ k) := by
  obtain ⟨j, hj, e⟩ := pk_andE x k hm
  rw [e]
  exact vp_in_nI hj (Nat.lt_of_le_of_lt (Nat.pow_le_pow_right (by decide) hk) (by decide))
theorem pk_shl (a s : Int32) (k : Nat) (hs : (s.toBitVec.smod 32).toNat = k) : (a <<< s).toBitVec.toNat = a.toBitVec.toNat * 2 ^ k % 2 ^ 32 := by
  show (a.toBitVec <<< (s.toBitVec.smod 32).toNat).toNat = _
  rw [hs, BitVec.toNat_shiftLeft, Nat.shiftLeft_eq]
theorem pk_shlN {n : Nat} (s : Int32) (k : Nat) (hs : (s.toBitVec.smod 32).toNat = k) (h : n * 2 ^ k < 2 ^ 32) : nI n <<< s = nI (n * 2 ^ k) := by
  apply Int32.toBitVec_inj.mp
  apply BitVec.eq_of_toNat_eq
  have hn : n < 2 ^ 32 := Nat.lt_of_le_of_lt (Nat.le_mul_of_pos_right n (Nat.two_pow_pos k)) h
  rw [pk_shl _ _ k hs, pk_tn hn, pk_tn h, Nat.mod_eq_of_lt h]
theorem pk_shr (a s : Int32) (k : Nat) (hs : (s.toBitVec.smod 32).toNat = k) : (a >>> s).toInt = a.toInt >>> k := by
  show (a.toBitVec.sshiftRight (s.toBitVec.smod 32).toNat).toInt = _
  rw [hs, BitVec.toInt_sshiftRight]
  rfl
theorem pk_shrN {n : Nat} (h : n < 2 ^ 31) (s : Int32) (k : Nat) (hs : (s.toBitVec.smod 32).toNat = k) : nI n >>> s = nI (n / 2 ^ k) := by
  apply Int32.toInt_inj.mp
  have h2 : n / 2 ^ k ≤ n := Nat.div_le_self _ _
  rw [pk_shr _ _ k hs, nI_toInt h, nI_toInt (by omega), Int.shiftRight_eq_div_pow]
  rfl
theorem s_l : ∀ n, n < 32 → ((nI n &&& 31).toBitVec.smod 32).toNat = n := by decide +kernel
end
section
/-! counts: how many i below n satisfy p -/
def gz_cn (p : Nat → Bool) : Nat → Nat
  | 0 => 0
  | n + 1 => gz_cn p n + (if p n = true then 1 else 0)
theorem gz_cn_s (p : Nat → Bool) (n : Nat) : gz_cn p (n + 1) = gz_cn p n + (if p n = true then 1 else 0) := rfl
theorem gz_cn_t {p : Nat → Bool} {n : Nat} (h : p n = true) : gz_cn p (n + 1) = gz_cn p n + 1 := by rw [gz_cn_s, if_pos h]
theorem gz_cn_f {p : Nat → Bool} {n : Nat} (h : p n = false) : gz_cn p (n + 1) = gz_cn p n := by
  rw [gz_cn_s, if_neg (by rw [h]; exact Bool.false_ne_true), Nat.add_zero]
theorem gz_cn_congr {p q : Nat → Bool} : ∀ {n : Nat}, (∀ i, i < n → p i = q i) → gz_cn p n = gz_cn q n := by
  intro n
  induction n with
  | zero => intro _; rfl
  | succ n ih =>
    intro h
    rw [gz_cn_s, gz_cn_s, ih (fun i hi => h i (by omega)), h n (by omega)]
theorem gz_cn_le (p : Nat → Bool) : ∀ n, gz_cn p n ≤ n := by
  intro n
  induction n with
  | zero => exact Nat.le_refl _
  | succ n ih =>
    rw [gz_cn_s]
    by_cases h : p n = true
    · rw [if_pos h]; omega
    · rw [if_neg h]; omega
theorem gz_cn_mono {p q : Nat → Bool} : ∀ {n : Nat}, (∀ i, i < n → p i = true → q i = true) → gz_cn p n ≤ gz_cn q n := by
  intro n
  induction n with
  | zero => intro _; exact Nat.le_refl _
  | succ n ih =>
    intro h
    have h1 := ih (fun i hi => h i (by omega))
    rw [gz_cn_s, gz_cn_s]
    by_cases hp : p n = true
    · rw [if_pos hp, if_pos (h n (by omega) hp)]; omega
    · rw [if_neg hp]; omega
theorem gz_cn_0 {p : Nat → Bool} : ∀ {n : Nat}, (∀ i, i < n → p i = false) → gz_cn p n = 0 := by
  intro n
  induction n with
  | zero => intro _; rfl
  | succ n ih =>
    intro h
    rw [gz_cn_f (h n (by omega)), ih (fun i hi => h i (by omega))]
theorem gz_cn_all {p : Nat → Bool} : ∀ {n : Nat}, (∀ i, i < n → p i = true) → gz_cn p n = n := by
  intro n
  induction n with
  | zero => intro _; rfl
  | succ n ih =>
    intro h
    rw [gz_cn_t (h n (by omega)), ih (fun i hi => h i (by omega))]
theorem gz_cn_ex {p : Nat → Bool} : ∀ {n : Nat}, 0 < gz_cn p n → ∃ i, i < n ∧ p i = true := by
  intro n
  induction n with
  | zero => intro h; exact absurd h (Nat.lt_irrefl 0)
  | succ n ih =>
    intro h
    by_cases hp : p n = true
    · exact ⟨n, by omega, hp⟩
    · rw [gz_cn_s, if_neg hp] at h
      obtain ⟨i, hi, e⟩ := ih (by omega)
      exact ⟨i, by omega, e⟩
theorem gz_cn_pos {p : Nat → Bool} : ∀ {n i : Nat}, i < n → p i = true → 0 < gz_cn p n := by
  intro n
  induction n with
  | zero => intro i hi _; exact absurd hi (Nat.not_lt_zero i)
  | succ n ih =>
    intro i hi hp
    rw [gz_cn_s]
    by_cases e : i = n
    · subst e; rw [if_pos hp]; omega
    · have := ih (i := i) (by omega) hp
      omega
theorem gz_cn_add (p : Nat → Bool) (a : Nat) : ∀ b, gz_cn p (a + b) = gz_cn p a + gz_cn (fun i => p (a + i)) b := by
  intro b
  induction b with
  | zero => rfl
  | succ b ih =>
    have e : a + (b + 1) = (a + b) + 1 := by omega
    rw [e, gz_cn_s, ih, gz_cn_s]
    omega
/-- p holds just between f and e -/
theorem gz_cn_iv {p : Nat → Bool} {f e m : Nat} (hf : f ≤ e) (he : e ≤ m) (h1 : ∀ i, i < f → p i = false) (h2 : ∀ i, f ≤ i → i < e → p i = true) (h3 : ∀ i, e ≤ i → i < m → p i = false) : gz_cn p m = e - f := by
  obtain ⟨a, rfl⟩ : ∃ a, e = f + a := ⟨e - f, by omega⟩
  obtain ⟨b, rfl⟩ : ∃ b, m = f + a + b := ⟨m - (f + a), by omega⟩
  rw [gz_cn_add, gz_cn_add, gz_cn_0 h1, gz_cn_all (fun i hi => h2 (f + i) (by omega) (by omega)), gz_cn_0 (fun i hi => h3 (f + a + i) (by omega) (by omega))]
  omega
/-! a rearrangement, by its counts -/
def gz_perm (o : Nat → Nat) (m : Nat) : Prop := ∀ p : Nat → Bool, gz_cn (fun i => p (o i)) m = gz_cn p m
theorem gz_perm_0 (o : Nat → Nat) : gz_perm o 0 := fun _ => rfl
theorem gz_perm_lt {o : Nat → Nat} {m i : Nat} (h : gz_perm o m) (hi : i < m) : o i < m := by
  by_cases c : o i < m
  · exact c
  · have h1 := h (fun x => decide (m ≤ x))
    have h2 : gz_cn (fun x => decide (m ≤ x)) m = 0 := gz_cn_0 (fun j hj => decide_eq_false (by omega))
    have h3 : 0 < gz_cn (fun i => decide (m ≤ o i)) m := gz_cn_pos hi (decide_eq_true (by omega))
    rw [h2] at h1
    exact absurd h1 (Nat.pos_iff_ne_zero.mp h3)
theorem gz_perm_on {o : Nat → Nat} {m q : Nat} (h : gz_perm o m) (hq : q < m) : ∃ i, i < m ∧ o i = q := by
  have h1 := h (fun x => decide (x = q))
  have h2 : 0 < gz_cn (fun x => decide (x = q)) m := gz_cn_pos hq (decide_eq_true rfl)
  rw [← h1] at h2
  obtain ⟨i, hi, e⟩ := gz_cn_ex h2
  exact ⟨i, hi, of_decide_eq_true e⟩
/-- r put in at place i -/
def gz_ins (o : Nat → Nat) (r i : Nat) : Nat → Nat := fun j => if j < i then o j else if j = i then r else o (j - 1)
theorem gz_ins_lo {o : Nat → Nat} {r i j : Nat} (h : j < i) : gz_ins o r i j = o j := if_pos h
theorem gz_ins_eq {o : Nat → Nat} {r i : Nat} : gz_ins o r i i = r := by
  unfold gz_ins
  rw [if_neg (Nat.lt_irrefl i), if_pos rfl]
theorem gz_ins_hi {o : Nat → Nat} {r i j : Nat} (h : i < j) : gz_ins o r i j = o (j - 1) := by
  unfold gz_ins
  rw [if_neg (by omega), if_neg (by omega)]
theorem gz_perm_ins {o : Nat → Nat} {r i : Nat} (hi : i ≤ r) (h : gz_perm o r) : gz_perm (gz_ins o r i) (r + 1) := by
  intro p
  obtain ⟨b, rfl⟩ : ∃ b, r = i + b := ⟨r - i, by omega⟩
  have e : i + b + 1 = i + (1 + b) := by omega
  have h1 : gz_cn (fun j => p (gz_ins o (i + b) i j)) i = gz_cn (fun j => p (o j)) i :=
    gz_cn_congr (fun j hj => congrArg p (gz_ins_lo hj))
  have h2 : gz_cn (fun j => p (gz_ins o (i + b) i (i + j))) 1 = (if p (i + b) = true then 1 else 0) := by
    have e2 : gz_ins o (i + b) i (i + 0) = i + b := gz_ins_eq
    rw [gz_cn_s, e2]
    exact Nat.zero_add _
  have h3 : gz_cn (fun j => p (gz_ins o (i + b) i (i + (1 + j)))) b = gz_cn (fun j => p (o (i + j))) b := by
    refine gz_cn_congr (fun j _ => congrArg p ?_)
    rw [gz_ins_hi (by omega)]
    exact congrArg o (by omega)
  have h4 := h p
  rw [gz_cn_add] at h4
  have h5 : gz_cn p (i + b + 1) = gz_cn p (i + b) + (if p (i + b) = true then 1 else 0) := rfl
  rw [h5, ← h4, e, gz_cn_add, gz_cn_add, h1, h2, h3]
  omega
/-- in order by key -/
def gz_srt (K o : Nat → Nat) (m : Nat) : Prop := ∀ i j, i ≤ j → j < m → K (o i) ≤ K (o j)
theorem gz_srt_0 (K o : Nat → Nat) : gz_srt K o 0 := fun _ j _ h => absurd h (Nat.not_lt_zero j)
theorem gz_srt_ins {K o : Nat → Nat} {r i : Nat} (hi : i ≤ r) (h : gz_srt K o r) (h1 : ∀ j, j < i → K (o j) ≤ K r) (h2 : ∀ j, i ≤ j → j < r → K r ≤ K (o j)) : gz_srt K (gz_ins o r i) (r + 1) := by
  intro a b hab hb
  rcases Nat.lt_trichotomy a i with ha | ha | ha
  · rw [gz_ins_lo ha]
    rcases Nat.lt_trichotomy b i with hc | hc | hc
    · rw [gz_ins_lo hc]; exact h a b hab (by omega)
    · subst hc; rw [gz_ins_eq]; exact h1 a ha
    · rw [gz_ins_hi hc]; exact h a (b - 1) (by omega) (by omega)
  · subst ha
    rw [gz_ins_eq]
    rcases Nat.lt_or_ge a b with hc | hc
    · rw [gz_ins_hi hc]; exact h2 (b - 1) (by omega) (by omega)
    · have e : b = a := by omega
      subst e
      rw [gz_ins_eq]; exact Nat.le_refl _
  · rw [gz_ins_hi ha, gz_ins_hi (by omega)]
    exact h (a - 1) (b - 1) (by omega) (by omega)
/-! masks and their bits -/
def gz_mk (g : Nat → Nat) (p : Nat → Bool) : Nat → Nat
  | 0 => 0
  | n + 1 => if p n = true then gz_mk g p n ||| 2 ^ g n else gz_mk g p n
theorem gz_mk_t {g : Nat → Nat} {p : Nat → Bool} {n : Nat} (h : p n = true) : gz_mk g p (n + 1) = gz_mk g p n ||| 2 ^ g n := if_pos h
theorem gz_mk_f {g : Nat → Nat} {p : Nat → Bool} {n : Nat} (h : ¬ p n = true) : gz_mk g p (n + 1) = gz_mk g p n := if_neg h
theorem gz_mk_bit (g : Nat → Nat) (p : Nat → Bool) (j : Nat) : ∀ n, (gz_mk g p n).testBit j = true ↔ ∃ i, i < n ∧ p i = true ∧ g i = j := by
  intro n
  induction n with
  | zero =>
    constructor
    · intro h
      have e : (gz_mk g p 0).testBit j = false := Nat.zero_testBit j
      rw [e] at h
      exact absurd h Bool.false_ne_true
    · rintro ⟨i, hi, _⟩
      exact absurd hi (Nat.not_lt_zero i)
  | succ n ih =>
    by_cases hp : p n = true
    · rw [gz_mk_t hp, Nat.testBit_or, Bool.or_eq_true, ih, Nat.testBit_two_pow, decide_eq_true_eq]
      constructor
      · rintro (⟨i, hi, h⟩ | h)
        · exact ⟨i, by omega, h⟩
        · exact ⟨n, by omega, hp, h⟩
      · rintro ⟨i, hi, h1, h2⟩
        by_cases e : i = n
        · subst e; exact Or.inr h2
        · exact Or.inl ⟨i, by omega, h1, h2⟩
    · rw [gz_mk_f hp, ih]
      constructor
      · rintro ⟨i, hi, h⟩
        exact ⟨i, by omega, h⟩
      · rintro ⟨i, hi, h1, h2⟩
        by_cases e : i = n
        · subst e; exact absurd h1 hp
        · exact ⟨i, by omega, h1, h2⟩
theorem gz_mk_lt {g : Nat → Nat} {p : Nat → Bool} : ∀ {n : Nat}, (∀ i, i < n → g i < 8) → gz_mk g p n < 2 ^ 8 := by
  intro n
  induction n with
  | zero => intro _; exact (by decide : 0 < 2 ^ 8)
  | succ n ih =>
    intro h
    have h1 := ih (fun i hi => h i (by omega))
    by_cases hp : p n = true
    · rw [gz_mk_t hp]
      exact Nat.or_lt_two_pow h1 (Nat.pow_lt_pow_right (by decide) (h n (by omega)))
    · rw [gz_mk_f hp]; exact h1
def gz_pc (M : Nat) : Nat → Nat
  | 0 => 0
  | n + 1 => gz_pc M n + M / 2 ^ n % 2
theorem gz_pc_le (M : Nat) : ∀ n, gz_pc M n ≤ n := by
  intro n
  induction n with
  | zero => exact Nat.le_refl _
  | succ n ih =>
    show gz_pc M n + M / 2 ^ n % 2 ≤ n + 1
    omega
theorem gz_pc_mono {M M' : Nat} (h : ∀ j, M.testBit j = true → M'.testBit j = true) : ∀ n, gz_pc M n ≤ gz_pc M' n := by
  intro n
  induction n with
  | zero => exact Nat.le_refl _
  | succ n ih =>
    show gz_pc M n + M / 2 ^ n % 2 ≤ gz_pc M' n + M' / 2 ^ n % 2
    have h1 := h n
    rw [← Nat.toNat_testBit, ← Nat.toNat_testBit]
    cases ha : M.testBit n with
    | false => exact Nat.le_trans ih (Nat.le_add_right _ _)
    | true => rw [h1 ha]; exact Nat.add_le_add_right ih _
end
section
/-! keys: what a row shows at a setting -/
def gz_key (v s : Nat) : Nat := v % 16 / 2 ^ (s % 5) + v / 16 % 16 / 2 ^ (s / 5 % 5) * 2 ^ 4 + v / 256 % 16 / 2 ^ (s / 25) * 2 ^ 8
theorem gz_dlt (x k : Nat) : x % 16 / 2 ^ k < 16 := Nat.lt_of_le_of_lt (Nat.div_le_self _ _) (Nat.mod_lt _ (by decide))
theorem gz_key_lt (v s : Nat) : gz_key v s < 4096 := by
  have h1 := gz_dlt v (s % 5)
  have h2 := gz_dlt (v / 16) (s / 5 % 5)
  have h3 := gz_dlt (v / 256) (s / 25)
  unfold gz_key
  generalize v % 16 / 2 ^ (s % 5) = a at *
  generalize v / 16 % 16 / 2 ^ (s / 5 % 5) = b at *
  generalize v / 256 % 16 / 2 ^ (s / 25) = c at *
  omega
theorem gz_key_eq (v w s : Nat) : gz_key v s = gz_key w s ↔ (v % 16 / 2 ^ (s % 5) = w % 16 / 2 ^ (s % 5) ∧ v / 16 % 16 / 2 ^ (s / 5 % 5) = w / 16 % 16 / 2 ^ (s / 5 % 5) ∧ v / 256 % 16 / 2 ^ (s / 25) = w / 256 % 16 / 2 ^ (s / 25)) := by
  have h1 := gz_dlt v (s % 5)
  have h2 := gz_dlt (v / 16) (s / 5 % 5)
  have h4 := gz_dlt w (s % 5)
  have h5 := gz_dlt (w / 16) (s / 5 % 5)
  unfold gz_key
  generalize v % 16 / 2 ^ (s % 5) = a at *
  generalize v / 16 % 16 / 2 ^ (s / 5 % 5) = b at *
  generalize v / 256 % 16 / 2 ^ (s / 25) = c at *
  generalize w % 16 / 2 ^ (s % 5) = a' at *
  generalize w / 16 % 16 / 2 ^ (s / 5 % 5) = b' at *
  generalize w / 256 % 16 / 2 ^ (s / 25) = c' at *
  omega
theorem gz_dcoarse {x y a b : Nat} (h : a ≤ b) (e : x / 2 ^ a = y / 2 ^ a) : x / 2 ^ b = y / 2 ^ b := by
  obtain ⟨d, rfl⟩ : ∃ d, b = a + d := ⟨b - a, by omega⟩
  rw [Nat.pow_add, ← Nat.div_div_eq_div_mul, ← Nat.div_div_eq_div_mul, e]
/-- c is at least as coarse as f -/
def gz_ge (c f : Nat) : Prop := f % 5 ≤ c % 5 ∧ f / 5 % 5 ≤ c / 5 % 5 ∧ f / 25 ≤ c / 25
theorem gz_key_mono {v w c f : Nat} (h : gz_ge c f) (e : gz_key v f = gz_key w f) : gz_key v c = gz_key w c := by
  obtain ⟨h1, h2, h3⟩ := h
  obtain ⟨e1, e2, e3⟩ := (gz_key_eq v w f).mp e
  exact (gz_key_eq v w c).mpr ⟨gz_dcoarse h1 e1, gz_dcoarse h2 e2, gz_dcoarse h3 e3⟩
/-! what is hidden, what is left out, what is good -/
def gz_num (K : Nat → Nat) (m k : Nat) : Nat := gz_cn (fun q => decide (K q = k)) m
def gz_sec (K S : Nat → Nat) (m k : Nat) : Nat := gz_pc (gz_mk S (fun q => decide (K q = k)) m) 8
def gz_hid (ls ks : Int32) (K S : Nat → Nat) (m k : Nat) : Bool := decide (¬ nI (gz_num K m k) < ls ∧ ¬ nI (gz_sec K S m k) < ks)
def gz_out (ls ks : Int32) (K S : Nat → Nat) (m : Nat) : Nat := gz_cn (fun r => ! gz_hid ls ks K S m (K r)) m
def gz_lo (ls ks : Int32) (V S : Nat → Nat) (m s : Nat) : Nat := gz_out ls ks (fun q => gz_key (V q) s) S m
def gz_good (ls ks al : Int32) (V S : Nat → Nat) (m s : Nat) : Bool := decide (¬ al < nI (gz_lo ls ks V S m s))
theorem gz_lo_le (ls ks : Int32) (V S : Nat → Nat) (m s : Nat) : gz_lo ls ks V S m s ≤ m := gz_cn_le _ _
theorem gz_nlt_up {a b : Nat} {x : Int32} (hab : a ≤ b) (hb : b < 2 ^ 31) (h : ¬ nI a < x) : ¬ nI b < x :=
  fun h2 => h (Int32.lt_of_le_of_lt (nI_le hab hb) h2)
theorem gz_nlt_dn {a b : Nat} {x : Int32} (hab : a ≤ b) (hb : b < 2 ^ 31) (h : ¬ x < nI b) : ¬ x < nI a :=
  fun h2 => h (Int32.lt_of_lt_of_le h2 (nI_le hab hb))
theorem gz_hid_mono {ls ks : Int32} {K K' S : Nat → Nat} {m r : Nat} (hm : m ≤ 16) (hK : ∀ q, q < m → K q = K r → K' q = K' r) (h : gz_hid ls ks K S m (K r) = true) : gz_hid ls ks K' S m (K' r) = true := by
  have h := of_decide_eq_true h
  have n1 : gz_num K m (K r) ≤ gz_num K' m (K' r) := gz_cn_mono (fun i hi e => decide_eq_true (hK i hi (of_decide_eq_true e)))
  have n2 : gz_num K' m (K' r) ≤ m := gz_cn_le _ _
  have s1 : gz_sec K S m (K r) ≤ gz_sec K' S m (K' r) := by
    refine gz_pc_mono (fun j hj => ?_) 8
    obtain ⟨i, hi, e1, e2⟩ := (gz_mk_bit _ _ j m).mp hj
    exact (gz_mk_bit _ _ j m).mpr ⟨i, hi, decide_eq_true (hK i hi (of_decide_eq_true e1)), e2⟩
  have s2 : gz_sec K' S m (K' r) ≤ 8 := gz_pc_le _ _
  exact decide_eq_true ⟨gz_nlt_up n1 (by omega) h.1, gz_nlt_up s1 (by omega) h.2⟩
theorem gz_lo_mono {ls ks : Int32} {V S : Nat → Nat} {m c f : Nat} (hm : m ≤ 16) (h : gz_ge c f) : gz_lo ls ks V S m c ≤ gz_lo ls ks V S m f := by
  refine gz_cn_mono (fun r hr e => ?_)
  cases hh : gz_hid ls ks (fun q => gz_key (V q) f) S m (gz_key (V r) f) with
  | false => rfl
  | true =>
    have h2 : gz_hid ls ks (fun q => gz_key (V q) c) S m (gz_key (V r) c) = true :=
      gz_hid_mono (K := fun q => gz_key (V q) f) (K' := fun q => gz_key (V q) c) (r := r) hm (fun q _ e => gz_key_mono h e) hh
    have e2 : (! gz_hid ls ks (fun q => gz_key (V q) c) S m (gz_key (V r) c)) = true := e
    rw [h2] at e2
    exact absurd e2 (by decide)
theorem gz_good_mono {ls ks al : Int32} {V S : Nat → Nat} {m c f : Nat} (hm : m ≤ 16) (h : gz_ge c f) (hf : gz_good ls ks al V S m f = true) : gz_good ls ks al V S m c = true := by
  have h1 := gz_lo_le ls ks V S m f
  exact decide_eq_true (gz_nlt_dn (gz_lo_mono hm h) (by omega) (of_decide_eq_true hf))
/-! a group among the sorted rows: the places f .. e-1 -/
def gz_grp (g : Nat → Nat) (m f e : Nat) : Prop := f < e ∧ e ≤ m ∧ (∀ i, f ≤ i → i < e → g i = g f) ∧ (e < m → g e ≠ g f)
def gz_bd (g : Nat → Nat) (m f : Nat) : Prop := f ≤ m ∧ ∀ i j, i < f → f ≤ j → j < m → g i < g j
theorem gz_bd_0 (g : Nat → Nat) (m : Nat) : gz_bd g m 0 := ⟨Nat.zero_le _, fun i _ h => absurd h (Nat.not_lt_zero i)⟩
theorem gz_bd_step {g : Nat → Nat} {m f e : Nat} (hs : ∀ i j, i ≤ j → j < m → g i ≤ g j) (hb : gz_bd g m f) (hg : gz_grp g m f e) : gz_bd g m e := by
  obtain ⟨h1, h2, h3, h4⟩ := hg
  refine ⟨h2, fun i j hi hj hm => ?_⟩
  have h5 : g f < g e := by
    have a := hs f e (by omega) (by omega)
    have b := h4 (by omega)
    omega
  have h6 := hs e j hj hm
  rcases Nat.lt_or_ge i f with c | c
  · have := hb.2 i f c (Nat.le_refl _) (by omega)
    omega
  · have := h3 i c hi
    omega
/-- in a group's places the key is the group's, elsewhere another -/
theorem gz_grp_iff {g : Nat → Nat} {m f e : Nat} (hs : ∀ i j, i ≤ j → j < m → g i ≤ g j) (hb : gz_bd g m f) (hg : gz_grp g m f e) (i : Nat) (hi : i < m) : g i = g f ↔ f ≤ i ∧ i < e := by
  have hb2 := gz_bd_step hs hb hg
  obtain ⟨h1, h2, h3, h4⟩ := hg
  constructor
  · intro h
    rcases Nat.lt_or_ge i f with c | c
    · have := hb.2 i f c (Nat.le_refl _) (by omega)
      omega
    · rcases Nat.lt_or_ge i e with d | d
      · exact ⟨c, d⟩
      · have := hb2.2 f i h1 d hi
        omega
  · rintro ⟨a, b⟩
    exact h3 i a b
theorem gz_grp_num {K o : Nat → Nat} {m f e : Nat} (hp : gz_perm o m) (hs : gz_srt K o m) (hb : gz_bd (fun i => K (o i)) m f) (hg : gz_grp (fun i => K (o i)) m f e) : gz_num K m (K (o f)) = e - f := by
  have hi := gz_grp_iff (g := fun i => K (o i)) hs hb hg
  have h1 := hg.1
  have h2 := hg.2.1
  unfold gz_num
  rw [← hp (fun q => decide (K q = K (o f)))]
  refine gz_cn_iv (by omega) h2 (fun i h => decide_eq_false ?_) (fun i ha hb => decide_eq_true ?_) (fun i ha hb => decide_eq_false ?_)
  · intro h3
    have := (hi i (by omega)).mp h3
    omega
  · exact (hi i (by omega)).mpr ⟨ha, hb⟩
  · intro h3
    have := (hi i (by omega)).mp h3
    omega
theorem gz_grp_sec {K S o : Nat → Nat} {m f e : Nat} (hp : gz_perm o m) (hs : gz_srt K o m) (hb : gz_bd (fun i => K (o i)) m f) (hg : gz_grp (fun i => K (o i)) m f e) : gz_mk (fun j => S (o (f + j))) (fun _ => true) (e - f) = gz_mk S (fun q => decide (K q = K (o f))) m := by
  have hi := gz_grp_iff (g := fun i => K (o i)) hs hb hg
  have h1 := hg.1
  have h2 := hg.2.1
  apply Nat.eq_of_testBit_eq
  intro j
  rw [Bool.eq_iff_iff, gz_mk_bit, gz_mk_bit]
  constructor
  · rintro ⟨i, ha, _, e2⟩
    exact ⟨o (f + i), gz_perm_lt hp (by omega), decide_eq_true ((hi (f + i) (by omega)).mpr ⟨by omega, by omega⟩), e2⟩
  · rintro ⟨q, hq, e1, e2⟩
    obtain ⟨i, him, rfl⟩ := gz_perm_on hp hq
    obtain ⟨a, b⟩ := (hi i him).mp (of_decide_eq_true e1)
    refine ⟨i - f, by omega, rfl, ?_⟩
    have e3 : f + (i - f) = i := by omega
    show S (o (f + (i - f))) = j
    rw [e3]
    exact e2
/-- what is left out up to a group's border -/
theorem gz_out_step {g : Nat → Nat} {h : Nat → Bool} {m f e : Nat} (hg : gz_grp g m f e) : gz_cn (fun i => ! h (g i)) e = gz_cn (fun i => ! h (g i)) f + (if h (g f) = true then 0 else e - f) := by
  obtain ⟨h1, h2, h3, h4⟩ := hg
  obtain ⟨a, rfl⟩ : ∃ a, e = f + a := ⟨e - f, by omega⟩
  rw [gz_cn_add]
  have e1 : f + a - f = a := by omega
  rw [e1]
  by_cases c : h (g f) = true
  · have e2 : gz_cn (fun i => ! h (g (f + i))) a = 0 := gz_cn_0 (fun i hi => by rw [h3 (f + i) (by omega) (by omega), c]; rfl)
    rw [if_pos c, e2]
  · have c' : h (g f) = false := by
      cases hh : h (g f) with
      | false => rfl
      | true => exact absurd hh c
    have e2 : gz_cn (fun i => ! h (g (f + i))) a = a := gz_cn_all (fun i hi => by rw [h3 (f + i) (by omega) (by omega), c']; rfl)
    rw [if_neg c, e2]
/-! how many different keys -/
def gz_dc (g : Nat → Nat) (m : Nat) : Nat := gz_cn (fun k => decide (0 < gz_cn (fun i => decide (g i = k)) m)) 4096
theorem gz_occ {g : Nat → Nat} {m k : Nat} : 0 < gz_cn (fun i => decide (g i = k)) m ↔ ∃ i, i < m ∧ g i = k := by
  constructor
  · intro h
    obtain ⟨i, hi, e⟩ := gz_cn_ex h
    exact ⟨i, hi, of_decide_eq_true e⟩
  · rintro ⟨i, hi, e⟩
    exact gz_cn_pos hi (decide_eq_true e)
theorem gz_dc_0 (g : Nat → Nat) : gz_dc g 0 = 0 := gz_cn_0 (fun _ _ => rfl)
theorem gz_dc_old {g : Nat → Nat} {m i : Nat} (hi : i < m) (e : g i = g m) : gz_dc g (m + 1) = gz_dc g m := by
  refine gz_cn_congr (fun k _ => ?_)
  rw [Bool.eq_iff_iff, decide_eq_true_eq, decide_eq_true_eq, gz_occ, gz_occ]
  constructor
  · rintro ⟨j, hj, ej⟩
    by_cases c : j = m
    · subst c; exact ⟨i, hi, e.trans ej⟩
    · exact ⟨j, by omega, ej⟩
  · rintro ⟨j, hj, ej⟩
    exact ⟨j, by omega, ej⟩
theorem gz_cn_one {p q : Nat → Bool} {k : Nat} : ∀ {n : Nat}, k < n → (∀ i, i < n → i ≠ k → p i = q i) → p k = true → q k = false → gz_cn p n = gz_cn q n + 1 := by
  intro n
  induction n with
  | zero => intro h; exact absurd h (Nat.not_lt_zero k)
  | succ n ih =>
    intro hk h hp hq
    by_cases c : k = n
    · subst c
      rw [gz_cn_t hp, gz_cn_f hq, gz_cn_congr (fun i hi => h i (by omega) (by omega))]
    · have h1 := ih (by omega) (fun i hi => h i (by omega)) hp hq
      have h2 := h n (by omega) (fun z => c z.symm)
      rw [gz_cn_s, gz_cn_s, h2, h1]
      omega
theorem gz_dc_new {g : Nat → Nat} {m : Nat} (hg : g m < 4096) (e : ∀ i, i < m → g i ≠ g m) : gz_dc g (m + 1) = gz_dc g m + 1 := by
  refine gz_cn_one (k := g m) hg (fun k _ hk => ?_) ?_ ?_
  · rw [Bool.eq_iff_iff, decide_eq_true_eq, decide_eq_true_eq, gz_occ, gz_occ]
    constructor
    · rintro ⟨j, hj, ej⟩
      by_cases c : j = m
      · subst c; exact absurd ej.symm hk
      · exact ⟨j, by omega, ej⟩
    · rintro ⟨j, hj, ej⟩
      exact ⟨j, by omega, ej⟩
  · exact decide_eq_true (gz_occ.mpr ⟨m, by omega, rfl⟩)
  · refine decide_eq_false (fun h => ?_)
    obtain ⟨i, hi, ei⟩ := gz_occ.mp h
    exact e i hi ei
theorem gz_dc_perm {K o : Nat → Nat} {m : Nat} (hp : gz_perm o m) : gz_dc (fun i => K (o i)) m = gz_dc K m := by
  refine gz_cn_congr (fun k _ => ?_)
  rw [hp (fun q => decide (K q = k))]
theorem gz_dc_le (g : Nat → Nat) : ∀ m, gz_dc g m ≤ m := by
  intro m
  induction m with
  | zero => rw [gz_dc_0]; exact Nat.le_refl _
  | succ m ih =>
    by_cases h : ∃ i, i < m ∧ g i = g m
    · obtain ⟨i, hi, e⟩ := h
      rw [gz_dc_old hi e]; omega
    · by_cases c : g m < 4096
      · rw [gz_dc_new c (fun i hi e => h ⟨i, hi, e⟩)]; omega
      · have e : gz_dc g (m + 1) = gz_dc g m := by
          refine gz_cn_congr (fun k hk => ?_)
          rw [Bool.eq_iff_iff, decide_eq_true_eq, decide_eq_true_eq, gz_occ, gz_occ]
          constructor
          · rintro ⟨j, hj, ej⟩
            by_cases d : j = m
            · subst d; omega
            · exact ⟨j, by omega, ej⟩
          · rintro ⟨j, hj, ej⟩
            exact ⟨j, by omega, ej⟩
        rw [e]; omega
theorem gz_dc_grp {g : Nat → Nat} {m f e : Nat} (hlt : ∀ i, g i < 4096) (hb : gz_bd g m f) (hg : gz_grp g m f e) : gz_dc g e = gz_dc g f + 1 := by
  obtain ⟨h1, h2, h3, h4⟩ := hg
  obtain ⟨a, rfl⟩ : ∃ a, e = f + 1 + a := ⟨e - (f + 1), by omega⟩
  have h5 : gz_dc g (f + 1) = gz_dc g f + 1 := gz_dc_new (hlt f) (fun i hi ei => by
    have := hb.2 i f hi (Nat.le_refl _) (by omega)
    omega)
  rw [← h5]
  have h6 : ∀ b, b ≤ a → gz_dc g (f + 1 + b) = gz_dc g (f + 1) := by
    intro b
    induction b with
    | zero => intro _; rfl
    | succ b ih =>
      intro hb
      rw [← ih (by omega)]
      exact gz_dc_old (i := f) (m := f + 1 + b) (by omega) (h3 (f + 1 + b) (by omega) (by omega)).symm
  exact h6 a (Nat.le_refl _)
end
section
/-! X: levels, keys, the sort -/
theorem gz_or (a b : Nat) : nI a ||| nI b = nI (a ||| b) := by
  apply Int32.toBitVec_inj.1
  show BitVec.ofNat 32 a ||| BitVec.ofNat 32 b = BitVec.ofNat 32 (a ||| b)
  apply BitVec.eq_of_getLsbD_eq
  intro i hi
  simp [hi]
theorem gz_or2 {k a b : Nat} (h : a < 2 ^ k) : a ||| b * 2 ^ k = a + b * 2 ^ k := by
  rw [Nat.or_comm, Nat.mul_comm, ← Nat.two_pow_add_eq_or_of_lt h b, Nat.add_comm]
theorem gz_kstep {key x l j : Nat} {c : Int32} (hc : (c.toBitVec.smod 32).toNat = j) (hx : x < 16) (hl : l < 32) (hj : j ≤ 8) (hk : key < 2 ^ j) : nI key ||| ((nI x >>> (nI l &&& 31)) <<< c) = nI (key + x / 2 ^ l * 2 ^ j) := by
  have h1 : x / 2 ^ l ≤ x := Nat.div_le_self _ _
  have h2 : 2 ^ j ≤ 2 ^ 8 := Nat.pow_le_pow_right (by decide) hj
  have h3 : x / 2 ^ l * 2 ^ j ≤ 15 * 2 ^ 8 := Nat.mul_le_mul (by omega) h2
  rw [pk_shrN (by omega) _ l (s_l l hl), pk_shlN c j hc (Nat.lt_of_le_of_lt h3 (by decide)), gz_or, gz_or2 hk]
theorem gz_kval {v j : Nat} {c : Int32} (hv : v < 4096) (hc : (c.toBitVec.smod 32).toNat = j) : (nI v >>> c) &&& 15 = nI (v / 2 ^ j % 16) := by
  have h1 : v / 2 ^ j ≤ v := Nat.div_le_self _ _
  rw [pk_shrN (by omega) c j hc, pk_andN (by omega) 4 (by decide)]
theorem gz_e5 {s : Nat} (hs : s < 125) : nI s - nI s / 5 * 5 = nI (s % 5) := pk_rem (d := 5) (by omega) (by decide) (by decide)
theorem gz_e55 {s : Nat} (hs : s < 125) : nI s / 5 - nI s / 5 / 5 * 5 = nI (s / 5 % 5) := by
  have e : nI s / 5 = nI (s / 5) := pk_div (d := 5) (by omega) (by decide) (by decide)
  rw [e]
  exact gz_e5 (by omega)
theorem gz_e25 {s : Nat} (hs : s < 125) : nI s / 25 = nI (s / 25) := pk_div (d := 25) (by omega) (by decide) (by decide)
theorem gz_l0 {post : Int32 → Prop} {s : Nat} (hs : s < 125) (h : post (nI (s % 5))) : wpX_levelOf post (nI s) 0 := by
  unfold wpX_levelOf
  rw [gz_e5 hs]
  exact br_t rfl ⟨by decide, h⟩
theorem gz_l1 {post : Int32 → Prop} {s : Nat} (hs : s < 125) (h : post (nI (s / 5 % 5))) : wpX_levelOf post (nI s) 1 := by
  unfold wpX_levelOf
  rw [gz_e55 hs]
  exact br_f (by decide) (br_t rfl ⟨by decide, by decide, h⟩)
theorem gz_l2 {post : Int32 → Prop} {s : Nat} (hs : s < 125) (h : post (nI (s / 25))) : wpX_levelOf post (nI s) 2 := by
  unfold wpX_levelOf
  rw [gz_e25 hs]
  exact br_f (by decide) (br_f (by decide) ⟨by decide, h⟩)
def gz_sum (s : Nat) : Nat := s % 5 + s / 5 % 5 + s / 25
theorem gz_xsum {post : Int32 → Prop} {s : Nat} (hs : s < 125) (h : post (nI (gz_sum s))) : wpX_sumOfLevels post (nI s) := by
  unfold wpX_sumOfLevels
  rw [gz_e5 hs, gz_e55 hs, gz_e25 hs, nI_add, nI_add]
  exact ⟨by decide, by decide, by decide, by decide, h⟩
def gz_X (m : Nat) (V S : Nat → Nat) (vals secs : Nat → Int32) : Prop := m ≤ 16 ∧ ∀ q, q < m → V q < 4096 ∧ S q < 8 ∧ vals q = nI (V q) ∧ secs q = nI (S q)
section
variable {m : Nat} {V S : Nat → Nat} {ls ks al rd : Int32} {vals secs kn ord sh : Nat → Int32}
theorem gz_xkey {q s : Nat} {post : Int32 → Prop} (hX : gz_X m V S vals secs) (hq : q < m) (hs : s < 125) (h : post (nI (gz_key (V q) s))) : wpX_keyOf post (nI m, ls, ks, al, rd, vals, secs, kn, ord, sh) (nI q) (nI s) := by
  have hm := hX.1
  obtain ⟨hV, hS, ev, es⟩ := hX.2 q hq
  have hin : vp_in (nI q) 16 := vp_in_nI (by omega) (by decide)
  have ec : vals (nI q).toNatClampNeg = nI (V q) := by rw [nI_clamp (by omega)]; exact ev
  have v0 : ((vals (nI q).toNatClampNeg) >>> (((4 : Int32) * 0) &&& 31)) &&& 15 = nI (V q % 16) := by
    rw [ec, gz_kval (j := 0) hV (by decide), Nat.pow_zero, Nat.div_one]
  have v1 : ((vals (nI q).toNatClampNeg) >>> (((4 : Int32) * 1) &&& 31)) &&& 15 = nI (V q / 16 % 16) := by
    rw [ec]; exact gz_kval (j := 4) hV (by decide)
  have v2 : ((vals (nI q).toNatClampNeg) >>> (((4 : Int32) * 2) &&& 31)) &&& 15 = nI (V q / 256 % 16) := by
    rw [ec]; exact gz_kval (j := 8) hV (by decide)
  have x0 := gz_dlt (V q) (s % 5)
  have x1 := gz_dlt (V q / 16) (s / 5 % 5)
  have k0 : (0 : Int32) ||| ((nI (V q % 16) >>> (nI (s % 5) &&& 31)) <<< (((4 : Int32) * 0) &&& 31)) = nI (V q % 16 / 2 ^ (s % 5)) := by
    have e := gz_kstep (key := 0) (x := V q % 16) (l := s % 5) (j := 0) (c := ((4 : Int32) * 0) &&& 31) (by decide) (Nat.mod_lt _ (by decide)) (by omega) (by decide) (by decide)
    rw [Nat.zero_add, Nat.pow_zero, Nat.mul_one] at e
    exact e
  have k1 : nI (V q % 16 / 2 ^ (s % 5)) ||| ((nI (V q / 16 % 16) >>> (nI (s / 5 % 5) &&& 31)) <<< (((4 : Int32) * 1) &&& 31)) = nI (V q % 16 / 2 ^ (s % 5) + V q / 16 % 16 / 2 ^ (s / 5 % 5) * 2 ^ 4) :=
    gz_kstep (by decide) (Nat.mod_lt _ (by decide)) (by omega) (by decide) x0
  have k2 : nI (V q % 16 / 2 ^ (s % 5) + V q / 16 % 16 / 2 ^ (s / 5 % 5) * 2 ^ 4) ||| ((nI (V q / 256 % 16) >>> (nI (s / 25) &&& 31)) <<< (((4 : Int32) * 2) &&& 31)) = nI (V q % 16 / 2 ^ (s % 5) + V q / 16 % 16 / 2 ^ (s / 5 % 5) * 2 ^ 4 + V q / 256 % 16 / 2 ^ (s / 25) * 2 ^ 8) :=
    gz_kstep (by decide) (Nat.mod_lt _ (by decide)) (by omega) (by decide) (by omega)
  unfold wpX_keyOf
  refine ⟨4, ?_⟩
  refine br_f (by decide) ⟨hin, nm_r v0 (gz_l0 hs (nm_r k0 (nm_r (e' := 1) (by decide) ?_)))⟩
  refine br_f (by decide) ⟨hin, nm_r v1 (gz_l1 hs (nm_r k1 (nm_r (e' := 2) (by decide) ?_)))⟩
  refine br_f (by decide) ⟨hin, nm_r v2 (gz_l2 hs (nm_r k2 (nm_r (e' := 3) (by decide) ?_)))⟩
  exact br_t (by decide) h
/-- the inner pass of the sort: place i is the hole -/
def gz_hole (K o : Nat → Nat) (r i : Nat) (ord sh : Nat → Int32) : Prop := (∀ j, j < i → ord j = nI (o j) ∧ sh j = nI (K (o j))) ∧ (∀ j, i < j → j ≤ r → ord j = nI (o (j - 1)) ∧ sh j = nI (K (o (j - 1))) ∧ K r < K (o (j - 1)))
theorem gz_hole_fill {K o : Nat → Nat} {r i : Nat} (h : gz_hole K o r i ord sh) (hi : i ≤ r) : ∀ j, j < r + 1 → upd ord i (nI r) j = nI (gz_ins o r i j) ∧ upd sh i (nI (K r)) j = nI (K (gz_ins o r i j)) := by
  intro j hj
  rcases Nat.lt_trichotomy j i with c | c | c
  · rw [pk_un (by omega), pk_un (by omega), gz_ins_lo c]
    exact h.1 j c
  · subst c
    rw [pk_us, pk_us, gz_ins_eq]
    exact ⟨rfl, rfl⟩
  · rw [pk_un (by omega), pk_un (by omega), gz_ins_hi c]
    have := h.2 j c (by omega)
    exact ⟨this.1, this.2.1⟩
theorem gz_hole_move {K o : Nat → Nat} {r i : Nat} (h : gz_hole K o r (i + 1) ord sh) (hi : i + 1 ≤ r) (hk : K r < K (o i)) : gz_hole K o r i (upd ord (i + 1) (ord i)) (upd sh (i + 1) (sh i)) := by
  constructor
  · intro j hj
    rw [pk_un (by omega), pk_un (by omega)]
    exact h.1 j (by omega)
  · intro j hj hr
    by_cases c : j = i + 1
    · subst c
      rw [pk_us, pk_us, Nat.add_sub_cancel]
      exact ⟨(h.1 i (by omega)).1, (h.1 i (by omega)).2, hk⟩
    · rw [pk_un c, pk_un c]
      exact h.2 j (by omega) hr
theorem gz_x76 {K o : Nat → Nat} {r s i : Nat} {post : SX → Prop} {J2 : Int32 → (Nat → Int32) → (Nat → Int32) → (Nat → Int32) → (Nat → Int32) → (Nat → Int32) → Prop} (hi : i < 16)
    (h : J2 (nI (r + 1)) vals secs kn (upd ord i (nI r)) (upd sh i (nI (K r)))) : wX_sortRows_76 post J2 (nI s) (nI r) (nI (K r)) (nI i) (nI m) ls ks al rd vals secs kn ord sh := by
  have hin : vp_in (nI i) 16 := vp_in_nI hi (by decide)
  have e : (nI i).toNatClampNeg = i := nI_clamp (by omega)
  unfold wX_sortRows_76
  rw [e]
  exact ⟨hin, nm_e ⟨hin, nm_e (nm_r (nI_1 r) h)⟩⟩
theorem gz_x20 {K o : Nat → Nat} {r s : Nat} {post : SX → Prop} {J2 : Int32 → (Nat → Int32) → (Nat → Int32) → (Nat → Int32) → (Nat → Int32) → (Nat → Int32) → Prop} (hm : m ≤ 16) (hr : r < m) (hK : ∀ q, K q < 4096)
    (hJ : ∀ i ord' sh', i ≤ r → (∀ j, i = j + 1 → K (o j) ≤ K r) → (∀ j, i ≤ j → j < r → K r < K (o j)) → (∀ j, j < r + 1 → ord' j = nI (gz_ins o r i j) ∧ sh' j = nI (K (gz_ins o r i j))) → J2 (nI (r + 1)) vals secs kn ord' sh') :
    ∀ n i ord sh, i < n → i ≤ r → gz_hole K o r i ord sh → wX_sortRows_20 post J2 (nI s) (nI r) (nI (K r)) (nI m) ls ks al rd n (nI i) vals secs kn ord sh := by
  intro n
  induction n with
  | zero => intro i _ _ hi; exact absurd hi (Nat.not_lt_zero i)
  | succ n ih =>
    intro i ord sh hi hir hh
    have hJ' : (∀ j, i = j + 1 → K (o j) ≤ K r) → wX_sortRows_76 post J2 (nI s) (nI r) (nI (K r)) (nI i) (nI m) ls ks al rd vals secs kn ord sh := fun h1 =>
      gz_x76 (o := o) (by omega) (hJ i _ _ hir h1 (fun j hj hjr => by
        have h3 := (hh.2 (j + 1) (by omega) (by omega)).2.2
        rw [Nat.add_sub_cancel] at h3
        exact h3) (gz_hole_fill hh hir))
    cases i with
    | zero => exact br_t (by decide) (hJ' (fun j hj => absurd hj (by omega)))
    | succ i =>
      have e1 : nI (i + 1) - 1 = nI i := nI_pred i
      have e2 : (nI (i + 1) - 1).toNatClampNeg = i := by rw [e1]; exact nI_clamp (by omega)
      have e3 : (nI (i + 1)).toNatClampNeg = i + 1 := nI_clamp (by omega)
      have hin1 : vp_in (nI (i + 1) - 1) 16 := by rw [e1]; exact vp_in_nI (by omega) (by decide)
      have hin2 : vp_in (nI (i + 1)) 16 := vp_in_nI (by omega) (by decide)
      have eo := (hh.1 i (by omega)).2
      have k1 := hK (o i)
      have k2 := hK r
      refine br_f (nI_nle (by omega) (by omega)) ⟨hin1, ?_⟩
      by_cases c : K (o i) ≤ K r
      · refine br_t ?_ (hJ' (fun j hj => ?_))
        · rw [e2, eo]; exact nI_le c (by omega)
        · have e4 : j = i := by omega
          rw [e4]; exact c
      · refine br_f ?_ ⟨hin1, hin2, nm_r (e' := upd sh (i + 1) (sh i)) (by rw [e2, e3]) ⟨hin1, hin2, nm_r (e' := upd ord (i + 1) (ord i)) (by rw [e2, e3]) (nm_r (pk_m1 i) (ih i _ _ (by omega) (by omega) (gz_hole_move hh hir (by omega))))⟩⟩
        rw [e2, eo]; exact nI_ge (by omega) (by omega)
/-- the rows below r lie sorted -/
def gz_RS (K : Nat → Nat) (r : Nat) (ord sh : Nat → Int32) : Prop := ∃ o, gz_perm o r ∧ gz_srt K o r ∧ ∀ j, j < r → ord j = nI (o j) ∧ sh j = nI (K (o j))
theorem gz_RS_0 (K : Nat → Nat) (ord sh : Nat → Int32) : gz_RS K 0 ord sh := ⟨fun i => i, gz_perm_0 _, gz_srt_0 _ _, fun j h => absurd h (Nat.not_lt_zero j)⟩
theorem gz_xsort2 {s : Nat} {post : SX → Prop} (hX : gz_X m V S vals secs) (hs : s < 125) (hp : ∀ ord sh, gz_RS (fun q => gz_key (V q) s) m ord sh → post (nI m, ls, ks, al, rd, vals, secs, kn, ord, sh)) :
    ∀ n r ord sh, m < n + r → r ≤ m → gz_RS (fun q => gz_key (V q) s) r ord sh → wX_sortRows_2 post (nI s) (nI m) ls ks al rd n (nI r) vals secs kn ord sh := by
  have hm := hX.1
  intro n
  induction n with
  | zero => intro r _ _ h1 h2; exact absurd h1 (by omega)
  | succ n ih =>
    intro r ord sh h1 h2 hR
    refine pk_le m r (fun h => ?_) (fun h => ?_)
    · have e : r = m := by omega
      subst e
      exact hp _ _ hR
    · obtain ⟨o, hpm, hst, ho⟩ := hR
      refine gz_xkey hX h hs ⟨r + 1, ?_⟩
      refine gz_x20 (K := fun q => gz_key (V q) s) (o := o) hm h (fun q => gz_key_lt _ _) (fun i ord' sh' hi a1 a2 a3 => ?_) (r + 1) r ord sh (by omega) (Nat.le_refl _) ⟨ho, fun j hj hr => absurd hr (by omega)⟩
      refine ih (r + 1) ord' sh' (by omega) (by omega) ⟨gz_ins o r i, gz_perm_ins hi hpm, gz_srt_ins hi hst (fun j hj => ?_) (fun j hj hr => Nat.le_of_lt (a2 j hj hr)), a3⟩
      cases i with
      | zero => exact absurd hj (Nat.not_lt_zero j)
      | succ i => exact Nat.le_trans (hst j i (by omega) (by omega)) (a1 i rfl)
theorem gz_xsort {s : Nat} {post : SX → Prop} (hX : gz_X m V S vals secs) (hs : s < 125) (hp : ∀ ord sh, gz_RS (fun q => gz_key (V q) s) m ord sh → post (nI m, ls, ks, al, rd, vals, secs, kn, ord, sh)) : wpX_sortRows post (nI m, ls, ks, al, rd, vals, secs, kn, ord, sh) (nI s) := by
  unfold wpX_sortRows
  exact ⟨m + 1, gz_xsort2 hX hs hp (m + 1) 0 ord sh (by omega) (Nat.zero_le _) (gz_RS_0 _ _ _)⟩
end
end
section
/-! X: groups, secrets, what is left out -/
section
variable {m : Nat} {V S : Nat → Nat} {ls ks al rd : Int32} {vals secs kn ord sh : Nat → Int32}
theorem gz_xge4 {g : Nat → Nat} {f : Nat} {post : Int32 → Prop} (hm : m ≤ 16) (hg : ∀ i, g i < 4096) (hsh : ∀ j, j < m → sh j = nI (g j)) (hf : f < m) (h : ∀ e, gz_grp g m f e → post (nI e)) :
    ∀ n e, m < n + e → f < e → e ≤ m → (∀ i, f ≤ i → i < e → g i = g f) → wX_groupEnd_4 post (nI f) (nI m) ls ks al rd vals secs kn ord sh n (nI e) := by
  intro n
  induction n with
  | zero => intro e h1 _ h2; exact absurd h1 (by omega)
  | succ n ih =>
    intro e h1 hfe hem hall
    refine pk_le m e (fun c => ?_) (fun c => ?_)
    · exact h e ⟨hfe, hem, hall, fun c2 => absurd c2 (by omega)⟩
    · have e1 : (nI e).toNatClampNeg = e := nI_clamp (by omega)
      have e2 : (nI f).toNatClampNeg = f := nI_clamp (by omega)
      have g1 := hg e
      have g2 := hg f
      refine ⟨vp_in_nI (by omega) (by decide), vp_in_nI (by omega) (by decide), ?_⟩
      rw [e1, e2, hsh e c, hsh f hf]
      refine pk_eq (g e) (g f) (fun d => ?_) (fun d => ?_)
      · refine nm_r (nI_1 e) (ih (e + 1) (by omega) (by omega) (by omega) (fun i hi hie => ?_))
        by_cases q : i = e
        · rw [q]; exact d
        · exact hall i hi (by omega)
      · exact h e ⟨hfe, hem, hall, fun _ => d⟩
theorem gz_xge {g : Nat → Nat} {f : Nat} {post : Int32 → Prop} (hm : m ≤ 16) (hg : ∀ i, g i < 4096) (hsh : ∀ j, j < m → sh j = nI (g j)) (hf : f < m) (h : ∀ e, gz_grp g m f e → post (nI e)) : wpX_groupEnd post (nI m, ls, ks, al, rd, vals, secs, kn, ord, sh) (nI f) := by
  unfold wpX_groupEnd
  refine nm_r (nI_1 f) ⟨m + 1, gz_xge4 hm hg hsh hf h (m + 1) (f + 1) (by omega) (by omega) (by omega) (fun i h1 h2 => ?_)⟩
  have e : i = f := by omega
  rw [e]
theorem gz_bitN {M j : Nat} (hM : M < 2 ^ 8) (hj : j < 32) : (nI M >>> (nI j &&& 31)) &&& 1 = nI (M / 2 ^ j % 2) := by
  have h1 : M / 2 ^ j ≤ M := Nat.div_le_self _ _
  rw [pk_shrN (by omega) _ j (s_l j hj), pk_andN (by omega) 1 (by decide)]
theorem gz_bitS {M j : Nat} (hM : M < 2 ^ 8) (hj : j < 32) : nI (gz_pc M j) + ((nI M >>> (nI j &&& 31)) &&& 1) = nI (gz_pc M (j + 1)) := by
  rw [gz_bitN hM hj, nI_add]
  rfl
theorem gz_bitOr {M j : Nat} (hj : j < 8) : nI M ||| ((1 : Int32) <<< (nI j &&& 31)) = nI (M ||| 2 ^ j) := by
  have h1 : 2 ^ j < 2 ^ 8 := Nat.pow_lt_pow_right (by decide) hj
  have e : (1 : Int32) <<< (nI j &&& 31) = nI (2 ^ j) := by
    have e2 := pk_shlN (n := 1) (nI j &&& 31) j (s_l j (by omega)) (by omega)
    rw [Nat.one_mul] at e2
    exact e2
  rw [e, gz_or]
theorem gz_xsk40 {M : Nat} {post : Int32 → Prop} (hM : M < 2 ^ 8) (h : post (nI (gz_pc M 8))) : ∀ n j, 8 < n + j → j ≤ 8 → wX_secretKinds_40 post (nI M) (nI m) ls ks al rd vals secs kn ord sh n (nI (gz_pc M j)) (nI j) := by
  intro n
  induction n with
  | zero => intro j h1 h2; exact absurd h1 (by omega)
  | succ n ih =>
    intro j h1 h2
    refine pk_le 8 j (fun c => ?_) (fun c => ?_)
    · have e : j = 8 := by omega
      subst e
      exact h
    · exact nm_r (gz_bitS hM (by omega)) (nm_r (nI_1 j) (ih (j + 1) (by omega) (by omega)))
theorem gz_xsk5 {o : Nat → Nat} {f e : Nat} {post : Int32 → Prop} (hX : gz_X m V S vals secs) (hp : gz_perm o m) (ho : ∀ j, j < m → ord j = nI (o j)) (he : e ≤ m)
    (h : post (nI (gz_pc (gz_mk (fun j => S (o (f + j))) (fun _ => true) (e - f)) 8))) :
    ∀ n d, e < n + (f + d) → f + d ≤ e → wX_secretKinds_5 post (nI e) (nI m) ls ks al rd vals secs kn ord sh n (nI (gz_mk (fun j => S (o (f + j))) (fun _ => true) d)) (nI (f + d)) := by
  have hm := hX.1
  intro n
  induction n with
  | zero => intro d h1 h2; exact absurd h1 (by omega)
  | succ n ih =>
    intro d h1 h2
    refine pk_le e (f + d) (fun c => ?_) (fun c => ?_)
    · have e1 : d = e - f := by omega
      subst e1
      refine ⟨9, ?_⟩
      exact gz_xsk40 (gz_mk_lt (fun i hi => (hX.2 _ (gz_perm_lt hp (by omega))).2.1)) h 9 0 (by omega) (by omega)
    · have e1 : (nI (f + d)).toNatClampNeg = f + d := nI_clamp (by omega)
      have h3 : o (f + d) < m := gz_perm_lt hp (by omega)
      have e2 : (nI (o (f + d))).toNatClampNeg = o (f + d) := nI_clamp (by omega)
      obtain ⟨hV, hS, ev, es⟩ := hX.2 _ h3
      refine ⟨vp_in_nI (by omega) (by decide), ?_⟩
      rw [e1, ho (f + d) (by omega), e2, es]
      have e3 : nI (gz_mk (fun j => S (o (f + j))) (fun _ => true) d) ||| ((1 : Int32) <<< (nI (S (o (f + d))) &&& 31)) = nI (gz_mk (fun j => S (o (f + j))) (fun _ => true) (d + 1)) := by
        rw [gz_mk_t rfl]
        exact gz_bitOr hS
      refine ⟨vp_in_nI (by omega) (by decide), nm_r e3 (nm_r (nI_1 (f + d)) ?_)⟩
      exact ih (d + 1) (by omega) (by omega)
theorem gz_xsk {o : Nat → Nat} {f e : Nat} {post : Int32 → Prop} (hX : gz_X m V S vals secs) (hp : gz_perm o m) (ho : ∀ j, j < m → ord j = nI (o j)) (hf : f ≤ e) (he : e ≤ m)
    (h : post (nI (gz_pc (gz_mk (fun j => S (o (f + j))) (fun _ => true) (e - f)) 8))) : wpX_secretKinds post (nI m, ls, ks, al, rd, vals, secs, kn, ord, sh) (nI f) (nI e) := by
  unfold wpX_secretKinds
  exact ⟨e + 1, gz_xsk5 hX hp ho he h (e + 1) 0 (by omega) (by omega)⟩
theorem gz_x9 {o : Nat → Nat} {s : Nat} {post : Int32 → SX → Prop} (hX : gz_X m V S vals secs) (hs : s < 125) (hp : gz_perm o m) (hst : gz_srt (fun q => gz_key (V q) s) o m) (ho : ∀ j, j < m → ord j = nI (o j) ∧ sh j = nI (gz_key (V (o j)) s))
    (h : post (nI (gz_lo ls ks V S m s)) (nI m, ls, ks, al, rd, vals, secs, kn, ord, sh)) :
    ∀ n f, m < n + f → gz_bd (fun i => gz_key (V (o i)) s) m f → wX_countLeftOut_9 post (nI m) ls ks al rd vals secs kn ord sh n (nI (gz_cn (fun i => ! gz_hid ls ks (fun q => gz_key (V q) s) S m (gz_key (V (o i)) s)) f)) (nI f) := by
  have hm := hX.1
  intro n
  induction n with
  | zero => intro f h1 h2; have := h2.1; exact absurd h1 (by omega)
  | succ n ih =>
    intro f h1 hb
    have hfm := hb.1
    refine pk_le m f (fun c => ?_) (fun c => ?_)
    · have e : f = m := by omega
      subst e
      have e2 := hp (fun r => ! gz_hid ls ks (fun q => gz_key (V q) s) S f (gz_key (V r) s))
      show post (nI (gz_cn (fun i => ! gz_hid ls ks (fun q => gz_key (V q) s) S f (gz_key (V (o i)) s)) f)) _
      rw [e2]
      exact h
    · refine gz_xge (g := fun i => gz_key (V (o i)) s) hm (fun i => gz_key_lt _ _) (fun j hj => (ho j hj).2) c (fun e hg => ?_)
      refine gz_xsk hX hp (fun j hj => (ho j hj).1) (Nat.le_of_lt hg.1) hg.2.1 ?_
      have hnum := gz_grp_num (K := fun q => gz_key (V q) s) hp hst hb hg
      have hsec : gz_sec (fun q => gz_key (V q) s) S m (gz_key (V (o f)) s) = gz_pc (gz_mk (fun j => S (o (f + j))) (fun _ => true) (e - f)) 8 :=
        (congrArg (fun M => gz_pc M 8) (gz_grp_sec (K := fun q => gz_key (V q) s) (S := S) hp hst hb hg)).symm
      have hstep := gz_out_step (h := gz_hid ls ks (fun q => gz_key (V q) s) S m) hg
      have hgo := ih e (by have := hg.1; omega) (gz_bd_step (fun i j => hst i j) hb hg)
      have esub : nI e - nI f = nI (e - f) := pk_sub (Nat.le_of_lt hg.1)
      have hle1 : gz_cn (fun i => ! gz_hid ls ks (fun q => gz_key (V q) s) S m (gz_key (V (o i)) s)) f ≤ f := gz_cn_le _ _
      rw [← hsec]
      have hnum' : gz_num (fun q => gz_key (V q) s) m (gz_key (V (o f)) s) = e - f := hnum
      have J53 : ¬ gz_hid ls ks (fun q => gz_key (V q) s) S m (gz_key (V (o f)) s) = true → wX_countLeftOut_53 post (wX_countLeftOut_9 post (nI m) ls ks al rd vals secs kn ord sh n) (nI (gz_cn (fun i => ! gz_hid ls ks (fun q => gz_key (V q) s) S m (gz_key (V (o i)) s)) f)) (nI f) (nI e) (nI m) ls ks al rd vals secs kn ord sh := by
        intro hn
        unfold wX_countLeftOut_53
        refine nm_r ?_ hgo
        rw [esub, nI_add, hstep, if_neg hn]
      show ((nI e - nI f < ls → _) ∧ (¬ nI e - nI f < ls → _))
      refine br_c (fun d => J53 ?_) (fun d => br_c (fun d2 => ?_) (fun d2 => J53 ?_))
      · intro hh
        rw [esub, ← hnum'] at d
        exact (of_decide_eq_true hh).1 d
      · have hh : gz_hid ls ks (fun q => gz_key (V q) s) S m (gz_key (V (o f)) s) = true := by
          rw [esub, ← hnum'] at d
          exact decide_eq_true ⟨d, Int32.not_lt.mpr d2⟩
        rw [hstep, if_pos hh, Nat.add_zero] at hgo
        exact hgo
      · intro hh
        exact (of_decide_eq_true hh).2 (Int32.not_le.mp d2)
theorem gz_xclo {s : Nat} {post : Int32 → SX → Prop} (hX : gz_X m V S vals secs) (hs : s < 125) (h : ∀ ord sh, post (nI (gz_lo ls ks V S m s)) (nI m, ls, ks, al, rd, vals, secs, kn, ord, sh)) : wpX_countLeftOut post (nI m, ls, ks, al, rd, vals, secs, kn, ord, sh) (nI s) := by
  unfold wpX_countLeftOut
  refine gz_xsort hX hs (fun ord sh hR => ?_)
  obtain ⟨o, hp, hst, ho⟩ := hR
  exact ⟨m + 1, gz_x9 hX hs hp hst ho (h ord sh) (m + 1) 0 (by omega) (gz_bd_0 _ _)⟩
theorem gz_xgr {o : Nat → Nat} {s : Nat} {post : Int32 → SX → Prop} (hX : gz_X m V S vals secs) (hs : s < 125) (hp : gz_perm o m) (hst : gz_srt (fun q => gz_key (V q) s) o m) (ho : ∀ j, j < m → ord j = nI (o j) ∧ sh j = nI (gz_key (V (o j)) s))
    (h : post (nI (gz_dc (fun q => gz_key (V q) s) m)) (nI m, ls, ks, al, rd, vals, secs, kn, ord, sh)) :
    ∀ n f, m < n + f → gz_bd (fun i => gz_key (V (o i)) s) m f → wX_groups_19 post (nI m) ls ks al rd vals secs kn ord sh n (nI (gz_dc (fun i => gz_key (V (o i)) s) f)) (nI f) := by
  have hm := hX.1
  intro n
  induction n with
  | zero => intro f h1 h2; have := h2.1; exact absurd h1 (by omega)
  | succ n ih =>
    intro f h1 hb
    have hfm := hb.1
    refine pk_le m f (fun c => ?_) (fun c => ?_)
    · have e : f = m := by omega
      subst e
      have e2 : gz_dc (fun i => gz_key (V (o i)) s) f = gz_dc (fun q => gz_key (V q) s) f := gz_dc_perm (K := fun q => gz_key (V q) s) hp
      rw [e2]
      exact h
    · refine gz_xge (g := fun i => gz_key (V (o i)) s) hm (fun i => gz_key_lt _ _) (fun j hj => (ho j hj).2) c (fun e hg => ?_)
      refine nm_r ?_ (ih e (by have := hg.1; omega) (gz_bd_step (fun i j => hst i j) hb hg))
      rw [gz_dc_grp (fun i => gz_key_lt _ _) hb hg]
      exact nI_1 _
theorem gz_xgroups {s : Nat} {post : Int32 → SX → Prop} (hX : gz_X m V S vals secs) (hs : s < 125) (h : ∀ ord sh, post (nI (gz_dc (fun q => gz_key (V q) s) m)) (nI m, ls, ks, al, rd, vals, secs, kn, ord, sh)) : wpX_sortRows (fun u => match u with | (f_rows_4, f_least_5, f_kinds_6, f_allowed_7, f_ready_8, a_values_9, a_secrets_10, a_known_11, a_order_12, a_shown_13) => (∃ n19 : Nat, wX_groups_19 post f_rows_4 f_least_5 f_kinds_6 f_allowed_7 f_ready_8 a_values_9 a_secrets_10 a_known_11 a_order_12 a_shown_13 n19 0 0)) (nI m, ls, ks, al, rd, vals, secs, kn, ord, sh) (nI s) := by
  refine gz_xsort hX hs (fun ord sh hR => ?_)
  obtain ⟨o, hp, hst, ho⟩ := hR
  have hz := gz_xgr hX hs hp hst ho (h ord sh) (m + 1) 0 (by omega) (gz_bd_0 _ _)
  rw [gz_dc_0] at hz
  exact ⟨m + 1, hz⟩
end
end
section
/-! X: judging all settings -/
theorem gz_xal {c f : Nat} {post : Int32 → Prop} (hc : c < 125) (hf : f < 125) (h1 : gz_ge c f → post 1) (h0 : ¬ gz_ge c f → post 0) : wpX_atLeast post (nI c) (nI f) := by
  unfold wpX_atLeast
  refine ⟨4, ?_⟩
  refine br_f (by decide) (gz_l0 hc (gz_l0 hf ?_))
  refine pk_le (f % 5) (c % 5) (fun a => ?_) (fun a => h0 (fun z => absurd z.1 (by omega)))
  refine nm_r (e' := 1) (by decide) ?_
  refine br_f (by decide) (gz_l1 hc (gz_l1 hf ?_))
  refine pk_le (f / 5 % 5) (c / 5 % 5) (fun b => ?_) (fun b => h0 (fun z => absurd z.2.1 (by omega)))
  refine nm_r (e' := 2) (by decide) ?_
  refine br_f (by decide) (gz_l2 hc (gz_l2 hf ?_))
  refine pk_le (f / 25) (c / 25) (fun d => ?_) (fun d => h0 (fun z => absurd z.2.2 (by omega)))
  refine nm_r (e' := 3) (by decide) ?_
  exact br_t (by decide) (h1 ⟨a, b, d⟩)
/-- the mark that a setting deserves -/
def gz_tv (b : Bool) : Int32 := if b = true then 1 else 2
theorem gz_tv1 (b : Bool) : gz_tv b = 1 ↔ b = true := by
  cases b <;> decide
theorem gz_tv0 (b : Bool) : gz_tv b ≠ 0 := by
  cases b <;> decide
def gz_snd (G : Nat → Bool) (kn : Nat → Int32) : Prop := ∀ s, s < 125 → kn s = 0 ∨ kn s = gz_tv (G s)
def gz_keep (kn kn' : Nat → Int32) : Prop := ∀ s, s < 125 → kn s ≠ 0 → kn' s ≠ 0
theorem gz_keep_rf (kn : Nat → Int32) : gz_keep kn kn := fun _ _ h => h
theorem gz_keep_tr {a b c : Nat → Int32} (h1 : gz_keep a b) (h2 : gz_keep b c) : gz_keep a c := fun s hs h => h2 s hs (h1 s hs h)
theorem gz_n1 : vp_nar .byte 1 = 1 := by rw [vp_nar_byte]; decide
theorem gz_n2 : vp_nar .byte 2 = 2 := by rw [vp_nar_byte]; decide
theorem gz_n0 : vp_nar .byte 0 = 0 := by rw [vp_nar_byte]; decide
theorem gz_snd_upd {G : Nat → Bool} {kn : Nat → Int32} {i : Nat} {x : Int32} (h : gz_snd G kn) (hx : x = gz_tv (G i)) : gz_snd G (upd kn i x) := by
  intro s hs
  by_cases c : s = i
  · subst c; rw [pk_us]; exact Or.inr hx
  · rw [pk_un c]; exact h s hs
theorem gz_keep_upd {kn : Nat → Int32} {i : Nat} {x : Int32} (hx : x ≠ 0) : gz_keep kn (upd kn i x) := by
  intro s hs h
  by_cases c : s = i
  · subst c; rw [pk_us]; exact hx
  · rw [pk_un c]; exact h
theorem gz_ge_rf (s : Nat) : gz_ge s s := ⟨Nat.le_refl _, Nat.le_refl _, Nat.le_refl _⟩
section
variable {m : Nat} {V S : Nat → Nat} {ls ks al rd : Int32} {vals secs kn ord sh : Nat → Int32}
theorem gz_x23 {G : Nat → Bool} {s : Nat} {post : SX → Prop} (x3 : Int32) (hG : ∀ c f, gz_ge c f → G f = true → G c = true) (hs : s < 125) (hx : (x3 = 0 ∧ G s = false) ∨ (x3 = 1 ∧ G s = true)) (kn0 : Nat → Int32)
    (h : ∀ kn', gz_snd G kn' → gz_keep kn0 kn' → kn' s ≠ 0 → post (nI m, ls, ks, al, rd, vals, secs, kn', ord, sh)) :
    ∀ n i kn, 125 < n + i → i ≤ 125 → gz_snd G kn → gz_keep kn0 kn → (s < i → kn s ≠ 0) → wX_judge_23 post (nI s) x3 (nI m) ls ks al rd n (nI i) vals secs kn ord sh := by
  intro n
  induction n with
  | zero => intro i _ h1 h2; exact absurd h1 (by omega)
  | succ n ih =>
    intro i kn h1 h2 h3 h4 h5
    refine pk_le 125 i (fun c => ?_) (fun c => ?_)
    · have e : i = 125 := by omega
      subst e
      exact h kn h3 h4 (h5 hs)
    · have hin : vp_in (nI i) 125 := vp_in_nI (by omega) (by decide)
      have e1 : (nI i).toNatClampNeg = i := nI_clamp (by omega)
      have no : ¬ i = s → wX_judge_23 post (nI s) x3 (nI m) ls ks al rd n (nI (i + 1)) vals secs kn ord sh := fun d =>
        ih (i + 1) kn (by omega) (by omega) h3 h4 (fun hsi => h5 (by omega))
      have yes : ∀ x : Int32, x = gz_tv (G i) → x ≠ 0 → wX_judge_23 post (nI s) x3 (nI m) ls ks al rd n (nI (i + 1)) vals secs (upd kn i x) ord sh := fun x hx1 hx2 =>
        ih (i + 1) _ (by omega) (by omega) (gz_snd_upd h3 hx1) (gz_keep_tr h4 (gz_keep_upd hx2)) (fun hsi => by
          by_cases d : s = i
          · subst d; rw [pk_us]; exact hx2
          · rw [pk_un d]; exact h5 (by omega))
      rcases hx with ⟨rfl, hb⟩ | ⟨rfl, hb⟩
      · refine br_t rfl (gz_xal hs c (fun q => ?_) (fun q => ?_))
        · unfold wX_judge_49
          rw [e1, gz_n2]
          refine br_f (by decide) (br_t rfl ⟨hin, nm_e (nm_r (nI_1 i) (yes 2 ?_ (by decide)))⟩)
          have hb2 : G i = false := by
            cases hh : G i with
            | false => rfl
            | true => rw [hG s i q hh] at hb; exact absurd hb (by decide)
          rw [hb2]
          decide
        · unfold wX_judge_49
          exact br_t rfl (nm_r (nI_1 i) (no (fun d => q (by rw [d]; exact gz_ge_rf s))))
      · refine br_f (by decide) (gz_xal c hs (fun q => ?_) (fun q => ?_))
        · unfold wX_judge_49
          rw [e1, gz_n1]
          refine br_f (by decide) (br_f (by decide) ⟨hin, nm_e (nm_r (nI_1 i) (yes 1 ?_ (by decide)))⟩)
          rw [hG i s q hb]
          decide
        · unfold wX_judge_49
          exact br_t rfl (nm_r (nI_1 i) (no (fun d => q (by rw [d]; exact gz_ge_rf s))))
theorem gz_xjudge {s : Nat} {post : SX → Prop} (hX : gz_X m V S vals secs) (hs : s < 125) (hk : gz_snd (gz_good ls ks al V S m) kn)
    (h : ∀ kn' ord' sh', gz_snd (gz_good ls ks al V S m) kn' → gz_keep kn kn' → kn' s ≠ 0 → post (nI m, ls, ks, al, rd, vals, secs, kn', ord', sh')) : wpX_judge post (nI m, ls, ks, al, rd, vals, secs, kn, ord, sh) (nI s) := by
  have hG : ∀ c f, gz_ge c f → gz_good ls ks al V S m f = true → gz_good ls ks al V S m c = true := fun c f h1 h2 => gz_good_mono hX.1 h1 h2
  unfold wpX_judge
  refine gz_xclo hX hs (fun ord sh => ?_)
  refine br_c (fun c => ⟨126, ?_⟩) (fun c => ⟨126, ?_⟩)
  · exact gz_x23 0 hG hs (Or.inl ⟨rfl, decide_eq_false (fun z => z c)⟩) kn (fun kn' a b d => h kn' ord sh a b d) 126 0 kn (by omega) (by omega) hk (gz_keep_rf _) (fun z => absurd z (Nat.not_lt_zero s))
  · exact gz_x23 1 hG hs (Or.inr ⟨rfl, decide_eq_true c⟩) kn (fun kn' a b d => h kn' ord sh a b d) 126 0 kn (by omega) (by omega) hk (gz_keep_rf _) (fun z => absurd z (Nat.not_lt_zero s))
theorem gz_sum_le {s : Nat} (h : s < 125) : gz_sum s ≤ 12 := by
  unfold gz_sum
  omega
theorem gz_xjs2 {t : Nat} {post : SX → Prop} (hX : gz_X m V S vals secs) (ht : t < 100) (kn0 : Nat → Int32)
    (h : ∀ kn' ord' sh', gz_snd (gz_good ls ks al V S m) kn' → gz_keep kn0 kn' → (∀ j, j < 125 → gz_sum j = t → kn' j ≠ 0) → post (nI m, ls, ks, al, rd, vals, secs, kn', ord', sh')) :
    ∀ n i kn ord sh, 125 < n + i → i ≤ 125 → gz_snd (gz_good ls ks al V S m) kn → gz_keep kn0 kn → (∀ j, j < i → gz_sum j = t → kn j ≠ 0) → wX_judgeSum_2 post (nI t) n (nI i) (nI m) ls ks al rd vals secs kn ord sh := by
  intro n
  induction n with
  | zero => intro i _ _ _ h1 h2; exact absurd h1 (by omega)
  | succ n ih =>
    intro i kn ord sh h1 h2 h3 h4 h5
    refine pk_le 125 i (fun c => ?_) (fun c => ?_)
    · have e : i = 125 := by omega
      subst e
      exact h kn ord sh h3 h4 h5
    · have hin : vp_in (nI i) 125 := vp_in_nI (by omega) (by decide)
      have e1 : (nI i).toNatClampNeg = i := nI_clamp (by omega)
      have hs := gz_sum_le c
      refine ⟨hin, ?_⟩
      rw [e1]
      refine br_c (fun d => ?_) (fun d => ?_)
      · refine gz_xsum c ?_
        refine pk_eq (gz_sum i) t (fun q => ?_) (fun q => ?_)
        · refine gz_xjudge hX c h3 (fun kn' ord' sh' a1 a2 a3 => ?_)
          refine nm_r (nI_1 i) (ih (i + 1) kn' ord' sh' (by omega) (by omega) a1 (gz_keep_tr h4 a2) (fun j hj hjt => ?_))
          by_cases z : j = i
          · rw [z]; exact a3
          · exact a2 j (by omega) (h5 j (by omega) hjt)
        · refine nm_r (nI_1 i) (ih (i + 1) kn ord sh (by omega) (by omega) h3 h4 (fun j hj hjt => ?_))
          by_cases z : j = i
          · rw [z] at hjt; exact absurd hjt q
          · exact h5 j (by omega) hjt
      · refine nm_r (nI_1 i) (ih (i + 1) kn ord sh (by omega) (by omega) h3 h4 (fun j hj hjt => ?_))
        by_cases z : j = i
        · rw [z]; exact d
        · exact h5 j (by omega) hjt
theorem gz_xjs {t : Nat} {post : SX → Prop} (hX : gz_X m V S vals secs) (ht : t < 100) (hk : gz_snd (gz_good ls ks al V S m) kn)
    (h : ∀ kn' ord' sh', gz_snd (gz_good ls ks al V S m) kn' → gz_keep kn kn' → (∀ j, j < 125 → gz_sum j = t → kn' j ≠ 0) → post (nI m, ls, ks, al, rd, vals, secs, kn', ord', sh')) : wpX_judgeSum post (nI m, ls, ks, al, rd, vals, secs, kn, ord, sh) (nI t) := by
  unfold wpX_judgeSum
  exact ⟨126, gz_xjs2 hX ht kn h 126 0 kn ord sh (by omega) (by omega) hk (gz_keep_rf _) (fun j hj => absurd hj (Nat.not_lt_zero j))⟩
theorem gz_x42 {post : SX → Prop} (hX : gz_X m V S vals secs)
    (h : ∀ kn' ord' sh', (∀ s, s < 125 → kn' s = gz_tv (gz_good ls ks al V S m s)) → post (nI m, ls, ks, al, rd, vals, secs, kn', ord', sh')) :
    ∀ n d kn ord sh, 7 < n + d → 1 ≤ d → d ≤ 7 → gz_snd (gz_good ls ks al V S m) kn → (∀ j, j < 125 → 6 < gz_sum j + d → gz_sum j < 6 + d → kn j ≠ 0) → wX_prepare_42 post n (nI d) (nI m) ls ks al rd vals secs kn ord sh := by
  intro n
  induction n with
  | zero => intro i _ _ _ h1 h2 h3; exact absurd h1 (by omega)
  | succ n ih =>
    intro d kn ord sh h1 h2 h2' h3 h5
    refine pk_lt 6 d (fun c => ?_) (fun c => ?_)
    · have e : d = 7 := by omega
      subst e
      refine h kn ord sh (fun s hs => ?_)
      have hsum := gz_sum_le hs
      exact (h3 s hs).resolve_left (h5 s hs (by omega) (by omega))
    · have e6 : (6 : Int32) - nI d = nI (6 - d) := pk_sub (a := 6) c
      have e7 : (6 : Int32) + nI d = nI (6 + d) := nI_add 6 d
      rw [e6, e7]
      refine gz_xjs hX (by omega) h3 (fun kn1 ord1 sh1 a1 a2 a3 => ?_)
      refine gz_xjs hX (by omega) a1 (fun kn2 ord2 sh2 b1 b2 b3 => ?_)
      refine nm_r (nI_1 d) (ih (d + 1) kn2 ord2 sh2 (by omega) (by omega) (by omega) b1 (fun j hj g1 g2 => ?_))
      by_cases z1 : gz_sum j = 6 + d
      · exact b3 j hj z1
      · by_cases z2 : gz_sum j = 6 - d
        · exact b2 j hj (a3 j hj z2)
        · exact b2 j hj (a2 j hj (h5 j hj (by omega) (by omega)))
theorem gz_x15 {post : SX → Prop} (hX : gz_X m V S vals secs)
    (h : ∀ kn' ord' sh', (∀ s, s < 125 → kn' s = gz_tv (gz_good ls ks al V S m s)) → post (nI m, ls, ks, al, rd, vals, secs, kn', ord', sh')) :
    ∀ n i kn, 125 < n + i → i ≤ 125 → (∀ j, j < i → kn j = 0) → wX_prepare_15 post (nI m) ls ks al rd n (nI i) vals secs kn ord sh := by
  intro n
  induction n with
  | zero => intro i _ h1 h2; exact absurd h1 (by omega)
  | succ n ih =>
    intro i kn h1 h2 h3
    refine pk_le 125 i (fun c => ?_) (fun c => ?_)
    · refine gz_xjs (t := 6) hX (by omega) (fun s hs => Or.inl (h3 s (by omega))) (fun kn1 ord1 sh1 a1 a2 a3 => ?_)
      refine ⟨8, gz_x42 hX h 8 1 kn1 ord1 sh1 (by omega) (by omega) (by omega) a1 (fun j hj g1 g2 => a3 j hj (by omega))⟩
    · have hin : vp_in (nI i) 125 := vp_in_nI (by omega) (by decide)
      have e1 : (nI i).toNatClampNeg = i := nI_clamp (by omega)
      rw [e1, gz_n0]
      refine ⟨hin, nm_e (nm_r (nI_1 i) (ih (i + 1) _ (by omega) (by omega) (fun j hj => ?_)))⟩
      by_cases z : j = i
      · subst z; exact pk_us
      · rw [pk_un z]; exact h3 j (by omega)
theorem gz_xprep {post : SX → Prop} (hX : gz_X m V S vals secs) (hr : rd = 0 ∨ ∀ s, s < 125 → kn s = gz_tv (gz_good ls ks al V S m s))
    (h : ∀ rd' kn' ord' sh', (∀ s, s < 125 → kn' s = gz_tv (gz_good ls ks al V S m s)) → post (nI m, ls, ks, al, rd', vals, secs, kn', ord', sh')) : wpX_prepare post (nI m, ls, ks, al, rd, vals, secs, kn, ord, sh) := by
  unfold wpX_prepare
  refine br_c (fun c => ⟨126, ?_⟩) (fun c => ?_)
  · exact gz_x15 hX (fun kn' ord' sh' a => h 1 kn' ord' sh' a) 126 0 kn (by omega) (by omega) (fun j hj => absurd hj (Nat.not_lt_zero j))
  · exact h rd kn ord sh (hr.resolve_left c)
end
end
section
/-! Y: levels, alike, hidden, left out, good, the judging of all -/
def gz_Y (m : Nat) (V S : Nat → Nat) (attrs secs : Nat → Int32) : Prop := m ≤ 16 ∧ ∀ q, q < m → V q < 4096 ∧ S q < 8 ∧ secs q = nI (S q) ∧ attrs (q * 3 + 0) = nI (V q % 16) ∧ attrs (q * 3 + 1) = nI (V q / 16 % 16) ∧ attrs (q * 3 + 2) = nI (V q / 256 % 16)
theorem gz_pw {l : Nat} (h : l < 5) : (1 : Int32) <<< (nI l &&& 31) = nI (2 ^ l) := by
  have h1 : 2 ^ l < 2 ^ 5 := Nat.pow_lt_pow_right (by decide) h
  have e2 := pk_shlN (n := 1) (nI l &&& 31) l (s_l l (by omega)) (by omega)
  rw [Nat.one_mul] at e2
  exact e2
theorem gz_ystep {at' : Nat → Int32} {r q x y l : Nat} {A B : Prop} (a : Nat) (hr : r < 16) (hq : q < 16) (ha : a < 3) (hl : l < 5) (ex : at' (r * 3 + a) = nI x) (ey : at' (q * 3 + a) = nI y) (hx : x < 16) (hy : y < 16) (f : x / 2 ^ l = y / 2 ^ l → A) (g : ¬ x / 2 ^ l = y / 2 ^ l → B) :
    vp_in ((nI r * 3) + nI a) 48 ∧ (¬ nI (2 ^ l) = 0 ∧ (vp_in ((nI q * 3) + nI a) 48 ∧ (¬ nI (2 ^ l) = 0 ∧ ((((at' ((nI r * 3) + nI a).toNatClampNeg) / nI (2 ^ l)) = ((at' ((nI q * 3) + nI a).toNatClampNeg) / nI (2 ^ l)) → A) ∧ (¬ ((at' ((nI r * 3) + nI a).toNatClampNeg) / nI (2 ^ l)) = ((at' ((nI q * 3) + nI a).toNatClampNeg) / nI (2 ^ l)) → B))))) := by
  have h1 : 2 ^ l < 2 ^ 5 := Nat.pow_lt_pow_right (by decide) hl
  have h2 : 0 < 2 ^ l := Nat.two_pow_pos l
  have er : (nI r * 3) + nI a = nI (r * 3 + a) := by
    have e := pk_mul r 3
    have e2 : nI r * 3 = nI (r * 3) := e
    rw [e2, nI_add]
  have eq : (nI q * 3) + nI a = nI (q * 3 + a) := by
    have e := pk_mul q 3
    have e2 : nI q * 3 = nI (q * 3) := e
    rw [e2, nI_add]
  have hne : ¬ nI (2 ^ l) = 0 := nI_ne0 h2 (by omega)
  have d1 : x / 2 ^ l ≤ x := Nat.div_le_self _ _
  have d2 : y / 2 ^ l ≤ y := Nat.div_le_self _ _
  rw [er, eq, nI_clamp (by omega), nI_clamp (by omega), ex, ey, pk_div (by omega) h2 (by omega), pk_div (by omega) h2 (by omega)]
  exact ⟨vp_in_nI (by omega) (by decide), hne, vp_in_nI (by omega) (by decide), hne, pk_eq (x / 2 ^ l) (y / 2 ^ l) f g⟩
section
variable {m : Nat} {V S : Nat → Nat} {ls ks al : Int32} {attrs secs fine : Nat → Int32}
theorem gz_yl0 {post : Int32 → Prop} {s : Nat} (hs : s < 125) (h : post (nI (s % 5))) : wpY_level post (nI m, ls, ks, al, attrs, secs, fine) (nI s) 0 := by
  unfold wpY_level
  dsimp only
  rw [gz_e5 hs]
  exact br_t rfl ⟨by decide, h⟩
theorem gz_yl1 {post : Int32 → Prop} {s : Nat} (hs : s < 125) (h : post (nI (s / 5 % 5))) : wpY_level post (nI m, ls, ks, al, attrs, secs, fine) (nI s) 1 := by
  unfold wpY_level
  dsimp only
  rw [gz_e55 hs]
  exact br_f (by decide) (br_t rfl ⟨by decide, by decide, h⟩)
theorem gz_yl2 {post : Int32 → Prop} {s : Nat} (hs : s < 125) (h : post (nI (s / 25))) : wpY_level post (nI m, ls, ks, al, attrs, secs, fine) (nI s) 2 := by
  unfold wpY_level
  dsimp only
  rw [gz_e25 hs]
  exact br_f (by decide) (br_f (by decide) ⟨by decide, h⟩)
theorem gz_yset {post : Int32 → Prop} {s : Nat} (hs : s < 125) (h : post 1) : wpY_isSetting post (nI m, ls, ks, al, attrs, secs, fine) (nI s) := by
  unfold wpY_isSetting
  exact br_f (nI_pos (by omega)) (br_f (nI_ge (b := 125) hs (by decide)) h)
theorem gz_yal {s r q : Nat} {post : Int32 → Prop} (hY : gz_Y m V S attrs secs) (hs : s < 125) (hr : r < m) (hq : q < m) (h1 : gz_key (V r) s = gz_key (V q) s → post 1) (h0 : ¬ gz_key (V r) s = gz_key (V q) s → post 0) : wpY_alike post (nI m, ls, ks, al, attrs, secs, fine) (nI s) (nI r) (nI q) := by
  have hm := hY.1
  obtain ⟨_, _, _, r0, r1, r2⟩ := hY.2 r hr
  obtain ⟨_, _, _, q0, q1, q2⟩ := hY.2 q hq
  rw [gz_key_eq] at h1 h0
  unfold wpY_alike
  refine ⟨4, ?_⟩
  refine br_f (by decide) (gz_yl0 hs (nm_r (gz_pw (by omega)) ?_))
  refine gz_ystep 0 (by omega) (by omega) (by decide) (by omega) r0 q0 (Nat.mod_lt _ (by decide)) (Nat.mod_lt _ (by decide)) (fun a => ?_) (fun a => h0 (fun z => a z.1))
  refine nm_r (e' := 1) (by decide) ?_
  refine br_f (by decide) (gz_yl1 hs (nm_r (gz_pw (by omega)) ?_))
  refine gz_ystep 1 (by omega) (by omega) (by decide) (by omega) r1 q1 (Nat.mod_lt _ (by decide)) (Nat.mod_lt _ (by decide)) (fun b => ?_) (fun b => h0 (fun z => b z.2.1))
  refine nm_r (e' := 2) (by decide) ?_
  refine br_f (by decide) (gz_yl2 hs (nm_r (gz_pw (by omega)) ?_))
  refine gz_ystep 2 (by omega) (by omega) (by decide) (by omega) r2 q2 (Nat.mod_lt _ (by decide)) (Nat.mod_lt _ (by decide)) (fun c => ?_) (fun c => h0 (fun z => c z.2.2))
  refine nm_r (e' := 3) (by decide) ?_
  exact br_t (by decide) (h1 ⟨a, b, c⟩)
theorem gz_yh57 {N M : Nat} {post : Int32 → Prop} (hM : M < 2 ^ 8) (h1 : (¬ nI N < ls ∧ ¬ nI (gz_pc M 8) < ks) → post 1) (h0 : ¬ (¬ nI N < ls ∧ ¬ nI (gz_pc M 8) < ks) → post 0) : ∀ n j, 8 < n + j → j ≤ 8 → wY_hidden_57 post (nI N) (nI M) (nI m) ls ks al attrs secs fine n (nI (gz_pc M j)) (nI j) := by
  intro n
  induction n with
  | zero => intro j a1 a2; exact absurd a1 (by omega)
  | succ n ih =>
    intro j a1 a2
    refine pk_le 8 j (fun c => ?_) (fun c => ?_)
    · have e : j = 8 := by omega
      subst e
      exact br_c (fun a => h0 (fun z => z.1 a)) (fun a => br_c (fun b => h0 (fun z => z.2 b)) (fun b => h1 ⟨a, b⟩))
    · exact nm_r (gz_bitS hM (by omega)) (nm_r (nI_1 j) (ih (j + 1) (by omega) (by omega)))
theorem gz_yh8 {s r : Nat} {post : Int32 → Prop} (hY : gz_Y m V S attrs secs) (hs : s < 125) (hr : r < m)
    (h1 : gz_hid ls ks (fun q => gz_key (V q) s) S m (gz_key (V r) s) = true → post 1) (h0 : ¬ gz_hid ls ks (fun q => gz_key (V q) s) S m (gz_key (V r) s) = true → post 0) :
    ∀ n i, m < n + i → i ≤ m → wY_hidden_8 post (nI s) (nI r) (nI m) ls ks al attrs secs fine n (nI (gz_cn (fun q => decide (gz_key (V q) s = gz_key (V r) s)) i)) (nI (gz_mk S (fun q => decide (gz_key (V q) s = gz_key (V r) s)) i)) (nI i) := by
  have hm := hY.1
  intro n
  induction n with
  | zero => intro j a1 a2; exact absurd a1 (by omega)
  | succ n ih =>
    intro i a1 a2
    refine pk_le m i (fun c => ?_) (fun c => ?_)
    · have e : i = m := by omega
      subst e
      refine ⟨9, gz_yh57 (gz_mk_lt (fun j hj => (hY.2 j hj).2.1)) (fun z => h1 (decide_eq_true z)) (fun z => h0 (fun y => z (of_decide_eq_true y))) 9 0 (by omega) (by omega)⟩
    · obtain ⟨_, hS, es, _⟩ := hY.2 i c
      have e1 : (nI i).toNatClampNeg = i := nI_clamp (by omega)
      have hgo := ih (i + 1) (by omega) (by omega)
      refine gz_yal hY hs hr c (fun d => ?_) (fun d => ?_)
      · have d1 : decide (gz_key (V i) s = gz_key (V r) s) = true := decide_eq_true d.symm
        rw [gz_cn_t (p := fun q => decide (gz_key (V q) s = gz_key (V r) s)) d1, gz_mk_t (p := fun q => decide (gz_key (V q) s = gz_key (V r) s)) d1] at hgo
        refine br_f (by decide) (nm_r (nI_1 _) ⟨vp_in_nI (by omega) (by decide), ?_⟩)
        rw [e1, es]
        exact nm_r (gz_bitOr hS) (nm_r (nI_1 i) hgo)
      · have d1 : decide (gz_key (V i) s = gz_key (V r) s) = false := decide_eq_false (fun z => d z.symm)
        rw [gz_cn_f (p := fun q => decide (gz_key (V q) s = gz_key (V r) s)) d1, gz_mk_f (p := fun q => decide (gz_key (V q) s = gz_key (V r) s)) (fun z => absurd (z.symm.trans d1) (by decide))] at hgo
        exact br_t rfl (nm_r (nI_1 i) hgo)
theorem gz_yhid {s r : Nat} {post : Int32 → Prop} (hY : gz_Y m V S attrs secs) (hs : s < 125) (hr : r < m)
    (h1 : gz_hid ls ks (fun q => gz_key (V q) s) S m (gz_key (V r) s) = true → post 1) (h0 : ¬ gz_hid ls ks (fun q => gz_key (V q) s) S m (gz_key (V r) s) = true → post 0) : wpY_hidden post (nI m, ls, ks, al, attrs, secs, fine) (nI s) (nI r) := by
  unfold wpY_hidden
  exact ⟨m + 1, gz_yh8 hY hs hr h1 h0 (m + 1) 0 (by omega) (by omega)⟩
theorem gz_ylo15 {s : Nat} {post : Int32 → Prop} (hY : gz_Y m V S attrs secs) (hs : s < 125) (h : post (nI (gz_lo ls ks V S m s))) :
    ∀ n i, m < n + i → i ≤ m → wY_leftOut_15 post (nI s) (nI m) ls ks al attrs secs fine n (nI (gz_cn (fun r => ! gz_hid ls ks (fun q => gz_key (V q) s) S m (gz_key (V r) s)) i)) (nI i) := by
  have hm := hY.1
  intro n
  induction n with
  | zero => intro j a1 a2; exact absurd a1 (by omega)
  | succ n ih =>
    intro i a1 a2
    refine pk_le m i (fun c => ?_) (fun c => ?_)
    · have e : i = m := by omega
      subst e
      exact h
    · have hgo := ih (i + 1) (by omega) (by omega)
      refine gz_yhid hY hs c (fun d => ?_) (fun d => ?_)
      · have d1 : (! gz_hid ls ks (fun q => gz_key (V q) s) S m (gz_key (V i) s)) = false := by rw [d]; rfl
        rw [gz_cn_f (p := fun r => ! gz_hid ls ks (fun q => gz_key (V q) s) S m (gz_key (V r) s)) d1] at hgo
        exact br_f (by decide) (nm_r (nI_1 i) hgo)
      · have d1 : (! gz_hid ls ks (fun q => gz_key (V q) s) S m (gz_key (V i) s)) = true := by
          cases hh : gz_hid ls ks (fun q => gz_key (V q) s) S m (gz_key (V i) s) with
          | false => rfl
          | true => exact absurd hh d
        rw [gz_cn_t (p := fun r => ! gz_hid ls ks (fun q => gz_key (V q) s) S m (gz_key (V r) s)) d1] at hgo
        exact br_t rfl (nm_r (nI_1 _) (nm_r (nI_1 i) hgo))
theorem gz_ylo {s : Nat} {post : Int32 → Prop} (hY : gz_Y m V S attrs secs) (hs : s < 125) (h : post (nI (gz_lo ls ks V S m s))) : wpY_leftOut post (nI m, ls, ks, al, attrs, secs, fine) (nI s) := by
  unfold wpY_leftOut
  refine gz_yset hs ?_
  exact br_f (by decide) ⟨m + 1, gz_ylo15 hY hs h (m + 1) 0 (by omega) (by omega)⟩
theorem gz_ygood {s : Nat} {post : Int32 → Prop} (hY : gz_Y m V S attrs secs) (hs : s < 125) (h1 : gz_good ls ks al V S m s = true → post 1) (h0 : ¬ gz_good ls ks al V S m s = true → post 0) : wpY_good post (nI m, ls, ks, al, attrs, secs, fine) (nI s) := by
  unfold wpY_good
  refine gz_yset hs ?_
  refine br_f (by decide) (gz_ylo hY hs ?_)
  exact br_c (fun c => h0 (fun z => of_decide_eq_true z c)) (fun c => h1 (decide_eq_true c))
/-- the reference's mark -/
def gz_fv (b : Bool) : Int32 := if b = true then 1 else 0
theorem gz_fv0 (b : Bool) : gz_fv b = 0 ↔ ¬ b = true := by
  cases b <;> decide
theorem gz_yj2 {post : SY → Prop} (hY : gz_Y m V S attrs secs) (h : ∀ fine', (∀ s, s < 125 → fine' s = gz_fv (gz_good ls ks al V S m s)) → post (nI m, ls, ks, al, attrs, secs, fine')) :
    ∀ n i fine, 125 < n + i → i ≤ 125 → (∀ s, s < i → fine s = gz_fv (gz_good ls ks al V S m s)) → wY_judge_2 post (nI m) ls ks al n (nI i) attrs secs fine := by
  intro n
  induction n with
  | zero => intro j _ a1 a2; exact absurd a1 (by omega)
  | succ n ih =>
    intro i fine a1 a2 a3
    refine pk_le 125 i (fun c => ?_) (fun c => ?_)
    · have e : i = 125 := by omega
      subst e
      exact h fine a3
    · have e1 : (nI i).toNatClampNeg = i := nI_clamp (by omega)
      have hin : vp_in (nI i) 125 := vp_in_nI (by omega) (by decide)
      have hgo : wY_judge_2 post (nI m) ls ks al n (nI (i + 1)) attrs secs (upd fine i (gz_fv (gz_good ls ks al V S m i))) := by
        refine ih (i + 1) _ (by omega) (by omega) (fun s hs => ?_)
        by_cases z : s = i
        · subst z; exact pk_us
        · rw [pk_un z]; exact a3 s (by omega)
      refine gz_ygood hY c (fun d => ?_) (fun d => ?_)
      · rw [e1]
        have e2 : gz_fv (gz_good ls ks al V S m i) = vp_nar .boolean 1 := by rw [d]; rfl
        rw [e2] at hgo
        exact ⟨hin, nm_e (nm_r (nI_1 i) hgo)⟩
      · rw [e1]
        have e2 : gz_fv (gz_good ls ks al V S m i) = vp_nar .boolean 0 := (gz_fv0 _).mpr d
        rw [e2] at hgo
        exact ⟨hin, nm_e (nm_r (nI_1 i) hgo)⟩
theorem gz_yjudge {post : SY → Prop} (hY : gz_Y m V S attrs secs) (h : ∀ fine', (∀ s, s < 125 → fine' s = gz_fv (gz_good ls ks al V S m s)) → post (nI m, ls, ks, al, attrs, secs, fine')) : wpY_judge post (nI m, ls, ks, al, attrs, secs, fine) := by
  unfold wpY_judge
  exact ⟨126, gz_yj2 hY h 126 0 fine (by omega) (by omega) (fun j hj => absurd hj (Nat.not_lt_zero j))⟩
theorem gz_yco {s t : Nat} {post : Int32 → Prop} (hs : s < 125) (ht : t < 125) (h1 : (gz_ge s t ∧ s ≠ t) → post 1) (h0 : ¬ (gz_ge s t ∧ s ≠ t) → post 0) : wpY_coarser post (nI m, ls, ks, al, attrs, secs, fine) (nI s) (nI t) := by
  unfold wpY_coarser
  refine ⟨4, ?_⟩
  refine br_f (by decide) (gz_yl0 hs (gz_yl0 ht ?_))
  refine pk_le (t % 5) (s % 5) (fun a => ?_) (fun a => h0 (fun z => absurd z.1.1 (by omega)))
  refine nm_r (e' := 1) (by decide) ?_
  refine br_f (by decide) (gz_yl1 hs (gz_yl1 ht ?_))
  refine pk_le (t / 5 % 5) (s / 5 % 5) (fun b => ?_) (fun b => h0 (fun z => absurd z.1.2.1 (by omega)))
  refine nm_r (e' := 2) (by decide) ?_
  refine br_f (by decide) (gz_yl2 hs (gz_yl2 ht ?_))
  refine pk_le (t / 25) (s / 25) (fun c => ?_) (fun c => h0 (fun z => absurd z.1.2.2 (by omega)))
  refine nm_r (e' := 3) (by decide) ?_
  exact br_t (by decide) (pk_eq s t (fun e => h0 (fun z => z.2 e)) (fun e => h1 ⟨⟨a, b, c⟩, e⟩))
theorem gz_ysum {s : Nat} {post : Int32 → Prop} (hs : s < 125) (h : post (nI (gz_sum s))) : wpY_sum post (nI m, ls, ks, al, attrs, secs, fine) (nI s) := by
  unfold wpY_sum
  refine gz_yl0 hs (gz_yl1 hs (gz_yl2 hs ?_))
  rw [nI_add, nI_add]
  exact h
end
end
section
/-! the finest settings: X looks one level down, Y everywhere -/
def gz_fin (G : Nat → Bool) (s : Nat) : Bool := decide (G s = true ∧ ¬ (0 < s % 5 ∧ G (s - 1) = true) ∧ ¬ (0 < s / 5 % 5 ∧ G (s - 5) = true) ∧ ¬ (25 ≤ s ∧ G (s - 25) = true))
def gz_mo (G : Nat → Bool) : Prop := ∀ c f, gz_ge c f → G f = true → G c = true
theorem gz_fin_iff {G : Nat → Bool} (hG : gz_mo G) {s : Nat} (hs : s < 125) : gz_fin G s = true ↔ (G s = true ∧ ∀ t, t < 125 → G t = true → ¬ (gz_ge s t ∧ s ≠ t)) := by
  unfold gz_fin
  rw [decide_eq_true_eq]
  constructor
  · rintro ⟨h0, h1, h2, h3⟩
    refine ⟨h0, fun t ht hGt hst => ?_⟩
    obtain ⟨⟨a, b, c⟩, d⟩ := hst
    by_cases c1 : t % 5 < s % 5
    · exact h1 ⟨by omega, hG (s - 1) t ⟨by omega, by omega, by omega⟩ hGt⟩
    · by_cases c2 : t / 5 % 5 < s / 5 % 5
      · exact h2 ⟨by omega, hG (s - 5) t ⟨by omega, by omega, by omega⟩ hGt⟩
      · exact h3 ⟨by omega, hG (s - 25) t ⟨by omega, by omega, by omega⟩ hGt⟩
  · rintro ⟨h0, h1⟩
    refine ⟨h0, fun z => ?_, fun z => ?_, fun z => ?_⟩
    · have z1 := z.1
      exact h1 (s - 1) (by omega) z.2 ⟨⟨by omega, by omega, by omega⟩, by omega⟩
    · have z1 := z.1
      exact h1 (s - 5) (by omega) z.2 ⟨⟨by omega, by omega, by omega⟩, by omega⟩
    · have z1 := z.1
      exact h1 (s - 25) (by omega) z.2 ⟨⟨by omega, by omega, by omega⟩, by omega⟩
/-- the i-th of those that F names, from s on, n having gone by -/
def gz_fa (F : Nat → Bool) (i : Int32) : Nat → Nat → Nat → Int32
  | 0, _, _ => -5
  | d + 1, n, s => if F s = true then (if nI n = i then nI s else gz_fa F i d (n + 1) (s + 1)) else gz_fa F i d n (s + 1)
theorem gz_fa_0 (F : Nat → Bool) (i : Int32) (n s : Nat) : gz_fa F i 0 n s = -5 := rfl
theorem gz_fa_n {F : Nat → Bool} {i : Int32} {d n s : Nat} (h : ¬ F s = true) : gz_fa F i (d + 1) n s = gz_fa F i d n (s + 1) := if_neg h
theorem gz_fa_e {F : Nat → Bool} {i : Int32} {d n s : Nat} (h : F s = true) (h2 : nI n = i) : gz_fa F i (d + 1) n s = nI s := (if_pos h).trans (if_pos h2)
theorem gz_fa_s {F : Nat → Bool} {i : Int32} {d n s : Nat} (h : F s = true) (h2 : ¬ nI n = i) : gz_fa F i (d + 1) n s = gz_fa F i d (n + 1) (s + 1) := (if_pos h).trans (if_neg h2)
theorem gz_fa_neg {F : Nat → Bool} {i : Int32} (hi : ¬ 0 ≤ i) : ∀ d n s, n + d < 1000 → gz_fa F i d n s = -5 := by
  intro d
  induction d with
  | zero => intro n s _; rfl
  | succ d ih =>
    intro n s h
    by_cases c : F s = true
    · rw [gz_fa_s c (fun e => hi (by rw [← e]; exact nI_pos' (by omega)))]
      exact ih _ _ (by omega)
    · rw [gz_fa_n c]
      exact ih _ _ (by omega)
/-- the best so far -/
def gz_bs (G : Nat → Bool) (b : Option Nat) (s : Nat) : Option Nat := if G s = true then (match b with | none => some s | some j => if gz_sum j ≤ gz_sum s then some j else some s) else b
def gz_be (G : Nat → Bool) : Nat → Option Nat → Nat → Option Nat
  | 0, b, _ => b
  | d + 1, b, s => gz_be G d (gz_bs G b s) (s + 1)
def gz_ob (b : Option Nat) : Int32 := match b with | none => -5 | some j => nI j
def gz_ol (b : Option Nat) : Int32 := match b with | none => 13 | some j => nI (gz_sum j)
theorem gz_bs_n {G : Nat → Bool} {b : Option Nat} {s : Nat} (h : ¬ G s = true) : gz_bs G b s = b := if_neg h
theorem gz_bs_0 {G : Nat → Bool} {s : Nat} (h : G s = true) : gz_bs G none s = some s := if_pos h
theorem gz_bs_k {G : Nat → Bool} {j s : Nat} (h : G s = true) (h2 : gz_sum j ≤ gz_sum s) : gz_bs G (some j) s = some j := (if_pos h).trans (if_pos h2)
theorem gz_bs_s {G : Nat → Bool} {j s : Nat} (h : G s = true) (h2 : ¬ gz_sum j ≤ gz_sum s) : gz_bs G (some j) s = some s := (if_pos h).trans (if_neg h2)
section
variable {m : Nat} {V S : Nat → Nat} {ls ks al rd : Int32} {vals secs kn ord sh : Nat → Int32} {G : Nat → Bool}
theorem gz_k1 {A B : Prop} {x : Int32} {b : Bool} (e : x = gz_tv b) (f : b = true → A) (g : ¬ b = true → B) : (x = 1 → A) ∧ (¬ x = 1 → B) := by
  rw [e, gz_tv1]
  exact ⟨f, g⟩
theorem gz_k0 {A B : Prop} {x : Int32} {b : Bool} (e : x = gz_fv b) (f : ¬ b = true → A) (g : b = true → B) : (x = 0 → A) ∧ (¬ x = 0 → B) := by
  rw [e, gz_fv0]
  exact ⟨f, fun z => g (Decidable.not_not.mp z)⟩
theorem gz_x54 {s : Nat} {post : Int32 → Prop} (hk : ∀ s, s < 125 → kn s = gz_tv (G s)) (hs : s < 125) (h1 : ¬ (25 ≤ s ∧ G (s - 25) = true) → post 1) (h0 : (25 ≤ s ∧ G (s - 25) = true) → post 0) : wX_isFinest_54 post (nI s) (nI m) ls ks al rd vals secs kn ord sh := by
  unfold wX_isFinest_54
  refine pk_lt s 25 (fun c => h1 (fun z => absurd z.1 (by omega))) (fun c => ?_)
  have e : nI s - 25 = nI (s - 25) := pk_sub (b := 25) c
  rw [e]
  refine ⟨vp_in_nI (by omega) (by decide), ?_⟩
  rw [nI_clamp (by omega)]
  exact gz_k1 (hk (s - 25) (by omega)) (fun g => h0 ⟨c, g⟩) (fun g => h1 (fun z => g z.2))
theorem gz_x32 {s : Nat} {post : Int32 → Prop} (hk : ∀ s, s < 125 → kn s = gz_tv (G s)) (hs : s < 125) (h1 : ¬ (0 < s / 5 % 5 ∧ G (s - 5) = true) → ¬ (25 ≤ s ∧ G (s - 25) = true) → post 1) (h0 : ¬ (¬ (0 < s / 5 % 5 ∧ G (s - 5) = true) ∧ ¬ (25 ≤ s ∧ G (s - 25) = true)) → post 0) : wX_isFinest_32 post (nI s) (nI m) ls ks al rd vals secs kn ord sh := by
  unfold wX_isFinest_32
  rw [gz_e55 hs]
  refine ⟨by decide, by decide, ?_⟩
  refine pk_le (s / 5 % 5) 0 (fun c => gz_x54 hk hs (h1 (fun z => absurd z.1 (by omega))) (fun z => h0 (fun y => y.2 z))) (fun c => ?_)
  have e : nI s - 5 = nI (s - 5) := pk_sub (b := 5) (by omega)
  rw [e]
  refine ⟨vp_in_nI (by omega) (by decide), ?_⟩
  rw [nI_clamp (by omega)]
  exact gz_k1 (hk (s - 5) (by omega)) (fun g => h0 (fun y => y.1 ⟨c, g⟩)) (fun g => gz_x54 hk hs (h1 (fun z => g z.2)) (fun z => h0 (fun y => y.2 z)))
theorem gz_xfin {s : Nat} {post : Int32 → Prop} (hk : ∀ s, s < 125 → kn s = gz_tv (G s)) (hs : s < 125) (h1 : gz_fin G s = true → post 1) (h0 : ¬ gz_fin G s = true → post 0) : wpX_isFinest post (nI m, ls, ks, al, rd, vals, secs, kn, ord, sh) (nI s) := by
  unfold gz_fin at h1 h0
  rw [decide_eq_true_eq] at h1 h0
  unfold wpX_isFinest
  dsimp only
  rw [gz_e5 hs]
  refine ⟨vp_in_nI hs (by decide), ?_⟩
  rw [nI_clamp (by omega)]
  refine gz_k1 (hk s hs) (fun g => ⟨by decide, ?_⟩) (fun g => h0 (fun z => g z.1))
  refine pk_le (s % 5) 0 (fun c => gz_x32 hk hs (fun a b => h1 ⟨g, fun z => absurd z.1 (by omega), a, b⟩) (fun z => h0 (fun y => z y.2.2))) (fun c => ?_)
  have e : nI s - 1 = nI (s - 1) := pk_sub (b := 1) (by omega)
  rw [e]
  refine ⟨vp_in_nI (by omega) (by decide), ?_⟩
  rw [nI_clamp (by omega)]
  exact gz_k1 (hk (s - 1) (by omega)) (fun q => h0 (fun y => y.2.1 ⟨c, q⟩)) (fun q => gz_x32 hk hs (fun a b => h1 ⟨g, fun z => q z.2, a, b⟩) (fun z => h0 (fun y => z y.2.2)))
theorem gz_xgs8 {post : Int32 → SX → Prop} (hk : ∀ s, s < 125 → kn s = gz_tv (G s)) (h : post (nI (gz_cn G 125)) (nI m, ls, ks, al, rd, vals, secs, kn, ord, sh)) : ∀ n i, 125 < n + i → i ≤ 125 → wX_goodSettings_8 post (nI m) ls ks al rd vals secs kn ord sh n (nI (gz_cn G i)) (nI i) := by
  intro n
  induction n with
  | zero => intro j a1 a2; exact absurd a1 (by omega)
  | succ n ih =>
    intro i a1 a2
    refine pk_le 125 i (fun c => ?_) (fun c => ?_)
    · have e : i = 125 := by omega
      subst e
      exact h
    · have hgo := ih (i + 1) (by omega) (by omega)
      refine ⟨vp_in_nI c (by decide), ?_⟩
      rw [nI_clamp (by omega)]
      refine gz_k1 (hk i c) (fun g => ?_) (fun g => ?_)
      · rw [gz_cn_t g] at hgo
        exact nm_r (nI_1 _) (nm_r (nI_1 i) hgo)
      · rw [gz_cn_f (Bool.not_eq_true _ ▸ g)] at hgo
        exact nm_r (nI_1 i) hgo
theorem gz_xf8 {post : Int32 → SX → Prop} (hk : ∀ s, s < 125 → kn s = gz_tv (G s)) (h : post (nI (gz_cn (gz_fin G) 125)) (nI m, ls, ks, al, rd, vals, secs, kn, ord, sh)) : ∀ n i, 125 < n + i → i ≤ 125 → wX_finest_8 post (nI m) ls ks al rd vals secs kn ord sh n (nI (gz_cn (gz_fin G) i)) (nI i) := by
  intro n
  induction n with
  | zero => intro j a1 a2; exact absurd a1 (by omega)
  | succ n ih =>
    intro i a1 a2
    refine pk_le 125 i (fun c => ?_) (fun c => ?_)
    · have e : i = 125 := by omega
      subst e
      exact h
    · have hgo := ih (i + 1) (by omega) (by omega)
      refine gz_xfin hk c (fun g => ?_) (fun g => ?_)
      · rw [gz_cn_t g] at hgo
        exact br_f (by decide) (nm_r (nI_1 _) (nm_r (nI_1 i) hgo))
      · rw [gz_cn_f (Bool.not_eq_true _ ▸ g)] at hgo
        exact br_t rfl (nm_r (nI_1 i) hgo)
theorem gz_xfa15 {post : Int32 → SX → Prop} {x : Int32} (hk : ∀ s, s < 125 → kn s = gz_tv (G s)) : ∀ d n i, d + i = 125 → post (gz_fa (gz_fin G) x d n i) (nI m, ls, ks, al, rd, vals, secs, kn, ord, sh) → wX_finestAt_15 post x (nI m) ls ks al rd vals secs kn ord sh (d + 1) (nI n) (nI i) := by
  intro d
  induction d with
  | zero =>
    intro n i a1 h
    exact br_t (nI_le (a := 125) (by omega) (by omega)) h
  | succ d ih =>
    intro n i a1 h
    refine br_f (nI_ge (b := 125) (by omega) (by decide)) (gz_xfin hk (by omega) (fun g => ?_) (fun g => ?_))
    · refine br_f (by decide) (br_c (fun q => ?_) (fun q => ?_))
      · rw [gz_fa_e g q] at h
        exact h
      · rw [gz_fa_s g q] at h
        unfold wX_finestAt_40
        exact br_f (by decide) (nm_r (nI_1 n) (nm_r (nI_1 i) (ih (n + 1) (i + 1) (by omega) h)))
    · rw [gz_fa_n g] at h
      refine br_t rfl ?_
      unfold wX_finestAt_40
      exact br_t rfl (nm_r (nI_1 i) (ih n (i + 1) (by omega) h))
theorem gz_xb12 {post : Int32 → SX → Prop} (hk : ∀ s, s < 125 → kn s = gz_tv (G s)) : ∀ d b i, d + i = 125 → (∀ j, b = some j → j < 125) → post (gz_ob (gz_be G d b i)) (nI m, ls, ks, al, rd, vals, secs, kn, ord, sh) → wX_best_12 post (nI m) ls ks al rd vals secs kn ord sh (d + 1) (gz_ob b) (gz_ol b) (nI i) := by
  intro d
  induction d with
  | zero =>
    intro b i a1 hb h
    exact br_t (nI_le (a := 125) (by omega) (by omega)) h
  | succ d ih =>
    intro b i a1 hb h
    have hi : i < 125 := by omega
    have hsi := gz_sum_le hi
    have h' : post (gz_ob (gz_be G d (gz_bs G b i) (i + 1))) (nI m, ls, ks, al, rd, vals, secs, kn, ord, sh) := h
    refine br_f (nI_ge (b := 125) hi (by decide)) (gz_xsum hi ⟨vp_in_nI hi (by decide), ?_⟩)
    rw [nI_clamp (by omega)]
    refine gz_k1 (hk i hi) (fun g => ?_) (fun g => ?_)
    · cases b with
      | none =>
        rw [gz_bs_0 g] at h'
        refine br_f (nI_ge (b := 13) (by omega) (by decide)) (nm_r (nI_1 i) ?_)
        exact ih (some i) (i + 1) (by omega) (fun j hj => by cases hj; exact hi) h'
      | some j =>
        have hj := hb j rfl
        have hsj := gz_sum_le hj
        refine pk_le (gz_sum j) (gz_sum i) (fun q => ?_) (fun q => ?_)
        · rw [gz_bs_k g q] at h'
          exact nm_r (nI_1 i) (ih (some j) (i + 1) (by omega) hb h')
        · rw [gz_bs_s g (by omega)] at h'
          exact nm_r (nI_1 i) (ih (some i) (i + 1) (by omega) (fun j hj => by cases hj; exact hi) h')
    · rw [gz_bs_n g] at h'
      exact nm_r (nI_1 i) (ih b (i + 1) (by omega) hb h')
theorem gz_xla38 {s r : Nat} {post : Int32 → Prop} (hX : gz_X m V S vals secs) (hs : s < 125) (h : post (nI (gz_num (fun q => gz_key (V q) s) m (gz_key (V r) s)))) :
    ∀ n i, m < n + i → i ≤ m → wX_lookAlike_38 post (nI s) (nI (gz_key (V r) s)) (nI m) ls ks al rd vals secs kn ord sh n (nI (gz_cn (fun q => decide (gz_key (V q) s = gz_key (V r) s)) i)) (nI i) := by
  have hm := hX.1
  intro n
  induction n with
  | zero => intro j a1 a2; exact absurd a1 (by omega)
  | succ n ih =>
    intro i a1 a2
    refine pk_le m i (fun c => ?_) (fun c => ?_)
    · have e : i = m := by omega
      subst e
      exact h
    · have hgo := ih (i + 1) (by omega) (by omega)
      have k1 := gz_key_lt (V i) s
      have k2 := gz_key_lt (V r) s
      refine gz_xkey hX c hs ?_
      refine pk_eq (gz_key (V i) s) (gz_key (V r) s) (fun d => ?_) (fun d => ?_)
      · rw [gz_cn_t (p := fun q => decide (gz_key (V q) s = gz_key (V r) s)) (decide_eq_true d)] at hgo
        exact nm_r (nI_1 _) (nm_r (nI_1 i) hgo)
      · rw [gz_cn_f (p := fun q => decide (gz_key (V q) s = gz_key (V r) s)) (decide_eq_false d)] at hgo
        exact nm_r (nI_1 i) hgo
end
section
variable {m : Nat} {V S : Nat → Nat} {ls ks al : Int32} {attrs secs fine : Nat → Int32} {G : Nat → Bool}
theorem gz_yf13 {s : Nat} {post : Int32 → Prop} (hk : ∀ s, s < 125 → fine s = gz_fv (G s)) (hs : s < 125) (h1 : (∀ t, t < 125 → G t = true → ¬ (gz_ge s t ∧ s ≠ t)) → post 1) (h0 : ¬ (∀ t, t < 125 → G t = true → ¬ (gz_ge s t ∧ s ≠ t)) → post 0) :
    ∀ n i, 125 < n + i → i ≤ 125 → (∀ t, t < i → G t = true → ¬ (gz_ge s t ∧ s ≠ t)) → wY_isFinest_13 post (nI s) (nI m) ls ks al attrs secs fine n (nI i) := by
  intro n
  induction n with
  | zero => intro j a1 a2; exact absurd a1 (by omega)
  | succ n ih =>
    intro i a1 a2 a3
    refine pk_le 125 i (fun c => ?_) (fun c => ?_)
    · have e : i = 125 := by omega
      subst e
      exact h1 a3
    · refine ⟨vp_in_nI c (by decide), ?_⟩
      rw [nI_clamp (by omega)]
      refine gz_k0 (hk i c) (fun g => ?_) (fun g => ?_)
      · refine nm_r (nI_1 i) (ih (i + 1) (by omega) (by omega) (fun t ht gt => ?_))
        by_cases z : t = i
        · rw [z] at gt; exact absurd gt g
        · exact a3 t (by omega) gt
      · refine gz_yco hs c (fun q => ?_) (fun q => ?_)
        · exact br_f (by decide) (h0 (fun z => z i c g q))
        · refine br_t rfl (nm_r (nI_1 i) (ih (i + 1) (by omega) (by omega) (fun t ht gt => ?_)))
          by_cases z : t = i
          · rw [z]; exact q
          · exact a3 t (by omega) gt
theorem gz_yfin {s : Nat} {post : Int32 → Prop} (hG : gz_mo G) (hk : ∀ s, s < 125 → fine s = gz_fv (G s)) (hs : s < 125) (h1 : gz_fin G s = true → post 1) (h0 : ¬ gz_fin G s = true → post 0) : wpY_isFinest post (nI m, ls, ks, al, attrs, secs, fine) (nI s) := by
  rw [gz_fin_iff hG hs] at h1 h0
  unfold wpY_isFinest
  refine ⟨vp_in_nI hs (by decide), ?_⟩
  rw [nI_clamp (by omega)]
  refine gz_k0 (hk s hs) (fun g => h0 (fun z => g z.1)) (fun g => ⟨126, ?_⟩)
  exact gz_yf13 hk hs (fun z => h1 ⟨g, z⟩) (fun z => h0 (fun y => z y.2)) 126 0 (by omega) (by omega) (fun t ht => absurd ht (Nat.not_lt_zero t))
theorem gz_ygs8 {post : Int32 → SY → Prop} (hk : ∀ s, s < 125 → fine s = gz_fv (G s)) (h : post (nI (gz_cn G 125)) (nI m, ls, ks, al, attrs, secs, fine)) : ∀ n i, 125 < n + i → i ≤ 125 → wY_goodSettings_8 post (nI m) ls ks al attrs secs fine n (nI (gz_cn G i)) (nI i) := by
  intro n
  induction n with
  | zero => intro j a1 a2; exact absurd a1 (by omega)
  | succ n ih =>
    intro i a1 a2
    refine pk_le 125 i (fun c => ?_) (fun c => ?_)
    · have e : i = 125 := by omega
      subst e
      exact h
    · have hgo := ih (i + 1) (by omega) (by omega)
      refine ⟨vp_in_nI c (by decide), ?_⟩
      rw [nI_clamp (by omega)]
      refine gz_k0 (hk i c) (fun g => ?_) (fun g => ?_)
      · rw [gz_cn_f (Bool.not_eq_true _ ▸ g)] at hgo
        exact nm_r (nI_1 i) hgo
      · rw [gz_cn_t g] at hgo
        exact nm_r (nI_1 _) (nm_r (nI_1 i) hgo)
theorem gz_yf8 {post : Int32 → SY → Prop} (hG : gz_mo G) (hk : ∀ s, s < 125 → fine s = gz_fv (G s)) (h : post (nI (gz_cn (gz_fin G) 125)) (nI m, ls, ks, al, attrs, secs, fine)) : ∀ n i, 125 < n + i → i ≤ 125 → wY_finest_8 post (nI m) ls ks al attrs secs fine n (nI (gz_cn (gz_fin G) i)) (nI i) := by
  intro n
  induction n with
  | zero => intro j a1 a2; exact absurd a1 (by omega)
  | succ n ih =>
    intro i a1 a2
    refine pk_le 125 i (fun c => ?_) (fun c => ?_)
    · have e : i = 125 := by omega
      subst e
      exact h
    · have hgo := ih (i + 1) (by omega) (by omega)
      refine gz_yfin hG hk c (fun g => ?_) (fun g => ?_)
      · rw [gz_cn_t g] at hgo
        exact br_f (by decide) (nm_r (nI_1 _) (nm_r (nI_1 i) hgo))
      · rw [gz_cn_f (Bool.not_eq_true _ ▸ g)] at hgo
        exact br_t rfl (nm_r (nI_1 i) hgo)
theorem gz_yfa8 {post : Int32 → SY → Prop} {x : Int32} (hG : gz_mo G) (hk : ∀ s, s < 125 → fine s = gz_fv (G s)) : ∀ d n i, d + i = 125 → post (gz_fa (gz_fin G) x d n i) (nI m, ls, ks, al, attrs, secs, fine) → wY_finestAt_8 post x (nI m) ls ks al attrs secs fine (d + 1) (nI n) (nI i) := by
  intro d
  induction d with
  | zero =>
    intro n i a1 h
    exact br_t (nI_le (a := 125) (by omega) (by omega)) h
  | succ d ih =>
    intro n i a1 h
    refine br_f (nI_ge (b := 125) (by omega) (by decide)) (gz_yfin hG hk (by omega) (fun g => ?_) (fun g => ?_))
    · refine br_f (by decide) (br_c (fun q => ?_) (fun q => ?_))
      · rw [gz_fa_e g q] at h
        exact h
      · rw [gz_fa_s g q] at h
        exact nm_r (nI_1 n) (nm_r (nI_1 i) (ih (n + 1) (i + 1) (by omega) h))
    · rw [gz_fa_n g] at h
      exact br_t rfl (nm_r (nI_1 i) (ih n (i + 1) (by omega) h))
theorem gz_yb9 {post : Int32 → SY → Prop} (hk : ∀ s, s < 125 → fine s = gz_fv (G s)) : ∀ d b i, d + i = 125 → (∀ j, b = some j → j < 125) → post (gz_ob (gz_be G d b i)) (nI m, ls, ks, al, attrs, secs, fine) → wY_best_9 post (nI m) ls ks al attrs secs fine (d + 1) (gz_ob b) (nI i) := by
  intro d
  induction d with
  | zero =>
    intro b i a1 hb h
    exact br_t (nI_le (a := 125) (by omega) (by omega)) h
  | succ d ih =>
    intro b i a1 hb h
    have hi : i < 125 := by omega
    have hsi := gz_sum_le hi
    have h' : post (gz_ob (gz_be G d (gz_bs G b i) (i + 1))) (nI m, ls, ks, al, attrs, secs, fine) := h
    refine br_f (nI_ge (b := 125) hi (by decide)) ⟨vp_in_nI hi (by decide), ?_⟩
    rw [nI_clamp (by omega)]
    refine gz_k0 (hk i hi) (fun g => ?_) (fun g => ?_)
    · rw [gz_bs_n g] at h'
      exact nm_r (nI_1 i) (ih b (i + 1) (by omega) hb h')
    · cases b with
      | none =>
        rw [gz_bs_0 g] at h'
        refine br_t (show (-5 : Int32) < 0 by decide) (nm_r (nI_1 i) ?_)
        exact ih (some i) (i + 1) (by omega) (fun j hj => by cases hj; exact hi) h'
      | some j =>
        have hj := hb j rfl
        have hsj := gz_sum_le hj
        refine br_f (show ¬ nI j < 0 from nI_pos (by omega)) (gz_ysum hi (gz_ysum hj ?_))
        refine pk_le (gz_sum j) (gz_sum i) (fun q => ?_) (fun q => ?_)
        · rw [gz_bs_k g q] at h'
          exact nm_r (nI_1 i) (ih (some j) (i + 1) (by omega) hb h')
        · rw [gz_bs_s g (by omega)] at h'
          exact nm_r (nI_1 i) (ih (some i) (i + 1) (by omega) (fun j hj => by cases hj; exact hi) h')
theorem gz_yla31 {s r : Nat} {post : Int32 → Prop} (hY : gz_Y m V S attrs secs) (hs : s < 125) (hr : r < m) (h : post (nI (gz_num (fun q => gz_key (V q) s) m (gz_key (V r) s)))) :
    ∀ n i, m < n + i → i ≤ m → wY_lookAlike_31 post (nI s) (nI r) (nI m) ls ks al attrs secs fine n (nI (gz_cn (fun q => decide (gz_key (V q) s = gz_key (V r) s)) i)) (nI i) := by
  have hm := hY.1
  intro n
  induction n with
  | zero => intro j a1 a2; exact absurd a1 (by omega)
  | succ n ih =>
    intro i a1 a2
    refine pk_le m i (fun c => ?_) (fun c => ?_)
    · have e : i = m := by omega
      subst e
      exact h
    · have hgo := ih (i + 1) (by omega) (by omega)
      refine gz_yal hY hs hr c (fun d => ?_) (fun d => ?_)
      · rw [gz_cn_t (p := fun q => decide (gz_key (V q) s = gz_key (V r) s)) (decide_eq_true d.symm)] at hgo
        exact br_f (by decide) (nm_r (nI_1 _) (nm_r (nI_1 i) hgo))
      · rw [gz_cn_f (p := fun q => decide (gz_key (V q) s = gz_key (V r) s)) (decide_eq_false (fun z => d z.symm))] at hgo
        exact br_t rfl (nm_r (nI_1 i) hgo)
theorem gz_yg26 {s r : Nat} {x2 : Int32} {post : Int32 → Prop} {J : Int32 → Int32 → Prop} (hY : gz_Y m V S attrs secs) (hs : s < 125) (hr : r < m)
    (hnew : (∀ j, j < r → gz_key (V j) s ≠ gz_key (V r) s) → J (x2 + 1) (nI (r + 1))) (hold : (∃ j, j < r ∧ gz_key (V j) s = gz_key (V r) s) → J x2 (nI (r + 1))) :
    ∀ n i, r < n + i → i ≤ r → (∀ j, j < i → gz_key (V j) s ≠ gz_key (V r) s) → wY_groups_26 post J (nI s) x2 (nI r) (nI m) ls ks al attrs secs fine n (nI i) := by
  have hm := hY.1
  intro n
  induction n with
  | zero => intro j a1 a2; exact absurd a1 (by omega)
  | succ n ih =>
    intro i a1 a2 a3
    refine pk_le r i (fun c => ?_) (fun c => ?_)
    · have e : i = r := by omega
      subst e
      unfold wY_groups_49
      exact br_t rfl (nm_e (nm_r (nI_1 i) (hnew a3)))
    · refine gz_yal hY hs (by omega) hr (fun d => ?_) (fun d => ?_)
      · refine br_f (by decide) ?_
        unfold wY_groups_49
        refine pk_eq i r (fun z => absurd z (by omega)) (fun _ => ?_)
        exact nm_r (nI_1 r) (hold ⟨i, c, d⟩)
      · refine br_t rfl (nm_r (nI_1 i) (ih (i + 1) (by omega) (by omega) (fun j hj => ?_)))
        by_cases z : j = i
        · rw [z]; exact d
        · exact a3 j (by omega)
theorem gz_yg15 {s : Nat} {post : Int32 → Prop} (hY : gz_Y m V S attrs secs) (hs : s < 125) (h : post (nI (gz_dc (fun q => gz_key (V q) s) m))) :
    ∀ n r, m < n + r → r ≤ m → wY_groups_15 post (nI s) (nI m) ls ks al attrs secs fine n (nI (gz_dc (fun q => gz_key (V q) s) r)) (nI r) := by
  have hm := hY.1
  intro n
  induction n with
  | zero => intro j a1 a2; exact absurd a1 (by omega)
  | succ n ih =>
    intro r a1 a2
    refine pk_le m r (fun c => ?_) (fun c => ?_)
    · have e : r = m := by omega
      subst e
      exact h
    · have hgo := ih (r + 1) (by omega) (by omega)
      refine ⟨r + 1, gz_yg26 hY hs c (fun q => ?_) (fun q => ?_) (r + 1) 0 (by omega) (by omega) (fun j hj => absurd hj (Nat.not_lt_zero j))⟩
      · rw [gz_dc_new (g := fun q => gz_key (V q) s) (gz_key_lt _ _) q, ← nI_1] at hgo
        exact hgo
      · obtain ⟨j, hj, e⟩ := q
        rw [gz_dc_old (g := fun q => gz_key (V q) s) hj e] at hgo
        exact hgo
end
end
section
/-! the relation and the calls -/
def i_Rel (_ : Nat) (u : SX) (v : SY) : Prop := ∃ (m : Nat) (V S : Nat → Nat) (ls ks al rd : Int32) (vals secs kn ord sh attrs fine : Nat → Int32), u = (nI m, ls, ks, al, rd, vals, secs, kn, ord, sh) ∧ v = (nI m, ls, ks, al, attrs, secs, fine) ∧ gz_X m V S vals secs ∧ gz_Y m V S attrs secs ∧ (rd = 0 ∨ ∀ s, s < 125 → kn s = gz_tv (gz_good ls ks al V S m s))
theorem i_up {k : Nat} {u : SX} {v : SY} (h : i_Rel k u v) : i_Rel (k + 4) u v := h
theorem gz_R {m : Nat} {V S : Nat → Nat} {ls ks al rd : Int32} {vals secs kn ord sh attrs fine : Nat → Int32} (k : Nat) (hX : gz_X m V S vals secs) (hY : gz_Y m V S attrs secs) (hr : rd = 0 ∨ ∀ s, s < 125 → kn s = gz_tv (gz_good ls ks al V S m s)) : i_Rel k (nI m, ls, ks, al, rd, vals, secs, kn, ord, sh) (nI m, ls, ks, al, attrs, secs, fine) :=
  ⟨m, V, S, ls, ks, al, rd, vals, secs, kn, ord, sh, attrs, fine, rfl, rfl, hX, hY, hr⟩
theorem gz_el {k : Nat} {u : SX} {v : SY} {P : SX → SY → Prop} (I : i_Rel k u v) (h : ∀ (m : Nat) (V S : Nat → Nat) (ls ks al rd : Int32) (vals secs kn ord sh attrs fine : Nat → Int32), gz_X m V S vals secs → gz_Y m V S attrs secs → (rd = 0 ∨ ∀ s, s < 125 → kn s = gz_tv (gz_good ls ks al V S m s)) → P (nI m, ls, ks, al, rd, vals, secs, kn, ord, sh) (nI m, ls, ks, al, attrs, secs, fine)) : P u v := by
  obtain ⟨m, V, S, ls, ks, al, rd, vals, secs, kn, ord, sh, attrs, fine, rfl, rfl, hX, hY, hr⟩ := I
  exact h m V S ls ks al rd vals secs kn ord sh attrs fine hX hY hr
theorem i_vc0 : wpX_init (fun u => wpY_init (fun v => i_Rel 0 u v)) := by
  unfold wpX_init wpY_init
  exact gz_R (m := 0) (V := fun _ => 0) (S := fun _ => 0) 0 ⟨Nat.zero_le _, fun q hq => absurd hq (Nat.not_lt_zero q)⟩ ⟨Nat.zero_le _, fun q hq => absurd hq (Nat.not_lt_zero q)⟩ (Or.inl rfl)
/-! a new row's bits -/
theorem gz_sg (x : Int32) : x.toInt = (x.toBitVec.toNat : Int) ∨ x.toInt = (x.toBitVec.toNat : Int) - 4294967296 := by
  have e : x.toInt = x.toBitVec.toInt := rfl
  rw [e, BitVec.toInt_eq_toNat_cond]
  split
  · exact Or.inl rfl
  · exact Or.inr rfl
theorem gz_vb (x c : Int32) (p j : Nat) (hc : (c.toBitVec.smod 32).toNat = j) (hp : 2 ^ j = p) (h3 : p = 1 ∨ p = 16 ∨ p = 256) : (x >>> c) &&& 15 = nI (x.toBitVec.toNat / p % 16) := by
  rw [pk_and _ 4 (by decide)]
  have h1 := pk_shr x c j hc
  rw [Int.shiftRight_eq_div_pow, hp] at h1
  have h2 := gz_sg x
  have h4 := gz_sg (x >>> c)
  rw [h1] at h4
  generalize (x >>> c).toBitVec.toNat = a at *
  generalize x.toBitVec.toNat = b at *
  generalize x.toInt = z at *
  refine congrArg nI ?_
  rcases h3 with rfl | rfl | rfl <;> omega
theorem gz_put {α : Type} (f : Nat → α) (m : Nat) (x : α) : ∃ g : Nat → α, g m = x ∧ ∀ q, q ≠ m → g q = f q :=
  ⟨fun q => if q = m then x else f q, if_pos rfl, fun _ h => if_neg h⟩
section
variable {m : Nat} {V S : Nat → Nat} {ls ks al rd : Int32} {vals secs kn ord sh attrs fine : Nat → Int32}
theorem gz_yrow {a b : Int32} {post : Int32 → SY → Prop} (hm : m < 16)
    (h : post (nI m) ((nI (m + 1)), ls, ks, al, (upd (upd (upd attrs (m * 3 + 0) (nI (a.toBitVec.toNat / 1 % 16))) (m * 3 + 1) (nI (a.toBitVec.toNat / 16 % 16))) (m * 3 + 2) (nI (a.toBitVec.toNat / 256 % 16))), (upd secs m b), fine)) :
    ∃ n, wY_row_26 post a b (nI m) ls ks al n 0 attrs secs fine := by
  have e0 : (nI m * 3) + 0 = nI (m * 3 + 0) := by
    have e2 : nI m * 3 = nI (m * 3) := pk_mul m 3
    rw [e2]; exact nI_add (m * 3) 0
  have e1 : (nI m * 3) + 1 = nI (m * 3 + 1) := by
    have e2 : nI m * 3 = nI (m * 3) := pk_mul m 3
    rw [e2]; exact nI_add (m * 3) 1
  have e2 : (nI m * 3) + 2 = nI (m * 3 + 2) := by
    have e2 : nI m * 3 = nI (m * 3) := pk_mul m 3
    rw [e2]; exact nI_add (m * 3) 2
  refine ⟨4, ?_⟩
  refine br_f (by decide) ⟨by rw [e0]; exact vp_in_nI (by omega) (by decide), nm_r (e' := upd attrs (m * 3 + 0) (nI (a.toBitVec.toNat / 1 % 16))) ?_ (nm_r (e' := 1) (by decide) ?_)⟩
  · rw [e0, nI_clamp (by omega), gz_vb a _ 1 0 (by decide) (by decide) (Or.inl rfl)]
  refine br_f (by decide) ⟨by rw [e1]; exact vp_in_nI (by omega) (by decide), nm_r (e' := upd (upd attrs (m * 3 + 0) (nI (a.toBitVec.toNat / 1 % 16))) (m * 3 + 1) (nI (a.toBitVec.toNat / 16 % 16))) ?_ (nm_r (e' := 2) (by decide) ?_)⟩
  · rw [e1, nI_clamp (by omega), gz_vb a _ 16 4 (by decide) (by decide) (Or.inr (Or.inl rfl))]
  refine br_f (by decide) ⟨by rw [e2]; exact vp_in_nI (by omega) (by decide), nm_r (e' := upd (upd (upd attrs (m * 3 + 0) (nI (a.toBitVec.toNat / 1 % 16))) (m * 3 + 1) (nI (a.toBitVec.toNat / 16 % 16))) (m * 3 + 2) (nI (a.toBitVec.toNat / 256 % 16))) ?_ (nm_r (e' := 3) (by decide) ?_)⟩
  · rw [e2, nI_clamp (by omega), gz_vb a _ 256 8 (by decide) (by decide) (Or.inr (Or.inr rfl))]
  refine br_t (by decide) ⟨vp_in_nI hm (by decide), nm_r (e' := upd secs m b) ?_ (nm_r (nI_1 m) ?_)⟩
  · rw [nI_clamp (by omega)]
  · rw [nI_pred]
    exact h
theorem gz_newX {a : Int32} {V' S' : Nat → Nat} {j : Nat} (hX : gz_X m V S vals secs) (hm : m < 16) (hj : j < 8) (v1 : V' m = a.toBitVec.toNat % 4096) (v2 : ∀ q, q ≠ m → V' q = V q) (s1 : S' m = j) (s2 : ∀ q, q ≠ m → S' q = S q) : gz_X (m + 1) V' S' (upd vals m (a &&& 4095)) (upd secs m (nI j)) := by
  refine ⟨by omega, fun q hq => ?_⟩
  by_cases c : q = m
  · subst c
    rw [pk_us, pk_us, v1, s1]
    exact ⟨Nat.mod_lt _ (by decide), hj, pk_and a 12 (by decide), rfl⟩
  · rw [pk_un c, pk_un c, v2 q c, s2 q c]
    exact hX.2 q (by omega)
theorem gz_newY {a : Int32} {V' S' : Nat → Nat} {j : Nat} (hY : gz_Y m V S attrs secs) (hm : m < 16) (hj : j < 8) (v1 : V' m = a.toBitVec.toNat % 4096) (v2 : ∀ q, q ≠ m → V' q = V q) (s1 : S' m = j) (s2 : ∀ q, q ≠ m → S' q = S q) : gz_Y (m + 1) V' S' (upd (upd (upd attrs (m * 3 + 0) (nI (a.toBitVec.toNat / 1 % 16))) (m * 3 + 1) (nI (a.toBitVec.toNat / 16 % 16))) (m * 3 + 2) (nI (a.toBitVec.toNat / 256 % 16))) (upd secs m (nI j)) := by
  refine ⟨by omega, fun q hq => ?_⟩
  by_cases c : q = m
  · subst c
    have d1 : a.toBitVec.toNat / 1 % 16 = a.toBitVec.toNat % 4096 % 16 := by omega
    have d2 : a.toBitVec.toNat / 16 % 16 = a.toBitVec.toNat % 4096 / 16 % 16 := by omega
    have d3 : a.toBitVec.toNat / 256 % 16 = a.toBitVec.toNat % 4096 / 256 % 16 := by omega
    rw [pk_us, v1, s1]
    refine ⟨Nat.mod_lt _ (by decide), hj, rfl, ?_, ?_, ?_⟩
    · rw [pk_un (by omega), pk_un (by omega), pk_us, d1]
    · rw [pk_un (by omega), pk_us, d2]
    · rw [pk_us, d3]
  · rw [pk_un c, pk_un (by omega), pk_un (by omega), pk_un (by omega), pk_un (by omega), pk_un (by omega), pk_un (by omega), pk_un (by omega), pk_un (by omega), pk_un (by omega), v2 q c, s2 q c]
    exact hY.2 q (by omega)
theorem gz_xbad {x : Int32} {post : Int32 → Prop} (h : x < 0 ∨ nI 125 ≤ x) (hp : post 1) : wpX_badSetting post x := by
  unfold wpX_badSetting
  refine br_c (fun _ => hp) (fun c => br_f ?_ hp)
  rcases h with h | h
  · exact absurd h c
  · exact Int32.not_lt.mpr h
theorem gz_xok {s : Nat} {post : Int32 → Prop} (h : s < 125) (hp : post 0) : wpX_badSetting post (nI s) := by
  unfold wpX_badSetting
  exact br_f (nI_pos (by omega)) (br_t (nI_lt (b := 125) h (by decide)) hp)
theorem gz_ybad {x : Int32} {post : Int32 → Prop} (h : x < 0 ∨ nI 125 ≤ x) (hp : post 0) : wpY_isSetting post (nI m, ls, ks, al, attrs, secs, fine) x := by
  unfold wpY_isSetting
  refine br_c (fun _ => hp) (fun c => br_t ?_ hp)
  rcases h with h | h
  · exact absurd h c
  · exact h
theorem gz_ix (x : Int32) : (x < 0 ∨ nI 125 ≤ x) ∨ ∃ j : Nat, j < 125 ∧ x = nI j := by
  rcases pk_ix x (n := 125) (by decide) with h | h | h
  · exact Or.inl (Or.inl h)
  · exact Or.inl (Or.inr h)
  · exact Or.inr h
theorem gz_dropX {m : Nat} (hX : gz_X (m + 1) V S vals secs) : gz_X m V S vals secs := ⟨by have := hX.1; omega, fun q hq => hX.2 q (by omega)⟩
theorem gz_dropY {m : Nat} (hY : gz_Y (m + 1) V S attrs secs) : gz_Y m V S attrs secs := ⟨by have := hY.1; omega, fun q hq => hY.2 q (by omega)⟩
end
end
section
/-! what is owed, a call each -/
theorem i_vc_row {k : Nat} {u : SX} {v : SY} (I : i_Rel k u v) (hk : k + 4 ≤ 2048) (v1 : Int32) (v2 : Int32) : wpX_row (fun r u' => wpY_row (fun r' v' => r' = r ∧ i_Rel (k + 4) u' v') v v1 v2) u v1 v2 := by
  refine gz_el (P := fun u v => wpX_row (fun r u' => wpY_row (fun r' v' => r' = r ∧ i_Rel (k + 4) u' v') v v1 v2) u v1 v2) I ?_
  intro m V S ls ks al rd vals secs kn ord sh attrs fine hX hY hr
  have hm := hX.1
  unfold wpX_row wpY_row
  dsimp only
  by_cases h1 : v2 < 0
  · exact br_t h1 (br_t h1 ⟨rfl, gz_R _ hX hY hr⟩)
  by_cases h2 : v2 ≤ 7
  · refine br_f h1 (br_t h2 ?_)
    obtain ⟨j, hj, rfl⟩ := nI_of2 (n := 7) (by decide) h1 h2
    refine pk_lt m 16 (fun c => ?_) (fun c => ?_)
    · have e1 : (nI m).toNatClampNeg = m := nI_clamp (by omega)
      rw [e1]
      refine ⟨vp_in_nI c (by decide), nm_e ⟨vp_in_nI c (by decide), nm_e (nm_r (nI_1 m) ?_)⟩⟩
      refine br_f h1 (br_t h2 (br_f (fun z => ?_) (gz_yrow c ⟨(nI_pred m).symm, ?_⟩)))
      · have z2 := (nI_eq (b := 16) (by omega) (by decide)).mp z
        omega
      · obtain ⟨V', a1, a2⟩ := gz_put V m (v1.toBitVec.toNat % 4096)
        obtain ⟨S', b1, b2⟩ := gz_put S m j
        exact gz_R _ (gz_newX hX c (by omega) a1 a2 b1 b2) (gz_newY hY c (by omega) a1 a2 b1 b2) (Or.inl rfl)
    · have e : m = 16 := by omega
      subst e
      exact br_f h1 (br_t h2 (br_t rfl ⟨rfl, gz_R _ hX hY hr⟩))
  · exact br_f h1 (br_f h2 (br_f h1 (br_f h2 ⟨rfl, gz_R _ hX hY hr⟩)))
theorem i_vc_drop {k : Nat} {u : SX} {v : SY} (I : i_Rel k u v) (hk : k + 4 ≤ 2048) : wpX_drop (fun r u' => wpY_drop (fun r' v' => r' = r ∧ i_Rel (k + 4) u' v') v) u := by
  refine gz_el (P := fun u v => wpX_drop (fun r u' => wpY_drop (fun r' v' => r' = r ∧ i_Rel (k + 4) u' v') v) u) I ?_
  intro m V S ls ks al rd vals secs kn ord sh attrs fine hX hY hr
  have hm := hX.1
  unfold wpX_drop wpY_drop
  dsimp only
  cases m with
  | zero => exact br_t rfl (br_t rfl ⟨rfl, gz_R _ hX hY hr⟩)
  | succ m =>
    have hne : ¬ nI (m + 1) = 0 := nI_ne0 (by omega) (by omega)
    exact br_f hne (nm_r (nI_pred m) (br_f hne (nm_r (nI_pred m) ⟨rfl, gz_R _ (gz_dropX hX) (gz_dropY hY) (Or.inl rfl)⟩)))
theorem i_vc_demand {k : Nat} {u : SX} {v : SY} (I : i_Rel k u v) (hk : k + 4 ≤ 2048) (v1 : Int32) (v2 : Int32) (v3 : Int32) : wpX_demand (fun r u' => wpY_demand (fun r' v' => r' = r ∧ i_Rel (k + 4) u' v') v v1 v2 v3) u v1 v2 v3 := by
  refine gz_el (P := fun u v => wpX_demand (fun r u' => wpY_demand (fun r' v' => r' = r ∧ i_Rel (k + 4) u' v') v v1 v2 v3) u v1 v2 v3) I ?_
  intro m V S ls ks al rd vals secs kn ord sh attrs fine hX hY hr
  unfold wpX_demand wpY_demand
  dsimp only
  have R : ∀ r : Int32, r = r ∧ i_Rel (k + 4) (nI m, ls, ks, al, rd, vals, secs, kn, ord, sh) (nI m, ls, ks, al, attrs, secs, fine) := fun r => ⟨rfl, gz_R _ hX hY hr⟩
  by_cases h1 : v1 < 1
  · exact br_t h1 (br_t h1 (R _))
  by_cases h2 : 8 < v1
  · exact br_f h1 (br_t h2 (br_f h1 (br_t h2 (R _))))
  by_cases h3 : v2 < 1
  · exact br_f h1 (br_f h2 (br_t h3 (br_f h1 (br_f h2 (br_t h3 (R _))))))
  by_cases h4 : 8 < v2
  · exact br_f h1 (br_f h2 (br_f h3 (br_t h4 (br_f h1 (br_f h2 (br_f h3 (br_t h4 (R _))))))))
  by_cases h5 : v3 < 0
  · exact br_f h1 (br_f h2 (br_f h3 (br_f h4 (br_t h5 (br_f h1 (br_f h2 (br_f h3 (br_f h4 (br_t h5 (R _))))))))))
  by_cases h6 : v3 ≤ 16
  · exact br_f h1 (br_f h2 (br_f h3 (br_f h4 (br_f h5 (br_t h6 (br_f h1 (br_f h2 (br_f h3 (br_f h4 (br_f h5 (br_t h6 ⟨rfl, gz_R _ hX hY (Or.inl rfl)⟩)))))))))))
  · exact br_f h1 (br_f h2 (br_f h3 (br_f h4 (br_f h5 (br_f h6 (br_f h1 (br_f h2 (br_f h3 (br_f h4 (br_f h5 (br_f h6 (R _))))))))))))
theorem i_vc_leftOut {k : Nat} {u : SX} {v : SY} (I : i_Rel k u v) (hk : k + 4 ≤ 2048) (v1 : Int32) : wpX_leftOut (fun r u' => wpY_leftOut (fun r' => r' = r ∧ i_Rel (k + 4) u' v) v v1) u v1 := by
  refine gz_el (P := fun u v => wpX_leftOut (fun r u' => wpY_leftOut (fun r' => r' = r ∧ i_Rel (k + 4) u' v) v v1) u v1) I ?_
  intro m V S ls ks al rd vals secs kn ord sh attrs fine hX hY hr
  rcases gz_ix v1 with hb | ⟨s, hs, rfl⟩
  · unfold wpX_leftOut wpY_leftOut
    dsimp only
    exact gz_xbad hb (br_f (by decide) (gz_ybad hb (br_t rfl ⟨rfl, gz_R _ hX hY hr⟩)))
  · unfold wpX_leftOut
    dsimp only
    refine gz_xok hs (br_t rfl (gz_xclo hX hs (fun ord sh => ?_)))
    exact gz_ylo hY hs ⟨rfl, gz_R _ hX hY hr⟩
theorem i_vc_good {k : Nat} {u : SX} {v : SY} (I : i_Rel k u v) (hk : k + 4 ≤ 2048) (v1 : Int32) : wpX_good (fun r u' => wpY_good (fun r' => r' = r ∧ i_Rel (k + 4) u' v) v v1) u v1 := by
  refine gz_el (P := fun u v => wpX_good (fun r u' => wpY_good (fun r' => r' = r ∧ i_Rel (k + 4) u' v) v v1) u v1) I ?_
  intro m V S ls ks al rd vals secs kn ord sh attrs fine hX hY hr
  rcases gz_ix v1 with hb | ⟨s, hs, rfl⟩
  · unfold wpX_good wpY_good
    dsimp only
    exact gz_xbad hb (br_f (by decide) (gz_ybad hb (br_t rfl ⟨rfl, gz_R _ hX hY hr⟩)))
  · unfold wpX_good
    dsimp only
    refine gz_xok hs (br_t rfl (gz_xprep hX hr (fun rd' kn' ord' sh' hk' => ⟨vp_in_nI hs (by decide), ?_⟩)))
    rw [nI_clamp (by omega)]
    refine gz_k1 (hk' s hs) (fun g => ?_) (fun g => ?_)
    · exact gz_ygood hY hs (fun _ => ⟨rfl, gz_R _ hX hY (Or.inr hk')⟩) (fun z => absurd g z)
    · exact gz_ygood hY hs (fun z => absurd z g) (fun _ => ⟨rfl, gz_R _ hX hY (Or.inr hk')⟩)
theorem i_vc_goodSettings {k : Nat} {u : SX} {v : SY} (I : i_Rel k u v) (hk : k + 4 ≤ 2048) : wpX_goodSettings (fun r u' => wpY_goodSettings (fun r' v' => r' = r ∧ i_Rel (k + 4) u' v') v) u := by
  refine gz_el (P := fun u v => wpX_goodSettings (fun r u' => wpY_goodSettings (fun r' v' => r' = r ∧ i_Rel (k + 4) u' v') v) u) I ?_
  intro m V S ls ks al rd vals secs kn ord sh attrs fine hX hY hr
  unfold wpX_goodSettings wpY_goodSettings
  dsimp only
  refine gz_xprep hX hr (fun rd' kn' ord' sh' hk' => ⟨126, gz_xgs8 hk' ?_ 126 0 (by omega) (by omega)⟩)
  refine gz_yjudge hY (fun fine' hf => ⟨126, gz_ygs8 hf ?_ 126 0 (by omega) (by omega)⟩)
  exact ⟨rfl, gz_R _ hX hY (Or.inr hk')⟩
theorem i_vc_finest {k : Nat} {u : SX} {v : SY} (I : i_Rel k u v) (hk : k + 4 ≤ 2048) : wpX_finest (fun r u' => wpY_finest (fun r' v' => r' = r ∧ i_Rel (k + 4) u' v') v) u := by
  refine gz_el (P := fun u v => wpX_finest (fun r u' => wpY_finest (fun r' v' => r' = r ∧ i_Rel (k + 4) u' v') v) u) I ?_
  intro m V S ls ks al rd vals secs kn ord sh attrs fine hX hY hr
  have hG : gz_mo (gz_good ls ks al V S m) := fun c f h1 h2 => gz_good_mono hX.1 h1 h2
  unfold wpX_finest wpY_finest
  dsimp only
  refine gz_xprep hX hr (fun rd' kn' ord' sh' hk' => ⟨126, gz_xf8 hk' ?_ 126 0 (by omega) (by omega)⟩)
  refine gz_yjudge hY (fun fine' hf => ⟨126, gz_yf8 hG hf ?_ 126 0 (by omega) (by omega)⟩)
  exact ⟨rfl, gz_R _ hX hY (Or.inr hk')⟩
theorem i_vc_finestAt {k : Nat} {u : SX} {v : SY} (I : i_Rel k u v) (hk : k + 4 ≤ 2048) (v1 : Int32) : wpX_finestAt (fun r u' => wpY_finestAt (fun r' v' => r' = r ∧ i_Rel (k + 4) u' v') v v1) u v1 := by
  refine gz_el (P := fun u v => wpX_finestAt (fun r u' => wpY_finestAt (fun r' v' => r' = r ∧ i_Rel (k + 4) u' v') v v1) u v1) I ?_
  intro m V S ls ks al rd vals secs kn ord sh attrs fine hX hY hr
  have hG : gz_mo (gz_good ls ks al V S m) := fun c f h1 h2 => gz_good_mono hX.1 h1 h2
  unfold wpX_finestAt wpY_finestAt
  dsimp only
  refine br_c (fun c => ?_) (fun c => ?_)
  · refine gz_xprep hX hr (fun rd' kn' ord' sh' hk' => ⟨126, gz_xfa15 hk' 125 0 0 (by omega) ?_⟩)
    refine gz_yjudge hY (fun fine' hf => ⟨126, gz_yfa8 hG hf 125 0 0 (by omega) ?_⟩)
    exact ⟨rfl, gz_R _ hX hY (Or.inr hk')⟩
  · refine gz_yjudge hY (fun fine' hf => ⟨126, gz_yfa8 hG hf 125 0 0 (by omega) ?_⟩)
    exact ⟨gz_fa_neg c 125 0 0 (by omega), gz_R _ hX hY hr⟩
theorem i_vc_best {k : Nat} {u : SX} {v : SY} (I : i_Rel k u v) (hk : k + 4 ≤ 2048) : wpX_best (fun r u' => wpY_best (fun r' v' => r' = r ∧ i_Rel (k + 4) u' v') v) u := by
  refine gz_el (P := fun u v => wpX_best (fun r u' => wpY_best (fun r' v' => r' = r ∧ i_Rel (k + 4) u' v') v) u) I ?_
  intro m V S ls ks al rd vals secs kn ord sh attrs fine hX hY hr
  unfold wpX_best wpY_best
  dsimp only
  refine gz_xprep hX hr (fun rd' kn' ord' sh' hk' => ⟨126, gz_xb12 hk' 125 none 0 (by omega) (fun j hj => by cases hj) ?_⟩)
  refine gz_yjudge hY (fun fine' hf => ⟨126, gz_yb9 hf 125 none 0 (by omega) (fun j hj => by cases hj) ?_⟩)
  exact ⟨rfl, gz_R _ hX hY (Or.inr hk')⟩
theorem i_vc_groups {k : Nat} {u : SX} {v : SY} (I : i_Rel k u v) (hk : k + 4 ≤ 2048) (v1 : Int32) : wpX_groups (fun r u' => wpY_groups (fun r' => r' = r ∧ i_Rel (k + 4) u' v) v v1) u v1 := by
  refine gz_el (P := fun u v => wpX_groups (fun r u' => wpY_groups (fun r' => r' = r ∧ i_Rel (k + 4) u' v) v v1) u v1) I ?_
  intro m V S ls ks al rd vals secs kn ord sh attrs fine hX hY hr
  unfold wpX_groups wpY_groups
  dsimp only
  rcases gz_ix v1 with hb | ⟨s, hs, rfl⟩
  · exact gz_xbad hb (br_f (by decide) (gz_ybad hb (br_t rfl ⟨rfl, gz_R _ hX hY hr⟩)))
  · refine gz_xok hs (br_t rfl (gz_xgroups hX hs (fun ord sh => ?_)))
    refine gz_yset hs (br_f (by decide) ?_)
    have hz := gz_yg15 (post := fun r' => r' = nI (gz_dc (fun q => gz_key (V q) s) m) ∧ i_Rel (k + 4) (nI m, ls, ks, al, rd, vals, secs, kn, ord, sh) (nI m, ls, ks, al, attrs, secs, fine)) (ls := ls) (ks := ks) (al := al) (fine := fine) hY hs ⟨rfl, gz_R _ hX hY hr⟩ (m + 1) 0 (by omega) (by omega)
    rw [gz_dc_0] at hz
    exact ⟨m + 1, hz⟩
theorem i_vc_lookAlike {k : Nat} {u : SX} {v : SY} (I : i_Rel k u v) (hk : k + 4 ≤ 2048) (v1 : Int32) (v2 : Int32) : wpX_lookAlike (fun r => wpY_lookAlike (fun r' => r' = r ∧ i_Rel (k + 4) u v) v v1 v2) u v1 v2 := by
  refine gz_el (P := fun u v => wpX_lookAlike (fun r => wpY_lookAlike (fun r' => r' = r ∧ i_Rel (k + 4) u v) v v1 v2) u v1 v2) I ?_
  intro m V S ls ks al rd vals secs kn ord sh attrs fine hX hY hr
  have hm := hX.1
  unfold wpX_lookAlike wpY_lookAlike
  dsimp only
  rcases gz_ix v1 with hb | ⟨s, hs, rfl⟩
  · exact gz_xbad hb (br_f (by decide) (gz_ybad hb (br_t rfl ⟨rfl, gz_R _ hX hY hr⟩)))
  · by_cases h1 : v2 < 0
    · exact gz_xok hs (br_t rfl (br_t h1 (gz_yset hs (br_f (by decide) (br_t h1 ⟨rfl, gz_R _ hX hY hr⟩)))))
    · refine gz_xok hs (br_t rfl (br_f h1 ?_))
      obtain ⟨r, hr2, rfl⟩ := nI_of h1
      refine br_c (fun c => ?_) (fun c => ?_)
      · have c2 : r < m := (nI_ltI hr2 (by omega)).mp c
        refine gz_xkey hX c2 hs ⟨m + 1, gz_xla38 hX hs ?_ (m + 1) 0 (by omega) (by omega)⟩
        refine gz_yset hs (br_f (by decide) (br_f h1 (br_t c ⟨m + 1, gz_yla31 hY hs c2 ?_ (m + 1) 0 (by omega) (by omega)⟩)))
        exact ⟨rfl, gz_R _ hX hY hr⟩
      · exact gz_yset hs (br_f (by decide) (br_f h1 (br_f c ⟨rfl, gz_R _ hX hY hr⟩)))
end
