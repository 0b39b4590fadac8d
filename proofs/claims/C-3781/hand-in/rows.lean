section
theorem pk_us {f : Nat → Int32} {k : Nat} {x : Int32} : upd f k x k = x := if_pos rfl
theorem pk_un {f : Nat → Int32} {k j : Nat} {x : Int32} (h : j ≠ k) : upd f k x j = f j := if_neg h
theorem pk_sub {a b : Nat} (h : b ≤ a) : nI a - nI b = nI (a - b) := by
  obtain ⟨c, rfl⟩ : ∃ c, a = c + b := ⟨a - b, by omega⟩
  rw [← nI_add, Int32.add_sub_cancel, Nat.add_sub_cancel]
theorem pk_m1 (n : Nat) : nI (n + 1) + (-1) = nI n := by
  rw [← nI_1, Int32.add_assoc, show (1 : Int32) + (-1) = 0 from rfl, Int32.add_zero]
theorem pk_mul (a b : Nat) : nI a * nI b = nI (a * b) := (Int32.ofNat_mul a b).symm
theorem pk_div {a d : Nat} (ha : a < 2 ^ 31) (h0 : 0 < d) (hd : d < 2 ^ 31) : nI a / nI d = nI (a / d) := by
  apply Int32.toInt_inj.mp
  rw [lg_idiv_nonneg (by rw [nI_toInt ha]; omega) (by rw [nI_toInt hd]; omega), nI_toInt ha, nI_toInt hd, nI_toInt (Nat.lt_of_le_of_lt (Nat.div_le_self a d) ha)]
  first | rfl | exact (Int.natCast_ediv _ _).symm
theorem pk_rem {a d : Nat} (ha : a < 2 ^ 31) (h0 : 0 < d) (hd : d < 2 ^ 31) : nI a - nI a / nI d * nI d = nI (a % d) := by
  rw [pk_div ha h0 hd, pk_mul, pk_sub (Nat.div_mul_le_self a d)]
  exact congrArg nI (by have := Nat.div_add_mod' a d; omega)
theorem pk_sub_toInt {a b : Nat} (ha : a < 2 ^ 30) (hb : b < 2 ^ 30) : (nI a - nI b).toInt = (a : Int) - b := by
  rw [Int32.toInt_sub, nI_toInt (by omega), nI_toInt (by omega)]
  exact Int.bmod_eq_of_le (by omega) (by omega)
theorem pk_sneg {a b : Nat} (hb : b < 2 ^ 30) (h : a < b) : nI a - nI b < 0 := by
  rw [Int32.lt_iff_toInt_lt, pk_sub_toInt (by omega) hb, show (0 : Int32).toInt = 0 from by decide]
  omega
theorem pk_ix (x : Int32) {n : Nat} (hn : n < 2 ^ 31) : x < 0 ∨ nI n ≤ x ∨ ∃ j : Nat, j < n ∧ x = nI j := by
  by_cases h : x < 0
  · exact Or.inl h
  · obtain ⟨j, hj, rfl⟩ := nI_of h
    by_cases h2 : j < n
    · exact Or.inr (Or.inr ⟨j, h2, rfl⟩)
    · exact Or.inr (Or.inl (nI_le (by omega) hj))
theorem pk_le {x y : Int32} {A B : Prop} (a b : Nat) (f : a ≤ b → A) (g : b < a → B) (hx : x = nI a := by rfl) (hy : y = nI b := by rfl) (ha : a < 2 ^ 31 := by omega) (hb : b < 2 ^ 31 := by omega) : (x ≤ y → A) ∧ (¬ x ≤ y → B) := by
  subst hx hy
  rw [nI_leI ha hb]
  exact ⟨f, fun z => g (by omega)⟩
theorem pk_lt {x y : Int32} {A B : Prop} (a b : Nat) (f : a < b → A) (g : b ≤ a → B) (hx : x = nI a := by rfl) (hy : y = nI b := by rfl) (ha : a < 2 ^ 31 := by omega) (hb : b < 2 ^ 31 := by omega) : (x < y → A) ∧ (¬ x < y → B) := by
  subst hx hy
  rw [nI_ltI ha hb]
  exact ⟨f, fun z => g (by omega)⟩
theorem pk_eq {x y : Int32} {A B : Prop} (a b : Nat) (f : a = b → A) (g : a ≠ b → B) (hx : x = nI a := by rfl) (hy : y = nI b := by rfl) (ha : a < 2 ^ 31 := by omega) (hb : b < 2 ^ 31 := by omega) : (x = y → A) ∧ (¬ x = y → B) := by
  subst hx hy
  rw [nI_eq ha hb]
  exact ⟨f, g⟩
theorem pk_in {x : Int32} (n N : Nat) (h : n < N) (hx : x = nI n := by rfl) (hN : N < 2 ^ 31 := by omega) : vp_in x N := by
  subst hx
  exact vp_in_nI h hN
theorem pk_cl {x : Int32} (n : Nat) (hx : x = nI n := by rfl) (h : n < 2 ^ 31 := by omega) : x.toNatClampNeg = n := by
  subst hx
  exact nI_clamp h
theorem pk_tn {n : Nat} (h : n < 2 ^ 32) : (nI n).toBitVec.toNat = n := Nat.mod_eq_of_lt h
theorem pk_and (x : Int32) {m : Int32} (k : Nat) (hm : m.toBitVec.toNat = 2 ^ k - 1) : x &&& m = nI (x.toBitVec.toNat % 2 ^ k) := by
  apply Int32.toBitVec_inj.mp
  apply BitVec.eq_of_toNat_eq
  rw [Int32.toBitVec_and, BitVec.toNat_and, hm, Nat.and_two_pow_sub_one_eq_mod]
  show _ = (BitVec.ofNat 32 _).toNat
  rw [BitVec.toNat_ofNat]
  exact (Nat.mod_eq_of_lt (Nat.lt_of_le_of_lt (Nat.mod_le _ _) x.toBitVec.isLt)).symm
theorem pk_andN {n : Nat} (h : n < 2 ^ 32) {m : Int32} (k : Nat) (hm : m.toBitVec.toNat = 2 ^ k - 1) : nI n &&& m = nI (n % 2 ^ k) := by
  rw [pk_and _ k hm, pk_tn h]
theorem pk_shl (a s : Int32) (k : Nat) (hs : (s.toBitVec.smod 32).toNat = k) : (a <<< s).toBitVec.toNat = a.toBitVec.toNat * 2 ^ k % 2 ^ 32 := by
  show (a.toBitVec <<< (s.toBitVec.smod 32).toNat).toNat = _
  rw [hs, BitVec.toNat_shiftLeft, Nat.shiftLeft_eq]
theorem pk_shlN {n : Nat} (s : Int32) (k : Nat) (hs : (s.toBitVec.smod 32).toNat = k) (h : n * 2 ^ k < 2 ^ 32) : nI n <<< s = nI (n * 2 ^ k) := by
  apply Int32.toBitVec_inj.mp
  apply BitVec.eq_of_toNat_eq
  have hn : n < 2 ^ 32 := Nat.lt_of_le_of_lt (Nat.le_mul_of_pos_right n (Nat.two_pow_pos k)) h
  rw [pk_shl _ _ k hs, pk_tn hn, pk_tn h, Nat.mod_eq_of_lt h]
theorem pk_shr (a s : Int32) (k : Nat) (hs : (s.toBitVec.smod 32).toNat = k) : (a >>> s).toInt = a.toInt >>> k := by
  show (a.toBitVec.sshiftRight (s.toBitVec.smod 32).toNat).toInt = _
  rw [hs, BitVec.toInt_sshiftRight]
  rfl
theorem pk_shrN {n : Nat} (h : n < 2 ^ 31) (s : Int32) (k : Nat) (hs : (s.toBitVec.smod 32).toNat = k) : nI n >>> s = nI (n / 2 ^ k) := by
  apply Int32.toInt_inj.mp
  have h2 : n / 2 ^ k ≤ n := Nat.div_le_self _ _
  rw [pk_shr _ _ k hs, nI_toInt h, nI_toInt (by omega), Int.shiftRight_eq_div_pow]
  rfl
end
section
/-! counts and sums over the first n numbers; a sorted list built by insertion -/
def wf_cn (p : Nat → Bool) : Nat → Nat
  | 0 => 0
  | n + 1 => wf_cn p n + (if p n = true then 1 else 0)
def wf_sm (f : Nat → Int32) : Nat → Int32
  | 0 => 0
  | n + 1 => wf_sm f n + f n
theorem wf_cn_0 (p : Nat → Bool) : wf_cn p 0 = 0 := rfl
theorem wf_cn_s (p : Nat → Bool) (n : Nat) : wf_cn p (n + 1) = wf_cn p n + (if p n = true then 1 else 0) := rfl
theorem wf_sm_s (f : Nat → Int32) (n : Nat) : wf_sm f (n + 1) = wf_sm f n + f n := rfl
theorem wf_cn_t {p : Nat → Bool} {n : Nat} (h : p n = true) : wf_cn p (n + 1) = wf_cn p n + 1 := by
  rw [wf_cn_s, if_pos h]
theorem wf_cn_f {p : Nat → Bool} {n : Nat} (h : ¬ p n = true) : wf_cn p (n + 1) = wf_cn p n := by
  rw [wf_cn_s, if_neg h]; rfl
theorem wf_cn_le (p : Nat → Bool) (n : Nat) : wf_cn p n ≤ n := by
  induction n with
  | zero => exact Nat.le_refl _
  | succ n ih => rw [wf_cn_s]; split <;> omega
theorem wf_cn_congr {p q : Nat → Bool} {n : Nat} (h : ∀ i, i < n → (p i = true ↔ q i = true)) : wf_cn p n = wf_cn q n := by
  induction n with
  | zero => rfl
  | succ n ih =>
    have e := ih (fun i hi => h i (by omega))
    have hn := h n (by omega)
    by_cases hp : p n = true
    · rw [wf_cn_t hp, wf_cn_t (hn.mp hp), e]
    · rw [wf_cn_f hp, wf_cn_f (fun z => hp (hn.mpr z)), e]
theorem wf_cn_mono {p q : Nat → Bool} {n : Nat} (h : ∀ i, i < n → p i = true → q i = true) : wf_cn p n ≤ wf_cn q n := by
  induction n with
  | zero => exact Nat.le_refl _
  | succ n ih =>
    have e := ih (fun i hi => h i (by omega))
    have hn := h n (by omega)
    by_cases hp : p n = true
    · rw [wf_cn_t hp, wf_cn_t (hn hp)]; omega
    · rw [wf_cn_f hp, wf_cn_s]; omega
theorem wf_cn_split {r p q : Nat → Bool} {n : Nat} (h : ∀ i, i < n → (r i = true ↔ (p i = true ∨ q i = true))) (hd : ∀ i, i < n → p i = true → ¬ q i = true) : wf_cn r n = wf_cn p n + wf_cn q n := by
  induction n with
  | zero => rfl
  | succ n ih =>
    have e := ih (fun i hi => h i (by omega)) (fun i hi => hd i (by omega))
    have hn := h n (by omega)
    by_cases hp : p n = true
    · rw [wf_cn_t hp, wf_cn_f (hd n (by omega) hp), wf_cn_t (hn.mpr (Or.inl hp)), e]; omega
    · by_cases hq : q n = true
      · rw [wf_cn_f hp, wf_cn_t hq, wf_cn_t (hn.mpr (Or.inr hq)), e]; omega
      · rw [wf_cn_f hp, wf_cn_f hq, wf_cn_f (fun z => (hn.mp z).elim hp hq), e]
theorem wf_cn_mm {p : Nat → Bool} {a b : Nat} (hab : a ≤ b) (n : Nat) (h : ∀ i, i < n → (p i = true ↔ (a ≤ i ∧ i < b))) : wf_cn p n = min b n - min a n := by
  induction n with
  | zero => rw [wf_cn_0]; omega
  | succ n ih =>
    have e := ih (fun i hi => h i (by omega))
    have hn := h n (by omega)
    by_cases hp : p n = true
    · have := hn.mp hp
      rw [wf_cn_t hp, e]; omega
    · have h2 : ¬ (a ≤ n ∧ n < b) := fun z => hp (hn.mpr z)
      rw [wf_cn_f hp, e]; omega
theorem wf_cn_iv {p : Nat → Bool} {a b n : Nat} (hab : a ≤ b) (hb : b ≤ n) (h : ∀ i, i < n → (p i = true ↔ (a ≤ i ∧ i < b))) : wf_cn p n = b - a := by
  rw [wf_cn_mm hab n h]; omega
theorem wf_cn_one {p : Nat → Bool} {m n : Nat} (hm : m < n) (h : ∀ i, i < n → (p i = true ↔ i = m)) : wf_cn p n = 1 := by
  rw [wf_cn_iv (a := m) (b := m + 1) (by omega) (by omega) (fun i hi => (h i hi).trans (by omega))]; omega
theorem wf_cn_zero {p : Nat → Bool} {n : Nat} (h : ∀ i, i < n → ¬ p i = true) : wf_cn p n = 0 := by
  rw [wf_cn_iv (a := 0) (b := 0) (by omega) (by omega) (fun i hi => ⟨fun z => absurd z (h i hi), fun z => by omega⟩)]
theorem wf_sm_congr {p q : Nat → Int32} {n : Nat} (h : ∀ i, i < n → p i = q i) : wf_sm p n = wf_sm q n := by
  induction n with
  | zero => rfl
  | succ n ih => rw [wf_sm_s, wf_sm_s, ih (fun i hi => h i (by omega)), h n (by omega)]
theorem wf_sm_z {p : Nat → Int32} {n : Nat} (h : ∀ i, i < n → p i = 0) : wf_sm p n = 0 := by
  induction n with
  | zero => rfl
  | succ n ih => rw [wf_sm_s, ih (fun i hi => h i (by omega)), h n (by omega)]; rfl
theorem wf_sm_add {r p q : Nat → Int32} {n : Nat} (h : ∀ i, i < n → r i = p i + q i) : wf_sm r n = wf_sm p n + wf_sm q n := by
  induction n with
  | zero => rfl
  | succ n ih =>
    rw [wf_sm_s, wf_sm_s, wf_sm_s, ih (fun i hi => h i (by omega)), h n (by omega)]
    grind
/-- a sum over a stretch is a difference of running totals -/
theorem wf_sm_iv {f g : Nat → Int32} {a b : Nat} (hab : a ≤ b) : ∀ n, b ≤ n → (∀ i, i < n → a ≤ i → i < b → f i = g i) → (∀ i, i < n → ¬ (a ≤ i ∧ i < b) → f i = 0) → wf_sm f n = wf_sm g b - wf_sm g a := by
  have hA : ∀ m, m ≤ a → (∀ i, i < m → ¬ (a ≤ i ∧ i < b) → f i = 0) → wf_sm f m = 0 := fun m hm h0 => wf_sm_z (fun i hi => h0 i hi (by omega))
  have hB : ∀ d, a + d ≤ b → (∀ i, i < a + d → a ≤ i → i < b → f i = g i) → (∀ i, i < a + d → ¬ (a ≤ i ∧ i < b) → f i = 0) → wf_sm f (a + d) = wf_sm g (a + d) - wf_sm g a := by
    intro d
    induction d with
    | zero =>
      intro _ _ h0
      rw [Nat.add_zero, hA a (Nat.le_refl _) (fun i hi => h0 i (by omega)), Int32.sub_self]
    | succ d ih =>
      intro hd h1 h0
      rw [← Nat.add_assoc, wf_sm_s, wf_sm_s, ih (by omega) (fun i hi => h1 i (by omega)) (fun i hi => h0 i (by omega)), h1 (a + d) (by omega) (by omega) (by omega)]
      grind
  have hC : ∀ d, (∀ i, i < b + d → a ≤ i → i < b → f i = g i) → (∀ i, i < b + d → ¬ (a ≤ i ∧ i < b) → f i = 0) → wf_sm f (b + d) = wf_sm g b - wf_sm g a := by
    intro d
    induction d with
    | zero =>
      intro h1 h0
      obtain ⟨e, rfl⟩ : ∃ e, b = a + e := ⟨b - a, by omega⟩
      exact hB e (Nat.le_refl _) h1 h0
    | succ d ih =>
      intro h1 h0
      rw [← Nat.add_assoc, wf_sm_s, ih (fun i hi => h1 i (by omega)) (fun i hi => h0 i (by omega)), h0 (b + d) (by omega) (by omega), Int32.add_zero]
  intro n hn h1 h0
  obtain ⟨d, rfl⟩ : ∃ d, n = b + d := ⟨n - b, by omega⟩
  exact hC d h1 h0
def wf_ins (o : Nat → Nat) (a x : Nat) : Nat → Nat := fun j => if j < a then o j else if j = a then x else o (j - 1)
theorem wf_ins_lo {o : Nat → Nat} {a x j : Nat} (h : j < a) : wf_ins o a x j = o j := if_pos h
theorem wf_ins_at {o : Nat → Nat} {a x : Nat} : wf_ins o a x a = x := by
  unfold wf_ins; rw [if_neg (by omega), if_pos rfl]
theorem wf_ins_hi {o : Nat → Nat} {a x j : Nat} (h : a < j) : wf_ins o a x j = o (j - 1) := by
  unfold wf_ins; rw [if_neg (by omega), if_neg (by omega)]
theorem wf_cn_ins {o : Nat → Nat} {a x : Nat} (p : Nat → Bool) : ∀ n, a ≤ n → wf_cn (fun j => p (wf_ins o a x j)) (n + 1) = wf_cn (fun j => p (o j)) n + (if p x = true then 1 else 0) := by
  intro n
  induction n with
  | zero =>
    intro h
    have : a = 0 := by omega
    subst this
    rw [wf_cn_s, wf_ins_at]; rfl
  | succ n ih =>
    intro h
    by_cases ha : a = n + 1
    · subst ha
      rw [wf_cn_s, wf_ins_at, wf_cn_congr (q := fun j => p (o j)) (fun i hi => by rw [wf_ins_lo hi])]
    · rw [wf_cn_s, ih (by omega), wf_ins_hi (by omega), wf_cn_s]
      show _ = wf_cn (fun j => p (o j)) n + (if p (o n) = true then 1 else 0) + _
      rw [Nat.add_sub_cancel]; omega
theorem wf_sm_ins {o : Nat → Nat} {a x : Nat} (f : Nat → Int32) : ∀ n, a ≤ n → wf_sm (fun j => f (wf_ins o a x j)) (n + 1) = wf_sm (fun j => f (o j)) n + f x := by
  intro n
  induction n with
  | zero =>
    intro h
    have : a = 0 := by omega
    subst this
    rw [wf_sm_s, wf_ins_at]; rfl
  | succ n ih =>
    intro h
    by_cases ha : a = n + 1
    · subst ha
      rw [wf_sm_s, wf_ins_at, wf_sm_congr (q := fun j => f (o j)) (fun i hi => by rw [wf_ins_lo hi])]
    · rw [wf_sm_s, ih (by omega), wf_ins_hi (by omega), wf_sm_s]
      rw [Nat.add_sub_cancel]; grind
/-- o lists the numbers below c once each, with growing w -/
def wf_so (w : Nat → Int) (o : Nat → Nat) (c : Nat) : Prop :=
  (∀ j, j < c → o j < c) ∧ (∀ i j, i < j → j < c → w (o i) < w (o j)) ∧ (∀ r, r < c → ∃ j, j < c ∧ o j = r) ∧ (∀ p : Nat → Bool, wf_cn (fun j => p (o j)) c = wf_cn p c) ∧ (∀ f : Nat → Int32, wf_sm (fun j => f (o j)) c = wf_sm f c)
theorem wf_so_0 (w : Nat → Int) (o : Nat → Nat) : wf_so w o 0 :=
  ⟨fun j h => by omega, fun i j _ h => by omega, fun r h => by omega, fun _ => rfl, fun _ => rfl⟩
theorem wf_so_ins {w : Nat → Int} {o : Nat → Nat} {n a : Nat} (h : wf_so w o n) (ha : a ≤ n) (hlo : ∀ j, j < a → w (o j) < w n) (hhi : ∀ j, a ≤ j → j < n → w n < w (o j)) : wf_so w (wf_ins o a n) (n + 1) := by
  obtain ⟨h1, h2, h3, h4, h5⟩ := h
  refine ⟨?_, ?_, ?_, ?_, ?_⟩
  · intro j hj
    rcases Nat.lt_trichotomy j a with z | z | z
    · rw [wf_ins_lo z]; have := h1 j (by omega); omega
    · subst z; rw [wf_ins_at]; omega
    · rw [wf_ins_hi z]; have := h1 (j - 1) (by omega); omega
  · intro i j hij hj
    rcases Nat.lt_trichotomy j a with z | z | z
    · rw [wf_ins_lo z, wf_ins_lo (by omega)]; exact h2 i j hij (by omega)
    · subst z; rw [wf_ins_at, wf_ins_lo hij]; exact hlo i hij
    · rw [wf_ins_hi z]
      rcases Nat.lt_trichotomy i a with y | y | y
      · rw [wf_ins_lo y]; exact h2 i (j - 1) (by omega) (by omega)
      · subst y; rw [wf_ins_at]; exact hhi (j - 1) (by omega) (by omega)
      · rw [wf_ins_hi y]; exact h2 (i - 1) (j - 1) (by omega) (by omega)
  · intro r hr
    by_cases e : r = n
    · exact ⟨a, by omega, by rw [wf_ins_at, e]⟩
    · obtain ⟨j, hj, ej⟩ := h3 r (by omega)
      by_cases z : j < a
      · exact ⟨j, by omega, by rw [wf_ins_lo z, ej]⟩
      · exact ⟨j + 1, by omega, by rw [wf_ins_hi (by omega), Nat.add_sub_cancel, ej]⟩
  · intro p
    rw [wf_cn_ins p n ha, h4, wf_cn_s]
  · intro f
    rw [wf_sm_ins f n ha, h5, wf_sm_s]
theorem wf_so_le {w : Nat → Int} {o : Nat → Nat} {c i j : Nat} (h : wf_so w o c) (hij : i ≤ j) (hj : j < c) : w (o i) ≤ w (o j) := by
  rcases Nat.lt_or_ge i j with z | z
  · exact Int.le_of_lt (h.2.1 i j z hj)
  · have : i = j := by omega
    subst this; exact Int.le_refl _
theorem wf_so_inj {w : Nat → Int} {o : Nat → Nat} {c i j : Nat} (h : wf_so w o c) (hi : i < c) (hj : j < c) (e : o i = o j) : i = j := by
  rcases Nat.lt_trichotomy i j with z | z | z
  · have := h.2.1 i j z hj; rw [e] at this; omega
  · exact z
  · have := h.2.1 j i z hi; rw [e] at this; omega
end
section
/-! rows: groups, keys; their one number; what the reference counts; the picture of a fresh object -/
def wf_q (G K : Nat → Int32) (r : Nat) : Int := 128 * (G r).toInt + (K r).toInt
def wf_w (G K : Nat → Int32) (r : Nat) : Int := 32 * wf_q G K r + r
def wf_ok (c : Nat) (G K V : Nat → Int32) : Prop := ∀ i, i < c → (0 ≤ (G i).toInt ∧ (G i).toInt ≤ 3) ∧ (-50 ≤ (K i).toInt ∧ (K i).toInt ≤ 50) ∧ (-1000 ≤ (V i).toInt ∧ (V i).toInt ≤ 1000)
/-- s comes before r in its group -/
def wf_bf (G K : Nat → Int32) (s r : Nat) : Bool := decide ((G s).toInt = (G r).toInt ∧ ((K s).toInt < (K r).toInt ∨ ((K s).toInt = (K r).toInt ∧ s < r)))
def wf_P (c : Nat) (G K : Nat → Int32) (r : Nat) : Nat := wf_cn (fun s => wf_bf G K s r) c
def wf_ls (G K : Nat → Int32) (s r : Nat) : Bool := decide ((G s).toInt = (G r).toInt ∧ (K s).toInt < (K r).toInt)
/-- s has the least number of its peers -/
def wf_fs (G K : Nat → Int32) (s : Nat) : Bool := decide (∀ t, t < s → ¬ ((G t).toInt = (G s).toInt ∧ (K t).toInt = (K s).toInt))
def wf_D (c : Nat) (G K : Nat → Int32) (r : Nat) : Nat := wf_cn (fun s => wf_ls G K s r && wf_fs G K s) c
/-- what a frame measures by: place, key, number of the key -/
def wf_h (c : Nat) (kd : Int32) (G K : Nat → Int32) (r : Nat) : Int := if kd = 0 then (wf_P c G K r : Int) else if kd = 2 then (wf_D c G K r : Int) else (K r).toInt
/-- s is in the frame of r -/
def wf_fm (c : Nat) (kd fr tt : Int32) (G K : Nat → Int32) (r s : Nat) : Bool := decide ((G s).toInt = (G r).toInt ∧ fr.toInt ≤ wf_h c kd G K s - wf_h c kd G K r ∧ wf_h c kd G K s - wf_h c kd G K r ≤ tt.toInt)
def wf_bg (c : Nat) (G : Nat → Int32) (o : Nat → Nat) (x b : Nat) : Prop := b ≤ c ∧ ∀ j, j < c → ((G (o j)).toInt < (x : Int) ↔ j < b)
def wf_Be (c : Nat) (G : Nat → Int32) (o : Nat → Nat) (X : Nat) (beg : Nat → Int32) : Prop := ∀ x, x < X → ∃ b, beg x = nI b ∧ wf_bg c G o x b
def wf_To (V : Nat → Int32) (o : Nat → Nat) (X : Nat) (tot : Nat → Int32) : Prop := ∀ j, j ≤ X → tot j = wf_sm (fun i => V (o i)) j
def wf_Pf (c : Nat) (G K : Nat → Int32) (o : Nat → Nat) (X : Nat) (pf : Nat → Int32) : Prop := ∀ j, j < X → ∃ p, pf j = nI p ∧ p ≤ j ∧ ∀ i, i < c → (wf_q G K (o i) < wf_q G K (o j) ↔ i < p)
def wf_St (c : Nat) (G K : Nat → Int32) (o : Nat → Nat) (X : Nat) (st : Nat → Int32) : Prop := ∀ j, j < X → st j = nI (wf_D c G K (o j))
def wf_pn (c : Nat) (G K : Nat → Int32) (o : Nat → Nat) (pe : Nat → Int32) (j : Nat) : Prop := ∃ p, pe j = nI p ∧ j < p ∧ p ≤ c ∧ ∀ i, i < c → (wf_q G K (o i) ≤ wf_q G K (o j) ↔ i < p)
def wf_mn (V : Nat → Int32) (o : Nat → Nat) (m : Int32) (a b : Nat) : Prop := (∀ i, a ≤ i → i < b → m.toInt ≤ (V (o i)).toInt) ∧ ∃ i, a ≤ i ∧ i < b ∧ m = V (o i)
def wf_mx (V : Nat → Int32) (o : Nat → Nat) (m : Int32) (a b : Nat) : Prop := (∀ i, a ≤ i → i < b → (V (o i)).toInt ≤ m.toInt) ∧ ∃ i, a ≤ i ∧ i < b ∧ m = V (o i)
def wf_Lo (c : Nat) (V : Nat → Int32) (o : Nat → Nat) (L : Nat) (low : Nat → Int32) : Prop := ∀ l, l < L → ∀ a, a + 2 ^ l ≤ c → wf_mn V o (low (24 * l + a)) a (a + 2 ^ l)
def wf_Hi (c : Nat) (V : Nat → Int32) (o : Nat → Nat) (L : Nat) (low : Nat → Int32) : Prop := ∀ l, l < L → ∀ a, a + 2 ^ l ≤ c → wf_mx V o (low (24 * l + a)) a (a + 2 ^ l)
def wf_Fr (c : Nat) (G K V : Nat → Int32) (o : Nat → Nat) (ord spt beg pf pe st tot low high : Nat → Int32) : Prop :=
  wf_so (wf_w G K) o c ∧ (∀ j, j < c → ord j = nI (o j)) ∧ (∀ j, j < c → spt (o j) = nI j) ∧ wf_Be c G o 5 beg ∧ wf_To V o c tot ∧ wf_Pf c G K o c pf ∧ wf_St c G K o c st ∧ (∀ j, j < c → wf_pn c G K o pe j) ∧ wf_Lo c V o 5 low ∧ wf_Hi c V o 5 high
section WFR
variable {c : Nat} {kd fr tt : Int32} {G K V : Nat → Int32} {o : Nat → Nat}
theorem wf_qe (ok : wf_ok c G K V) {a b : Nat} (ha : a < c) (hb : b < c) : wf_q G K a = wf_q G K b ↔ ((G a).toInt = (G b).toInt ∧ (K a).toInt = (K b).toInt) := by
  have h1 := ok a ha; have h2 := ok b hb
  unfold wf_q; omega
theorem wf_ql (ok : wf_ok c G K V) {a b : Nat} (ha : a < c) (hb : b < c) : wf_q G K a < wf_q G K b ↔ ((G a).toInt < (G b).toInt ∨ ((G a).toInt = (G b).toInt ∧ (K a).toInt < (K b).toInt)) := by
  have h1 := ok a ha; have h2 := ok b hb
  unfold wf_q; omega
theorem wf_wl (ok : wf_ok c G K V) (hc : c ≤ 24) {a b : Nat} (ha : a < c) (hb : b < c) : wf_w G K a < wf_w G K b ↔ ((G a).toInt < (G b).toInt ∨ ((G a).toInt = (G b).toInt ∧ ((K a).toInt < (K b).toInt ∨ ((K a).toInt = (K b).toInt ∧ a < b)))) := by
  have h1 := ok a ha; have h2 := ok b hb
  unfold wf_w wf_q; omega
/-- by places: the one number grows, so group and key do -/
theorem wf_oq (hc : c ≤ 24) (so : wf_so (wf_w G K) o c) {i j : Nat} (hij : i ≤ j) (hj : j < c) : wf_q G K (o i) ≤ wf_q G K (o j) := by
  have h := wf_so_le so hij hj
  have h1 := so.1 i (by omega); have h2 := so.1 j hj
  unfold wf_w at h; omega
theorem wf_og (ok : wf_ok c G K V) (hc : c ≤ 24) (so : wf_so (wf_w G K) o c) {i j : Nat} (hij : i ≤ j) (hj : j < c) : (G (o i)).toInt ≤ (G (o j)).toInt := by
  have h := wf_oq hc so hij hj
  have h1 := ok _ (so.1 i (by omega)); have h2 := ok _ (so.1 j hj)
  unfold wf_q at h; omega
theorem wf_bg_in {x b b' : Nat} {j : Nat} (hj : j < c) (h : wf_bg c G o x b) (h' : wf_bg c G o (x + 1) b') : ((G (o j)).toInt = (x : Int) ↔ (b ≤ j ∧ j < b')) := by
  have h1 := h.2 j hj; have h2 := h'.2 j hj
  omega
theorem wf_bg_le {x b b' : Nat} (ok : wf_ok c G K V) (so : wf_so (wf_w G K) o c) (h : wf_bg c G o x b) (h' : wf_bg c G o (x + 1) b') : b ≤ b' := by
  rcases Nat.lt_or_ge b' b with z | z
  · have hb := h.1
    have h1 := (h.2 b' (by omega)).mpr z
    have h2 := (h'.2 b' (by omega)).mp (by omega)
    omega
  · exact z
/-- before, by places -/
theorem wf_bf_o (ok : wf_ok c G K V) (hc : c ≤ 24) (so : wf_so (wf_w G K) o c) {i j : Nat} (hi : i < c) (hj : j < c) : wf_bf G K (o i) (o j) = true ↔ ((G (o i)).toInt = (G (o j)).toInt ∧ i < j) := by
  have hw := wf_wl ok hc (so.1 i hi) (so.1 j hj)
  unfold wf_bf; rw [decide_eq_true_eq]
  rcases Nat.lt_trichotomy i j with z | z | z
  · have := so.2.1 i j z hj; omega
  · subst z; omega
  · have := so.2.1 j i z hi; omega
theorem wf_P_o (ok : wf_ok c G K V) (hc : c ≤ 24) (so : wf_so (wf_w G K) o c) {x b b' j : Nat} (hj : j < c) (hx : (G (o j)).toInt = (x : Int)) (h : wf_bg c G o x b) (h' : wf_bg c G o (x + 1) b') : wf_P c G K (o j) = j - b ∧ b ≤ j ∧ j < b' := by
  have hin := (wf_bg_in hj h h').mp hx
  refine ⟨?_, hin⟩
  unfold wf_P
  rw [← so.2.2.2.1]
  refine wf_cn_iv hin.1 (by omega) (fun i hi => ?_)
  rw [wf_bf_o ok hc so hi hj, hx, wf_bg_in hi h h']
  omega
theorem wf_L_o (ok : wf_ok c G K V) (so : wf_so (wf_w G K) o c) {x b b' j p : Nat} (hj : j < c) (hx : (G (o j)).toInt = (x : Int)) (h : wf_bg c G o x b) (h' : wf_bg c G o (x + 1) b') (hp : p ≤ j) (hq : ∀ i, i < c → (wf_q G K (o i) < wf_q G K (o j) ↔ i < p)) : wf_cn (fun s => wf_ls G K s (o j)) c = p - b ∧ b ≤ p := by
  have hin := (wf_bg_in hj h h').mp hx
  have hbp : b ≤ p := by
    rcases Nat.lt_or_ge p b with z | z
    · have h1 := (h.2 p (by omega)).mpr z
      have h2 := (wf_ql ok (so.1 p (by omega)) (so.1 j hj)).mpr (Or.inl (by omega))
      have := (hq p (by omega)).mp h2
      omega
    · exact z
  refine ⟨?_, hbp⟩
  rw [← so.2.2.2.1]
  refine wf_cn_iv hbp (by omega) (fun i hi => ?_)
  unfold wf_ls; rw [decide_eq_true_eq]
  have h1 := wf_bg_in hi h h'
  have h2 := hq i hi
  have h3 := wf_ql ok (so.1 i hi) (so.1 j hj)
  omega
theorem wf_n_o (so : wf_so (wf_w G K) o c) {x b b' : Nat} (hbb : b ≤ b') (h : wf_bg c G o x b) (h' : wf_bg c G o (x + 1) b') : wf_cn (fun s => decide ((G s).toInt = (x : Int))) c = b' - b := by
  rw [← so.2.2.2.1]
  refine wf_cn_iv hbb h'.1 (fun i hi => ?_)
  rw [decide_eq_true_eq]
  exact wf_bg_in hi h h'
/-- the number of a key among the different ones of its group -/
theorem wf_D_eq (ok : wf_ok c G K V) {a b : Nat} (ha : a < c) (hb : b < c) (e : wf_q G K a = wf_q G K b) : wf_D c G K a = wf_D c G K b := by
  have ⟨e1, e2⟩ := (wf_qe ok ha hb).mp e
  unfold wf_D wf_ls
  rw [e1, e2]
theorem wf_D_le (ok : wf_ok c G K V) {a b : Nat} (ha : a < c) (hb : b < c) (eg : (G a).toInt = (G b).toInt) (ek : (K a).toInt ≤ (K b).toInt) : wf_D c G K a ≤ wf_D c G K b := by
  unfold wf_D wf_ls
  refine wf_cn_mono (fun i hi h => ?_)
  simp only [Bool.and_eq_true, decide_eq_true_eq] at h ⊢
  refine ⟨?_, h.2⟩
  have := h.1
  omega
theorem wf_D_0 (ok : wf_ok c G K V) (so : wf_so (wf_w G K) o c) {x b j : Nat} (hj : j < c) (hx : (G (o j)).toInt = (x : Int)) (h : wf_bg c G o x b) (hjb : j ≤ b) (hc : c ≤ 24) : wf_D c G K (o j) = 0 := by
  unfold wf_D wf_ls
  refine wf_cn_zero (fun s hs h0 => ?_)
  simp only [Bool.and_eq_true, decide_eq_true_eq] at h0
  obtain ⟨i, hi, rfl⟩ := so.2.2.1 s hs
  have h1 := (wf_ql ok (so.1 i hi) (so.1 j hj)).mpr (Or.inr h0.1)
  have h2 : i < j := by
    rcases Nat.lt_or_ge i j with z | z
    · exact z
    · have := wf_oq hc so z hi; omega
  have h3 := (h.2 i hi).mpr (by omega)
  omega
/-- the first of a row's peers -/
theorem wf_fs_ex (c : Nat) (G K : Nat → Int32) : ∀ m, m < c → ∃ s, s < c ∧ s ≤ m ∧ (G s).toInt = (G m).toInt ∧ (K s).toInt = (K m).toInt ∧ wf_fs G K s = true := by
  intro m
  induction m using Nat.strongRecOn with
  | _ m ih =>
    intro hm
    by_cases h : ∀ t, t < m → ¬ ((G t).toInt = (G m).toInt ∧ (K t).toInt = (K m).toInt)
    · exact ⟨m, hm, Nat.le_refl _, rfl, rfl, decide_eq_true h⟩
    · have ⟨t, ht⟩ := Classical.not_forall.mp h
      have ⟨h1, h2⟩ := Classical.not_imp.mp ht
      have h3 := Classical.not_not.mp h2
      obtain ⟨s, a1, a2, a3, a4, a5⟩ := ih t h1 (by omega)
      exact ⟨s, a1, by omega, a3.trans h3.1, a4.trans h3.2, a5⟩
theorem wf_D_s (ok : wf_ok c G K V) {a b : Nat} (ha : a < c) (hb : b < c) (eg : (G a).toInt = (G b).toInt) (ek : (K a).toInt < (K b).toInt) (hno : ∀ s, s < c → (G s).toInt = (G b).toInt → (K s).toInt < (K b).toInt → (K s).toInt ≤ (K a).toInt) : wf_D c G K b = wf_D c G K a + 1 := by
  obtain ⟨m, m1, m2, m3, m4, m5⟩ := wf_fs_ex c G K a ha
  have h1 : wf_cn (fun s => decide ((G s).toInt = (G a).toInt ∧ (K s).toInt = (K a).toInt) && wf_fs G K s) c = 1 := by
    refine wf_cn_one m1 (fun i hi => ?_)
    simp only [Bool.and_eq_true, decide_eq_true_eq]
    constructor
    · intro ⟨⟨e1, e2⟩, e3⟩
      unfold wf_fs at e3 m5
      rw [decide_eq_true_eq] at e3 m5
      rcases Nat.lt_trichotomy i m with z | z | z
      · exact absurd ⟨e1.trans m3.symm, e2.trans m4.symm⟩ (m5 i z)
      · exact z
      · exact absurd ⟨m3.trans e1.symm, m4.trans e2.symm⟩ (e3 m z)
    · intro e
      subst e
      exact ⟨⟨m3, m4⟩, m5⟩
  rw [← h1]
  unfold wf_D wf_ls
  refine wf_cn_split (fun i hi => ?_) (fun i hi => ?_)
  · simp only [Bool.and_eq_true, decide_eq_true_eq]
    have := hno i hi
    constructor
    · intro ⟨⟨e1, e2⟩, e3⟩
      have := this e1 e2
      rcases Int.lt_or_eq_of_le this with z | z
      · exact Or.inl ⟨⟨by omega, z⟩, e3⟩
      · exact Or.inr ⟨⟨by omega, z⟩, e3⟩
    · rintro (⟨⟨e1, e2⟩, e3⟩ | ⟨⟨e1, e2⟩, e3⟩)
      · exact ⟨⟨by omega, by omega⟩, e3⟩
      · exact ⟨⟨by omega, by omega⟩, e3⟩
  · simp only [Bool.and_eq_true, decide_eq_true_eq]
    intro h1 h2
    omega
end WFR
end
section
/-! the reference's helpers: each against its count -/
theorem wf_sub {x y : Int32} (h1 : -100000 ≤ x.toInt ∧ x.toInt ≤ 100000) (h2 : -100000 ≤ y.toInt ∧ y.toInt ≤ 100000) : (x - y).toInt = x.toInt - y.toInt := by
  rw [Int32.toInt_sub]
  exact Int.bmod_eq_of_le (by omega) (by omega)
theorem wf_add {x y : Int32} (h1 : -100000 ≤ x.toInt ∧ x.toInt ≤ 100000) (h2 : -100000 ≤ y.toInt ∧ y.toInt ≤ 100000) : (x + y).toInt = x.toInt + y.toInt := by
  rw [Int32.toInt_add]
  exact Int.bmod_eq_of_le (by omega) (by omega)
theorem wf_ni {n : Nat} (h : n ≤ 100000) : (nI n).toInt = (n : Int) := nI_toInt (by omega)
def wf_b (b : Bool) : Int32 := if b = true then 1 else 0
theorem wf_b_t {b : Bool} (h : b = true) : wf_b b = 1 := if_pos h
theorem wf_b_f {b : Bool} (h : ¬ b = true) : wf_b b = 0 := if_neg h
theorem wf_10 : ¬ (1 : Int32) = 0 := by decide
theorem wf_ls_t {G K : Nat → Int32} {s r : Nat} (hg : G s = G r) (hk : ¬ K r ≤ K s) : wf_ls G K s r = true := by
  unfold wf_ls
  rw [Int32.le_iff_toInt_le] at hk
  exact decide_eq_true ⟨congrArg _ hg, by omega⟩
theorem wf_ls_f1 {G K : Nat → Int32} {s r : Nat} (hg : ¬ G s = G r) : ¬ wf_ls G K s r = true := by
  unfold wf_ls
  rw [decide_eq_true_eq]
  exact fun z => hg (Int32.toInt_inj.mp z.1)
theorem wf_ls_f2 {G K : Nat → Int32} {s r : Nat} (hk : K r ≤ K s) : ¬ wf_ls G K s r = true := by
  unfold wf_ls
  rw [Int32.le_iff_toInt_le] at hk
  rw [decide_eq_true_eq]
  omega
section WFY
variable {c : Nat} {kd fr tt : Int32} {G K V : Nat → Int32}
theorem wf_ybad0 {post : Int32 → Prop} (hc : c ≤ 24) {j : Nat} (hj : j < c) (h : post 0) : wpY_bad post (nI c, kd, fr, tt, G, K, V) (nI j) :=
  br_f (nI_pos (by omega)) (br_f (nI_ge hj (by omega)) (br_t (nI_le (b := 23) (by omega) (by decide)) h))
theorem wf_ybad1 {post : Int32 → Prop} {p : Int32} (hp : p < 0 ∨ nI c ≤ p) (h : post 1) : wpY_bad post (nI c, kd, fr, tt, G, K, V) p := by
  by_cases h0 : p < 0
  · exact br_t h0 h
  · exact br_f h0 (br_t (hp.resolve_left h0) h)
theorem wf_ybefore {post : Int32 → Prop} (hc : c ≤ 24) {s r : Nat} (hs : s < c) (hr : r < c) (h : post (wf_b (wf_bf G K s r))) : wpY_before post (nI c, kd, fr, tt, G, K, V) (nI s) (nI r) := by
  have e1 := nI_clamp (n := s) (by omega)
  have e2 := nI_clamp (n := r) (by omega)
  have i1 : vp_in (nI s) 24 := vp_in_nI (by omega) (by omega)
  have i2 : vp_in (nI r) 24 := vp_in_nI (by omega) (by omega)
  simp only [wpY_before, e1, e2]
  refine ⟨i1, i2, ?_⟩
  by_cases hg : G s = G r
  · refine br_t hg ⟨i1, i2, ?_⟩
    by_cases hk : K s < K r
    · rw [wf_b_t (by unfold wf_bf; rw [Int32.lt_iff_toInt_lt] at hk; exact decide_eq_true ⟨congrArg _ hg, Or.inl hk⟩)] at h
      exact br_t hk h
    · refine br_f hk ⟨i1, i2, ?_⟩
      by_cases he : K s = K r
      · refine br_t he (pk_le r s (fun z => ?_) (fun z => ?_))
        · rw [wf_b_f (by unfold wf_bf; rw [Int32.lt_iff_toInt_lt] at hk; rw [decide_eq_true_eq]; omega)] at h
          exact h
        · rw [wf_b_t (by unfold wf_bf; exact decide_eq_true ⟨congrArg _ hg, Or.inr ⟨congrArg _ he, z⟩⟩)] at h
          exact h
      · rw [← Int32.toInt_inj] at he
        rw [wf_b_f (by unfold wf_bf; rw [Int32.lt_iff_toInt_lt] at hk; rw [decide_eq_true_eq]; omega)] at h
        exact br_f (fun z => he (congrArg _ z)) h
  · rw [wf_b_f (by unfold wf_bf; rw [decide_eq_true_eq]; exact fun z => hg (Int32.toInt_inj.mp z.1))] at h
    exact br_f hg h
theorem wf_yplace4 {post : Int32 → Prop} (hc : c ≤ 24) {r : Nat} (hr : r < c) (h : post (nI (wf_P c G K r))) : ∀ d s n, s + d = c → d < n → wY_placeOf_4 post (nI r) (nI c) kd fr tt G K V n (nI (wf_cn (fun s => wf_bf G K s r) s)) (nI s) := by
  intro d
  induction d with
  | zero =>
    intro s n hs hn
    obtain ⟨n, rfl⟩ : ∃ m, n = m + 1 := ⟨n - 1, by omega⟩
    obtain rfl : s = c := by omega
    exact br_t (Int32.le_refl _) h
  | succ d ih =>
    intro s n hs hn
    obtain ⟨n, rfl⟩ : ∃ m, n = m + 1 := ⟨n - 1, by omega⟩
    have J := ih (s + 1) n (by omega) (by omega)
    refine br_f (nI_ge (by omega) (by omega)) (br_f (nI_ge (b := 24) (by omega) (by decide)) ?_)
    refine wf_ybefore hc (by omega) hr ?_
    by_cases hb : wf_bf G K s r = true
    · rw [wf_b_t hb]
      rw [wf_cn_t (n := s) hb] at J
      exact br_f wf_10 (nm_r (nI_1 _) (nm_r (nI_1 s) J))
    · rw [wf_b_f hb]
      rw [wf_cn_f (n := s) hb] at J
      exact br_t rfl (nm_r (nI_1 s) J)
theorem wf_yplace {post : Int32 → Prop} (hc : c ≤ 24) {r : Nat} (hr : r < c) (h : post (nI (wf_P c G K r))) : wpY_placeOf post (nI c, kd, fr, tt, G, K, V) (nI r) :=
  ⟨c + 1, wf_yplace4 hc hr h c 0 (c + 1) (by omega) (by omega)⟩
theorem wf_ylesser4 {post : Int32 → Prop} (hc : c ≤ 24) {r : Nat} (hr : r < c) (h : post (nI (wf_cn (fun s => wf_ls G K s r) c))) : ∀ d s n, s + d = c → d < n → wY_lesser_4 post (nI r) (nI c) kd fr tt G K V n (nI (wf_cn (fun s => wf_ls G K s r) s)) (nI s) := by
  intro d
  induction d with
  | zero =>
    intro s n hs hn
    obtain ⟨n, rfl⟩ : ∃ m, n = m + 1 := ⟨n - 1, by omega⟩
    obtain rfl : s = c := by omega
    exact br_t (Int32.le_refl _) h
  | succ d ih =>
    intro s n hs hn
    obtain ⟨n, rfl⟩ : ∃ m, n = m + 1 := ⟨n - 1, by omega⟩
    have J := ih (s + 1) n (by omega) (by omega)
    have e1 := nI_clamp (n := s) (by omega)
    have e2 := nI_clamp (n := r) (by omega)
    have i1 : vp_in (nI s) 24 := vp_in_nI (by omega) (by omega)
    have i2 : vp_in (nI r) 24 := vp_in_nI (by omega) (by omega)
    refine br_f (nI_ge (by omega) (by omega)) (br_f (nI_ge (b := 24) (by omega) (by decide)) ⟨i1, i2, ?_⟩)
    rw [e1, e2]
    by_cases hg : G s = G r
    · refine br_t hg ⟨i1, i2, ?_⟩
      by_cases hk : K r ≤ K s
      · rw [wf_cn_f (p := fun s => wf_ls G K s r) (n := s) (wf_ls_f2 hk)] at J
        exact br_t hk (nm_r (nI_1 s) J)
      · rw [wf_cn_t (p := fun s => wf_ls G K s r) (n := s) (wf_ls_t hg hk)] at J
        exact br_f hk (nm_r (nI_1 _) (nm_r (nI_1 s) J))
    · rw [wf_cn_f (p := fun s => wf_ls G K s r) (n := s) (wf_ls_f1 hg)] at J
      exact br_f hg (nm_r (nI_1 s) J)
theorem wf_ylesser {post : Int32 → Prop} (hc : c ≤ 24) {r : Nat} (hr : r < c) (h : post (nI (wf_cn (fun s => wf_ls G K s r) c))) : wpY_lesser post (nI c, kd, fr, tt, G, K, V) (nI r) :=
  ⟨c + 1, wf_ylesser4 hc hr h c 0 (c + 1) (by omega) (by omega)⟩
theorem wf_ystep58 {post : Int32 → Prop} {J : Int32 → Int32 → Prop} (hc : c ≤ 24) {s : Nat} (hs : s < c) {x1 x2 : Int32} {A : Prop} (hT : A → wf_fs G K s = true → J (x2 + 1) (nI (s + 1))) (hF : ¬ (A ∧ wf_fs G K s = true) → J x2 (nI (s + 1))) : ∀ d t n z, t + d = s → d < n → (z = 0 ∨ z = 1) → (z = 1 ↔ (A ∧ ∀ i, i < t → ¬ ((G i).toInt = (G s).toInt ∧ (K i).toInt = (K s).toInt))) → wY_step_58 post J x1 x2 (nI s) (nI c) kd fr tt G K V n z (nI t) := by
  intro d
  induction d with
  | zero =>
    intro t n z ht hn hz hi
    obtain ⟨n, rfl⟩ : ∃ m, n = m + 1 := ⟨n - 1, by omega⟩
    obtain rfl : t = s := by omega
    refine br_t (Int32.le_refl _) ?_
    rcases hz with rfl | rfl
    · refine br_t rfl (nm_r (nI_1 _) (hF (fun z => ?_)))
      exact wf_10 (hi.mpr ⟨z.1, of_decide_eq_true z.2⟩).symm
    · have h := hi.mp rfl
      exact br_f wf_10 (nm_e (nm_r (nI_1 _) (hT h.1 (decide_eq_true h.2))))
  | succ d ih =>
    intro t n z ht hn hz hi
    obtain ⟨n, rfl⟩ : ∃ m, n = m + 1 := ⟨n - 1, by omega⟩
    have e1 := nI_clamp (n := t) (by omega)
    have e2 := nI_clamp (n := s) (by omega)
    have i1 : vp_in (nI t) 24 := vp_in_nI (by omega) (by omega)
    have i2 : vp_in (nI s) 24 := vp_in_nI (by omega) (by omega)
    refine br_f (nI_ge (by omega) (by omega)) (br_f (nI_ge (b := 24) (by omega) (by decide)) ⟨i1, i2, ?_⟩)
    rw [e1, e2]
    have keep : ¬ ((G t).toInt = (G s).toInt ∧ (K t).toInt = (K s).toInt) → (z = 1 ↔ (A ∧ ∀ i, i < t + 1 → ¬ ((G i).toInt = (G s).toInt ∧ (K i).toInt = (K s).toInt))) := fun hn => hi.trans ⟨fun h => ⟨h.1, fun i hi => (Nat.lt_succ_iff_lt_or_eq.mp hi).elim (h.2 i) (fun e => by rw [e]; exact hn)⟩, fun h => ⟨h.1, fun i hi => h.2 i (by omega)⟩⟩
    by_cases hg : G t = G s
    · refine br_t hg ⟨i1, i2, ?_⟩
      by_cases hk : K t = K s
      · refine br_t hk (nm_r (nI_1 t) (ih (t + 1) n 0 (by omega) (by omega) (Or.inl rfl) ?_))
        exact ⟨fun z => absurd z.symm wf_10, fun h => absurd ⟨congrArg _ hg, congrArg _ hk⟩ (h.2 t (by omega))⟩
      · exact br_f hk (nm_r (nI_1 t) (ih (t + 1) n z (by omega) (by omega) hz (keep (fun h => hk (Int32.toInt_inj.mp h.2)))))
    · exact br_f hg (nm_r (nI_1 t) (ih (t + 1) n z (by omega) (by omega) hz (keep (fun h => hg (Int32.toInt_inj.mp h.1)))))
theorem wf_ystep4 {post : Int32 → Prop} (hc : c ≤ 24) {r : Nat} (hr : r < c) (h : post (nI (wf_D c G K r))) : ∀ d s n, s + d = c → d < n → wY_step_4 post (nI r) (nI c) kd fr tt G K V n (nI (wf_cn (fun s => wf_ls G K s r && wf_fs G K s) s)) (nI s) := by
  intro d
  induction d with
  | zero =>
    intro s n hs hn
    obtain ⟨n, rfl⟩ : ∃ m, n = m + 1 := ⟨n - 1, by omega⟩
    obtain rfl : s = c := by omega
    exact br_t (Int32.le_refl _) h
  | succ d ih =>
    intro s n hs hn
    obtain ⟨n, rfl⟩ : ∃ m, n = m + 1 := ⟨n - 1, by omega⟩
    have J := ih (s + 1) n (by omega) (by omega)
    have e1 := nI_clamp (n := s) (by omega)
    have e2 := nI_clamp (n := r) (by omega)
    have i1 : vp_in (nI s) 24 := vp_in_nI (by omega) (by omega)
    have i2 : vp_in (nI r) 24 := vp_in_nI (by omega) (by omega)
    refine br_f (nI_ge (by omega) (by omega)) (br_f (nI_ge (b := 24) (by omega) (by decide)) ⟨i1, i2, ?_⟩)
    rw [e1, e2]
    have hT : wf_ls G K s r = true → wf_fs G K s = true → wY_step_4 post (nI r) (nI c) kd fr tt G K V n (nI (wf_cn (fun s => wf_ls G K s r && wf_fs G K s) s) + 1) (nI (s + 1)) := by
      intro h1 h2
      rw [wf_cn_t (by rw [h1, h2]; rfl)] at J
      rw [nI_1]; exact J
    have hF : ¬ (wf_ls G K s r = true ∧ wf_fs G K s = true) → wY_step_4 post (nI r) (nI c) kd fr tt G K V n (nI (wf_cn (fun s => wf_ls G K s r && wf_fs G K s) s)) (nI (s + 1)) := by
      intro h1
      rw [wf_cn_f (by rw [Bool.and_eq_true]; exact h1)] at J
      exact J
    have go : ∀ z, (z = 0 ∨ z = 1) → (z = 1 ↔ wf_ls G K s r = true) → ∃ n58, wY_step_58 post (wY_step_4 post (nI r) (nI c) kd fr tt G K V n) (nI r) (nI (wf_cn (fun s => wf_ls G K s r && wf_fs G K s) s)) (nI s) (nI c) kd fr tt G K V n58 z 0 := by
      intro z hz hi
      exact ⟨s + 1, wf_ystep58 hc (by omega) hT hF s 0 (s + 1) z (by omega) (by omega) hz (hi.trans ⟨fun h => ⟨h, fun i hi => by omega⟩, fun h => h.1⟩)⟩
    by_cases hg : G s = G r
    · refine br_t hg ⟨i1, i2, ?_⟩
      by_cases hk : K r ≤ K s
      · exact br_t hk (go 0 (Or.inl rfl) ⟨fun z => absurd z.symm wf_10, fun z => absurd z (wf_ls_f2 hk)⟩)
      · exact br_f hk (go 1 (Or.inr rfl) ⟨fun _ => wf_ls_t hg hk, fun _ => rfl⟩)
    · exact br_f hg (go 0 (Or.inl rfl) ⟨fun z => absurd z.symm wf_10, fun z => absurd z (wf_ls_f1 hg)⟩)
theorem wf_ystep {post : Int32 → Prop} (hc : c ≤ 24) {r : Nat} (hr : r < c) (h : post (nI (wf_D c G K r))) : wpY_step post (nI c, kd, fr, tt, G, K, V) (nI r) :=
  ⟨c + 1, wf_ystep4 hc hr h c 0 (c + 1) (by omega) (by omega)⟩
theorem wf_yfr70 {post : Int32 → Prop} {x : Int32} {r s : Nat} (hg : (G s).toInt = (G r).toInt) (hx : x.toInt = wf_h c kd G K s - wf_h c kd G K r) (h : post (wf_b (wf_fm c kd fr tt G K r s))) : wY_framed_70 post x (nI c) kd fr tt G K V := by
  unfold wf_fm at h
  by_cases h1 : x < fr
  · rw [wf_b_f (by rw [Int32.lt_iff_toInt_lt] at h1; rw [decide_eq_true_eq]; omega)] at h
    exact br_t h1 h
  · by_cases h2 : tt < x
    · rw [wf_b_f (by rw [Int32.lt_iff_toInt_lt] at h2; rw [decide_eq_true_eq]; omega)] at h
      exact br_f h1 (br_t h2 h)
    · rw [wf_b_t (by rw [Int32.lt_iff_toInt_lt] at h1 h2; rw [decide_eq_true_eq]; omega)] at h
      exact br_f h1 (br_f h2 h)
theorem wf_yframed {post : Int32 → Prop} (hc : c ≤ 24) (ok : wf_ok c G K V) {r s : Nat} (hr : r < c) (hs : s < c) (h : post (wf_b (wf_fm c kd fr tt G K r s))) : wpY_framed post (nI c, kd, fr, tt, G, K, V) (nI r) (nI s) := by
  have e1 := nI_clamp (n := s) (by omega)
  have e2 := nI_clamp (n := r) (by omega)
  have i1 : vp_in (nI s) 24 := vp_in_nI (by omega) (by omega)
  have i2 : vp_in (nI r) 24 := vp_in_nI (by omega) (by omega)
  have o1 := ok s hs
  have o2 := ok r hr
  have p1 := wf_cn_le (fun i => wf_bf G K i s) c
  have p2 := wf_cn_le (fun i => wf_bf G K i r) c
  have d1 := wf_cn_le (fun i => wf_ls G K i s && wf_fs G K i) c
  have d2 := wf_cn_le (fun i => wf_ls G K i r && wf_fs G K i) c
  have E : ∀ a b : Nat, a ≤ c → b ≤ c → (nI a - nI b).toInt = (a : Int) - (b : Int) := fun a b ha hb => pk_sub_toInt (by omega) (by omega)
  unfold wpY_framed
  dsimp only
  rw [e1, e2]
  refine ⟨i1, i2, ?_⟩
  by_cases hg : G s = G r
  · have hg' : (G s).toInt = (G r).toInt := congrArg _ hg
    refine br_t hg ⟨i1, i2, nm_e ?_⟩
    by_cases k0 : kd = 0
    · refine br_t k0 (wf_yplace hc hs (wf_yplace hc hr (nm_e ?_)))
      have k2 : ¬ kd = 2 := by rw [k0]; decide
      refine br_f k2 (wf_yfr70 hg' ?_ h)
      unfold wf_h
      rw [if_pos k0, if_pos k0]; exact E _ _ p1 p2
    · refine br_f k0 ?_
      by_cases k2 : kd = 2
      · refine br_t k2 (wf_ystep hc hs (wf_ystep hc hr (nm_e (wf_yfr70 hg' ?_ h))))
        unfold wf_h
        rw [if_neg k0, if_neg k0, if_pos k2, if_pos k2]; exact E _ _ d1 d2
      · refine br_f k2 (wf_yfr70 hg' ?_ h)
        unfold wf_h
        rw [if_neg k0, if_neg k0, if_neg k2, if_neg k2]
        exact wf_sub (by omega) (by omega)
  · rw [wf_b_f (by unfold wf_fm; rw [decide_eq_true_eq]; exact fun z => hg (Int32.toInt_inj.mp z.1))] at h
    exact br_f hg h
theorem wf_yat2 {post : Int32 → Prop} (hc : c ≤ 24) {g p : Int32} (hT : ∀ r, r < c → G r = g → nI (wf_P c G K r) = p → post (nI r)) (hF : (∀ r, r < c → G r = g → ¬ nI (wf_P c G K r) = p) → post (-2)) : ∀ d s n, s + d = c → d < n → (∀ r, r < s → G r = g → ¬ nI (wf_P c G K r) = p) → wY_at_2 post g p (nI c) kd fr tt G K V n (nI s) := by
  intro d
  induction d with
  | zero =>
    intro s n hs hn hi
    obtain ⟨n, rfl⟩ : ∃ m, n = m + 1 := ⟨n - 1, by omega⟩
    obtain rfl : s = c := by omega
    exact br_t (Int32.le_refl _) (hF hi)
  | succ d ih =>
    intro s n hs hn hi
    obtain ⟨n, rfl⟩ : ∃ m, n = m + 1 := ⟨n - 1, by omega⟩
    have J := ih (s + 1) n (by omega) (by omega)
    have e1 := nI_clamp (n := s) (by omega)
    have i1 : vp_in (nI s) 24 := vp_in_nI (by omega) (by omega)
    refine br_f (nI_ge (by omega) (by omega)) (br_f (nI_ge (b := 24) (by omega) (by decide)) ⟨i1, ?_⟩)
    rw [e1]
    by_cases hg : G s = g
    · refine br_t hg (wf_yplace hc (by omega) ?_)
      by_cases hp : nI (wf_P c G K s) = p
      · exact br_t hp (hT s (by omega) hg hp)
      · refine br_f hp (nm_r (nI_1 s) (J (fun r hr => ?_)))
        rcases Nat.lt_succ_iff_lt_or_eq.mp hr with z | z
        · exact hi r z
        · rw [z]; exact fun _ => hp
    · refine br_f hg (nm_r (nI_1 s) (J (fun r hr => ?_)))
      rcases Nat.lt_succ_iff_lt_or_eq.mp hr with z | z
      · exact hi r z
      · rw [z]; exact fun y => absurd y hg
theorem wf_yat {post : Int32 → Prop} (hc : c ≤ 24) {g p : Int32} (hT : ∀ r, r < c → G r = g → nI (wf_P c G K r) = p → post (nI r)) (hF : (∀ r, r < c → G r = g → ¬ nI (wf_P c G K r) = p) → post (-2)) : wpY_at post (nI c, kd, fr, tt, G, K, V) g p :=
  ⟨c + 1, wf_yat2 hc hT hF c 0 (c + 1) (by omega) (by omega) (fun r hr => by omega)⟩
end WFY
end
section
/-! the reference's loops over all rows -/
theorem wf_sm_t {f : Nat → Int32} {n : Nat} {x : Int32} (h : f n = x) : wf_sm f (n + 1) = wf_sm f n + x := by
  rw [wf_sm_s, h]
theorem wf_sm_f {f : Nat → Int32} {n : Nat} (h : f n = 0) : wf_sm f (n + 1) = wf_sm f n := by
  rw [wf_sm_s, h, Int32.add_zero]
theorem wf_bf_tot {G K : Nat → Int32} {s f : Nat} (hg : (G s).toInt = (G f).toInt) (hne : s ≠ f) (h : ¬ wf_bf G K s f = true) : wf_bf G K f s = true := by
  unfold wf_bf at h ⊢
  rw [decide_eq_true_eq] at h ⊢
  omega
theorem wf_bf_tr {G K : Nat → Int32} {s f i : Nat} (h : wf_bf G K s f = true) (h2 : wf_bf G K f i = true) : wf_bf G K s i = true := by
  unfold wf_bf at h h2 ⊢
  rw [decide_eq_true_eq] at h h2 ⊢
  omega
theorem wf_fm_g {c : Nat} {kd fr tt : Int32} {G K : Nat → Int32} {r s : Nat} (h : wf_fm c kd fr tt G K r s = true) : (G s).toInt = (G r).toInt := by
  unfold wf_fm at h
  rw [decide_eq_true_eq] at h
  exact h.1
section WFQ
variable {c : Nat} {kd fr tt : Int32} {G K V : Nat → Int32}
theorem wf_ysize14 {post : Int32 → Prop} (hc : c ≤ 24) (ok : wf_ok c G K V) {r : Nat} (hr : r < c) (h : post (nI (wf_cn (fun s => wf_fm c kd fr tt G K r s) c))) : ∀ d s n, s + d = c → d < n → wY_size_14 post (nI r) (nI c) kd fr tt G K V n (nI (wf_cn (fun s => wf_fm c kd fr tt G K r s) s)) (nI s) := by
  intro d
  induction d with
  | zero =>
    intro s n hs hn
    obtain ⟨n, rfl⟩ : ∃ m, n = m + 1 := ⟨n - 1, by omega⟩
    obtain rfl : s = c := by omega
    exact br_t (Int32.le_refl _) h
  | succ d ih =>
    intro s n hs hn
    obtain ⟨n, rfl⟩ : ∃ m, n = m + 1 := ⟨n - 1, by omega⟩
    have J := ih (s + 1) n (by omega) (by omega)
    refine br_f (nI_ge (by omega) (by omega)) (br_f (nI_ge (b := 24) (by omega) (by decide)) ?_)
    refine wf_yframed hc ok hr (by omega) ?_
    by_cases hb : wf_fm c kd fr tt G K r s = true
    · rw [wf_b_t hb]
      rw [wf_cn_t (n := s) hb] at J
      exact br_f wf_10 (nm_r (nI_1 _) (nm_r (nI_1 s) J))
    · rw [wf_b_f hb]
      rw [wf_cn_f (n := s) hb] at J
      exact br_t rfl (nm_r (nI_1 s) J)
theorem wf_yframedBy14 {post : Int32 → Prop} (hc : c ≤ 24) (ok : wf_ok c G K V) {r : Nat} (hr : r < c) (h : post (nI (wf_cn (fun s => wf_fm c kd fr tt G K s r) c))) : ∀ d s n, s + d = c → d < n → wY_framedBy_14 post (nI r) (nI c) kd fr tt G K V n (nI (wf_cn (fun s => wf_fm c kd fr tt G K s r) s)) (nI s) := by
  intro d
  induction d with
  | zero =>
    intro s n hs hn
    obtain ⟨n, rfl⟩ : ∃ m, n = m + 1 := ⟨n - 1, by omega⟩
    obtain rfl : s = c := by omega
    exact br_t (Int32.le_refl _) h
  | succ d ih =>
    intro s n hs hn
    obtain ⟨n, rfl⟩ : ∃ m, n = m + 1 := ⟨n - 1, by omega⟩
    have J := ih (s + 1) n (by omega) (by omega)
    refine br_f (nI_ge (by omega) (by omega)) (br_f (nI_ge (b := 24) (by omega) (by decide)) ?_)
    refine wf_yframed hc ok (by omega) hr ?_
    by_cases hb : wf_fm c kd fr tt G K s r = true
    · rw [wf_b_t hb]
      rw [wf_cn_t (n := s) hb] at J
      exact br_f wf_10 (nm_r (nI_1 _) (nm_r (nI_1 s) J))
    · rw [wf_b_f hb]
      rw [wf_cn_f (n := s) hb] at J
      exact br_t rfl (nm_r (nI_1 s) J)
theorem wf_ysum14 {post : Int32 → Prop} (hc : c ≤ 24) (ok : wf_ok c G K V) {r : Nat} (hr : r < c) (h : post (wf_sm (fun s => if wf_fm c kd fr tt G K r s = true then V s else 0) c)) : ∀ d s n, s + d = c → d < n → wY_sum_14 post (nI r) (nI c) kd fr tt G K V n (wf_sm (fun s => if wf_fm c kd fr tt G K r s = true then V s else 0) s) (nI s) := by
  intro d
  induction d with
  | zero =>
    intro s n hs hn
    obtain ⟨n, rfl⟩ : ∃ m, n = m + 1 := ⟨n - 1, by omega⟩
    obtain rfl : s = c := by omega
    exact br_t (Int32.le_refl _) h
  | succ d ih =>
    intro s n hs hn
    obtain ⟨n, rfl⟩ : ∃ m, n = m + 1 := ⟨n - 1, by omega⟩
    have J := ih (s + 1) n (by omega) (by omega)
    refine br_f (nI_ge (by omega) (by omega)) (br_f (nI_ge (b := 24) (by omega) (by decide)) ?_)
    refine wf_yframed hc ok hr (by omega) ?_
    by_cases hb : wf_fm c kd fr tt G K r s = true
    · rw [wf_b_t hb]
      rw [wf_sm_t (f := fun s => if wf_fm c kd fr tt G K r s = true then V s else 0) (n := s) (x := V s) (if_pos hb)] at J
      refine br_f wf_10 ⟨vp_in_nI (by omega) (by omega), ?_⟩
      rw [nI_clamp (n := s) (by omega)]
      exact nm_e (nm_r (nI_1 s) J)
    · rw [wf_b_f hb]
      rw [wf_sm_f (f := fun s => if wf_fm c kd fr tt G K r s = true then V s else 0) (n := s) (if_neg hb)] at J
      exact br_t rfl (nm_r (nI_1 s) J)
theorem wf_yleast16 {post : Int32 → Prop} (hc : c ≤ 24) (ok : wf_ok c G K V) {r : Nat} (hr : r < c) (h : ∀ m : Int32, ((∀ s, s < c → wf_fm c kd fr tt G K r s = true → m.toInt ≤ (V s).toInt) ∧ (m = 10000 ∨ ∃ s, s < c ∧ wf_fm c kd fr tt G K r s = true ∧ m = V s)) → post m) : ∀ d s n m, s + d = c → d < n → ((∀ i, i < s → wf_fm c kd fr tt G K r i = true → m.toInt ≤ (V i).toInt) ∧ (m = 10000 ∨ ∃ i, i < s ∧ wf_fm c kd fr tt G K r i = true ∧ m = V i)) → wY_least_16 post (nI r) (nI c) kd fr tt G K V n m (nI s) := by
  intro d
  induction d with
  | zero =>
    intro s n m hs hn hi
    obtain ⟨n, rfl⟩ : ∃ m, n = m + 1 := ⟨n - 1, by omega⟩
    obtain rfl : s = c := by omega
    exact br_t (Int32.le_refl _) (h m hi)
  | succ d ih =>
    intro s n m hs hn hi
    obtain ⟨n, rfl⟩ : ∃ m, n = m + 1 := ⟨n - 1, by omega⟩
    have e1 := nI_clamp (n := s) (by omega)
    have i1 : vp_in (nI s) 24 := vp_in_nI (by omega) (by omega)
    refine br_f (nI_ge (by omega) (by omega)) (br_f (nI_ge (b := 24) (by omega) (by decide)) ?_)
    refine wf_yframed hc ok hr (by omega) ?_
    by_cases hb : wf_fm c kd fr tt G K r s = true
    · rw [wf_b_t hb]
      refine br_f wf_10 ⟨i1, ?_⟩
      rw [e1]
      by_cases hk : m ≤ V s
      · refine br_t hk (nm_r (nI_1 s) (ih (s + 1) n m (by omega) (by omega) ⟨fun i hi' hf => ?_, ?_⟩))
        · rcases Nat.lt_succ_iff_lt_or_eq.mp hi' with z | z
          · exact hi.1 i z hf
          · rw [z]; exact Int32.le_iff_toInt_le.mp hk
        · rcases hi.2 with z | ⟨i, a, b⟩
          · exact Or.inl z
          · exact Or.inr ⟨i, by omega, b⟩
      · refine br_f hk ⟨i1, nm_e (nm_r (nI_1 s) (ih (s + 1) n (V s) (by omega) (by omega) ⟨fun i hi' hf => ?_, Or.inr ⟨s, by omega, hb, rfl⟩⟩))⟩
        rw [Int32.le_iff_toInt_le] at hk
        rcases Nat.lt_succ_iff_lt_or_eq.mp hi' with z | z
        · have := hi.1 i z hf; omega
        · rw [z]; exact Int.le_refl _
    · rw [wf_b_f hb]
      refine br_t rfl (nm_r (nI_1 s) (ih (s + 1) n m (by omega) (by omega) ⟨fun i hi' hf => ?_, ?_⟩))
      · rcases Nat.lt_succ_iff_lt_or_eq.mp hi' with z | z
        · exact hi.1 i z hf
        · rw [z] at hf; exact absurd hf hb
      · rcases hi.2 with z | ⟨i, a, b⟩
        · exact Or.inl z
        · exact Or.inr ⟨i, by omega, b⟩
theorem wf_ymost16 {post : Int32 → Prop} (hc : c ≤ 24) (ok : wf_ok c G K V) {r : Nat} (hr : r < c) (h : ∀ m : Int32, ((∀ s, s < c → wf_fm c kd fr tt G K r s = true → (V s).toInt ≤ m.toInt) ∧ (m = (-10000) ∨ ∃ s, s < c ∧ wf_fm c kd fr tt G K r s = true ∧ m = V s)) → post m) : ∀ d s n m, s + d = c → d < n → ((∀ i, i < s → wf_fm c kd fr tt G K r i = true → (V i).toInt ≤ m.toInt) ∧ (m = (-10000) ∨ ∃ i, i < s ∧ wf_fm c kd fr tt G K r i = true ∧ m = V i)) → wY_most_16 post (nI r) (nI c) kd fr tt G K V n m (nI s) := by
  intro d
  induction d with
  | zero =>
    intro s n m hs hn hi
    obtain ⟨n, rfl⟩ : ∃ m, n = m + 1 := ⟨n - 1, by omega⟩
    obtain rfl : s = c := by omega
    exact br_t (Int32.le_refl _) (h m hi)
  | succ d ih =>
    intro s n m hs hn hi
    obtain ⟨n, rfl⟩ : ∃ m, n = m + 1 := ⟨n - 1, by omega⟩
    have e1 := nI_clamp (n := s) (by omega)
    have i1 : vp_in (nI s) 24 := vp_in_nI (by omega) (by omega)
    refine br_f (nI_ge (by omega) (by omega)) (br_f (nI_ge (b := 24) (by omega) (by decide)) ?_)
    refine wf_yframed hc ok hr (by omega) ?_
    by_cases hb : wf_fm c kd fr tt G K r s = true
    · rw [wf_b_t hb]
      refine br_f wf_10 ⟨i1, ?_⟩
      rw [e1]
      by_cases hk : V s ≤ m
      · refine br_t hk (nm_r (nI_1 s) (ih (s + 1) n m (by omega) (by omega) ⟨fun i hi' hf => ?_, ?_⟩))
        · rcases Nat.lt_succ_iff_lt_or_eq.mp hi' with z | z
          · exact hi.1 i z hf
          · rw [z]; exact Int32.le_iff_toInt_le.mp hk
        · rcases hi.2 with z | ⟨i, a, b⟩
          · exact Or.inl z
          · exact Or.inr ⟨i, by omega, b⟩
      · refine br_f hk ⟨i1, nm_e (nm_r (nI_1 s) (ih (s + 1) n (V s) (by omega) (by omega) ⟨fun i hi' hf => ?_, Or.inr ⟨s, by omega, hb, rfl⟩⟩))⟩
        rw [Int32.le_iff_toInt_le] at hk
        rcases Nat.lt_succ_iff_lt_or_eq.mp hi' with z | z
        · have := hi.1 i z hf; omega
        · rw [z]; exact Int.le_refl _
    · rw [wf_b_f hb]
      refine br_t rfl (nm_r (nI_1 s) (ih (s + 1) n m (by omega) (by omega) ⟨fun i hi' hf => ?_, ?_⟩))
      · rcases Nat.lt_succ_iff_lt_or_eq.mp hi' with z | z
        · exact hi.1 i z hf
        · rw [z] at hf; exact absurd hf hb
      · rcases hi.2 with z | ⟨i, a, b⟩
        · exact Or.inl z
        · exact Or.inr ⟨i, by omega, b⟩
theorem wf_yfirst15 {post : Int32 → Prop} (hc : c ≤ 24) (ok : wf_ok c G K V) {r : Nat} (hr : r < c) (hF : (∀ i, i < c → ¬ wf_fm c kd fr tt G K r i = true) → post (-2)) (hT : ∀ f, f < c → wf_fm c kd fr tt G K r f = true → (∀ i, i < c → wf_fm c kd fr tt G K r i = true → i ≠ f → wf_bf G K f i = true) → post (nI f)) : ∀ d s n m, s + d = c → d < n → ((m = -2 ∧ ∀ i, i < s → ¬ wf_fm c kd fr tt G K r i = true) ∨ (∃ f, f < s ∧ m = nI f ∧ wf_fm c kd fr tt G K r f = true ∧ ∀ i, i < s → wf_fm c kd fr tt G K r i = true → i ≠ f → wf_bf G K f i = true)) → wY_first_15 post (nI r) (nI c) kd fr tt G K V n m (nI s) := by
  intro d
  induction d with
  | zero =>
    intro s n m hs hn hi
    obtain ⟨n, rfl⟩ : ∃ m, n = m + 1 := ⟨n - 1, by omega⟩
    obtain rfl : s = c := by omega
    refine br_t (Int32.le_refl _) ?_
    rcases hi with ⟨rfl, h1⟩ | ⟨f, h1, rfl, h2, h3⟩
    · exact hF h1
    · exact hT f h1 h2 h3
  | succ d ih =>
    intro s n m hs hn hi
    obtain ⟨n, rfl⟩ : ∃ m, n = m + 1 := ⟨n - 1, by omega⟩
    refine br_f (nI_ge (by omega) (by omega)) (br_f (nI_ge (b := 24) (by omega) (by decide)) ?_)
    refine wf_yframed hc ok hr (by omega) ?_
    by_cases hb : wf_fm c kd fr tt G K r s = true
    · rw [wf_b_t hb]
      refine br_f wf_10 ?_
      rcases hi with ⟨rfl, h1⟩ | ⟨f, h1, rfl, h2, h3⟩
      · refine br_t (by decide) (nm_r (nI_1 s) (ih (s + 1) n (nI s) (by omega) (by omega) (Or.inr ⟨s, by omega, rfl, hb, fun i hi' hf hne => ?_⟩)))
        exact absurd hf (h1 i (by omega))
      · refine br_f (nI_pos (by omega)) (wf_ybefore hc (by omega) (by omega) ?_)
        by_cases hx : wf_bf G K s f = true
        · rw [wf_b_t hx]
          refine br_f wf_10 (nm_r (nI_1 s) (ih (s + 1) n (nI s) (by omega) (by omega) (Or.inr ⟨s, by omega, rfl, hb, fun i hi' hf hne => ?_⟩)))
          by_cases e : i = f
          · rw [e]; exact hx
          · exact wf_bf_tr hx (h3 i (by omega) hf e)
        · rw [wf_b_f hx]
          refine br_t rfl (nm_r (nI_1 s) (ih (s + 1) n (nI f) (by omega) (by omega) (Or.inr ⟨f, by omega, rfl, h2, fun i hi' hf hne => ?_⟩)))
          rcases Nat.lt_succ_iff_lt_or_eq.mp hi' with z | z
          · exact h3 i z hf hne
          · rw [z]
            exact wf_bf_tot ((wf_fm_g hb).trans (wf_fm_g h2).symm) (by omega) hx
    · rw [wf_b_f hb]
      refine br_t rfl (nm_r (nI_1 s) (ih (s + 1) n m (by omega) (by omega) ?_))
      rcases hi with ⟨e, h1⟩ | ⟨f, h1, e, h2, h3⟩
      · refine Or.inl ⟨e, fun i hi' hf => ?_⟩
        rcases Nat.lt_succ_iff_lt_or_eq.mp hi' with z | z
        · exact h1 i z hf
        · rw [z] at hf; exact hb hf
      · refine Or.inr ⟨f, by omega, e, h2, fun i hi' hf hne => ?_⟩
        rcases Nat.lt_succ_iff_lt_or_eq.mp hi' with z | z
        · exact h3 i z hf hne
        · rw [z] at hf; exact absurd hf hb
theorem wf_ytotal16 {post : Int32 → Prop} (hc : c ≤ 24) {x : Int32} (h : post (wf_sm (fun s => if (x >>> (G s &&& 31)) &&& 1 = 1 then V s else 0) c)) : ∀ d s n, s + d = c → d < n → wY_total_16 post x (nI c) kd fr tt G K V n (wf_sm (fun s => if (x >>> (G s &&& 31)) &&& 1 = 1 then V s else 0) s) (nI s) := by
  intro d
  induction d with
  | zero =>
    intro s n hs hn
    obtain ⟨n, rfl⟩ : ∃ m, n = m + 1 := ⟨n - 1, by omega⟩
    obtain rfl : s = c := by omega
    exact br_t (Int32.le_refl _) h
  | succ d ih =>
    intro s n hs hn
    obtain ⟨n, rfl⟩ : ∃ m, n = m + 1 := ⟨n - 1, by omega⟩
    have J := ih (s + 1) n (by omega) (by omega)
    have e1 := nI_clamp (n := s) (by omega)
    have i1 : vp_in (nI s) 24 := vp_in_nI (by omega) (by omega)
    refine br_f (nI_ge (by omega) (by omega)) (br_f (nI_ge (b := 24) (by omega) (by decide)) ⟨i1, ?_⟩)
    rw [e1]
    by_cases hb : (x >>> (G s &&& 31)) &&& 1 = 1
    · rw [wf_sm_t (f := fun s => if (x >>> (G s &&& 31)) &&& 1 = 1 then V s else 0) (n := s) (x := V s) (if_pos hb)] at J
      exact br_t hb ⟨i1, nm_e (nm_r (nI_1 s) J)⟩
    · rw [wf_sm_f (f := fun s => if (x >>> (G s &&& 31)) &&& 1 = 1 then V s else 0) (n := s) (if_neg hb)] at J
      exact br_f hb (nm_r (nI_1 s) J)
def wf_A (q m t : Nat) : Nat := t * q + min t m
theorem wf_A_s (q m t : Nat) : wf_A q m (t + 1) = wf_A q m t + (q + (if m < t + 1 then 0 else 1)) := by
  unfold wf_A
  rw [Nat.succ_mul]
  generalize t * q = y
  split <;> omega
theorem wf_ytile83 {post : Int32 → Prop} {N Z p T : Nat} (hN : 1 ≤ N) (hN2 : N ≤ 10) (hZ : Z ≤ 24) (hp : p ≤ 24) (hT : T ≤ N) (hlo : ∀ t, t < T → wf_A (Z / N) (Z % N) t ≤ p) (hhi : p < wf_A (Z / N) (Z % N) T) (h : post (nI T)) : ∀ d t n, t + 1 + d = T → d < n → wY_tile_83 post (nI N) (nI Z) (nI p) (nI c) kd fr tt G K V n (nI (wf_A (Z / N) (Z % N) t)) (nI (t + 1)) := by
  have hq : Z / N ≤ 24 := Nat.le_trans (Nat.div_le_self _ _) hZ
  have hm : Z % N < N := Nat.mod_lt _ (by omega)
  have eq : nI Z / nI N = nI (Z / N) := pk_div (by omega) (by omega) (by omega)
  have er : nI Z - nI Z / nI N * nI N = nI (Z % N) := pk_rem (by omega) (by omega) (by omega)
  intro d
  induction d with
  | zero =>
    intro t n ht hn
    obtain ⟨n, rfl⟩ : ∃ m, n = m + 1 := ⟨n - 1, by omega⟩
    have h1 := hlo t (by omega)
    have h2 := wf_A_s (Z / N) (Z % N) t
    refine br_f (nI_nlt (by omega) (by omega)) ⟨nI_ne0 (by omega) (by omega), nI_ne0 (by omega) (by omega), ?_⟩
    rw [er, eq]
    obtain rfl : t + 1 = T := by omega
    refine pk_lt (Z % N) (t + 1) (fun z => ?_) (fun z => ?_)
    · rw [if_pos z] at h2
      refine nm_r (e' := nI (wf_A (Z / N) (Z % N) (t + 1))) (by rw [← nI_0, nI_add, nI_add, h2]) (br_f (nI_ge (by omega) (by omega)) h)
    · rw [if_neg (by omega)] at h2
      refine nm_r (e' := nI (wf_A (Z / N) (Z % N) (t + 1))) (by rw [nI_1, nI_add, h2]) (br_f (nI_ge (by omega) (by omega)) h)
  | succ d ih =>
    intro t n ht hn
    obtain ⟨n, rfl⟩ : ∃ m, n = m + 1 := ⟨n - 1, by omega⟩
    have h1 := hlo (t + 1) (by omega)
    have h2 := wf_A_s (Z / N) (Z % N) t
    have J := ih (t + 1) n (by omega) (by omega)
    refine br_f (nI_nlt (by omega) (by omega)) ⟨nI_ne0 (by omega) (by omega), nI_ne0 (by omega) (by omega), ?_⟩
    rw [er, eq]
    refine pk_lt (Z % N) (t + 1) (fun z => ?_) (fun z => ?_)
    · rw [if_pos z] at h2
      refine nm_r (e' := nI (wf_A (Z / N) (Z % N) (t + 1))) (by rw [← nI_0, nI_add, nI_add, h2]) (br_t (nI_le (by omega) (by omega)) (nm_r (nI_1 _) J))
    · rw [if_neg (by omega)] at h2
      refine nm_r (e' := nI (wf_A (Z / N) (Z % N) (t + 1))) (by rw [nI_1, nI_add, h2]) (br_t (nI_le (by omega) (by omega)) (nm_r (nI_1 _) J))
theorem wf_ytile29 {post : Int32 → Prop} (hc : c ≤ 24) {r : Nat} (hr : r < c) {x2 : Int32} (h : wY_tile_70 post (nI r) x2 (nI (wf_cn (fun s => decide ((G s).toInt = (G r).toInt)) c)) (nI c) kd fr tt G K V) : ∀ d s n, s + d = c → d < n → wY_tile_29 post (nI r) x2 (nI c) kd fr tt G K V n (nI (wf_cn (fun s => decide ((G s).toInt = (G r).toInt)) s)) (nI s) := by
  intro d
  induction d with
  | zero =>
    intro s n hs hn
    obtain ⟨n, rfl⟩ : ∃ m, n = m + 1 := ⟨n - 1, by omega⟩
    obtain rfl : s = c := by omega
    exact br_t (Int32.le_refl _) h
  | succ d ih =>
    intro s n hs hn
    obtain ⟨n, rfl⟩ : ∃ m, n = m + 1 := ⟨n - 1, by omega⟩
    have J := ih (s + 1) n (by omega) (by omega)
    have e1 := nI_clamp (n := s) (by omega)
    have e2 := nI_clamp (n := r) (by omega)
    have i1 : vp_in (nI s) 24 := vp_in_nI (by omega) (by omega)
    have i2 : vp_in (nI r) 24 := vp_in_nI (by omega) (by omega)
    refine br_f (nI_ge (by omega) (by omega)) (br_f (nI_ge (b := 24) (by omega) (by decide)) ⟨i1, i2, ?_⟩)
    rw [e1, e2]
    by_cases hg : G s = G r
    · rw [wf_cn_t (p := fun s => decide ((G s).toInt = (G r).toInt)) (n := s) (decide_eq_true (congrArg _ hg))] at J
      exact br_t hg (nm_r (nI_1 _) (nm_r (nI_1 s) J))
    · rw [wf_cn_f (p := fun s => decide ((G s).toInt = (G r).toInt)) (n := s) (fun z => hg (Int32.toInt_inj.mp (of_decide_eq_true z)))] at J
      exact br_f hg (nm_r (nI_1 s) J)
theorem wf_ytile {post : Int32 → Prop} (hc : c ≤ 24) {r N T : Nat} (hr : r < c) (hN : 1 ≤ N) (hN2 : N ≤ 10) (hT0 : 1 ≤ T) (hT : T ≤ N) (hlo : ∀ t, t < T → wf_A (wf_cn (fun s => decide ((G s).toInt = (G r).toInt)) c / N) (wf_cn (fun s => decide ((G s).toInt = (G r).toInt)) c % N) t ≤ wf_P c G K r) (hhi : wf_P c G K r < wf_A (wf_cn (fun s => decide ((G s).toInt = (G r).toInt)) c / N) (wf_cn (fun s => decide ((G s).toInt = (G r).toInt)) c % N) T) (h : post (nI T)) : wpY_tile post (nI c, kd, fr, tt, G, K, V) (nI r) (nI N) := by
  have hz := wf_cn_le (fun s => decide ((G s).toInt = (G r).toInt)) c
  have hp : wf_P c G K r ≤ c := wf_cn_le _ c
  unfold wpY_tile
  refine wf_ybad0 hc hr (br_t rfl ?_)
  refine pk_lt N 1 (fun z => absurd z (by omega)) (fun _ => pk_le N 10 (fun _ => ?_) (fun z => absurd z (by omega)))
  refine ⟨c + 1, wf_ytile29 hc hr ?_ c 0 (c + 1) (by omega) (by omega)⟩
  refine wf_yplace hc hr ⟨T, ?_⟩
  have J := wf_ytile83 (kd := kd) (fr := fr) (tt := tt) (G := G) (K := K) (V := V) (c := c) hN hN2 (by omega) (by omega) hT hlo hhi h (T - 1) 0 T (by omega) (by omega)
  have e : wf_A (wf_cn (fun s => decide ((G s).toInt = (G r).toInt)) c / N) (wf_cn (fun s => decide ((G s).toInt = (G r).toInt)) c % N) 0 = 0 := by unfold wf_A; omega
  rw [e] at J
  exact J
end WFQ
end
section
/-! the class sorts: insertion, spots, groups, running totals -/
theorem wf_g5 {c : Nat} {G K V : Nat → Int32} (ok : wf_ok c G K V) {i : Nat} (hi : i < c) : ∃ x : Nat, x ≤ 3 ∧ G i = nI x ∧ (G i).toInt = (x : Int) := by
  have h := ok i hi
  obtain ⟨x, hx, e⟩ := nI_of (x := G i) (by rw [Int32.lt_iff_toInt_lt, show (0 : Int32).toInt = 0 from by decide]; omega)
  have e2 : (G i).toInt = (x : Int) := by rw [e, nI_toInt hx]
  exact ⟨x, by omega, e, e2⟩
section WFS
variable {c : Nat} {kd fr tt ff fe cu : Int32} {G K V ord spt beg pf pe st tot low high : Nat → Int32} {o : Nat → Nat}
theorem wf_xcf {post : Int32 → Prop} (hc : c ≤ 24) (ok : wf_ok c G K V) {a b : Nat} (ha : a < c) (hb : b < c) (hT : wf_w G K a < wf_w G K b → post 1) (hF : ¬ wf_w G K a < wf_w G K b → post 0) : wpX_comesFirst post (nI c, kd, fr, tt, ff, fe, cu, G, K, V, ord, spt, beg, pf, pe, st, tot, low, high) (nI a) (nI b) := by
  have e1 := nI_clamp (n := a) (by omega)
  have e2 := nI_clamp (n := b) (by omega)
  have i1 : vp_in (nI a) 24 := vp_in_nI (by omega) (by omega)
  have i2 : vp_in (nI b) 24 := vp_in_nI (by omega) (by omega)
  rw [wf_wl ok hc ha hb] at hT hF
  simp only [wpX_comesFirst, e1, e2]
  refine ⟨i1, i2, ?_⟩
  by_cases hg : G a = G b
  · have hg' := congrArg Int32.toInt hg
    refine br_t hg ⟨i1, i2, ?_⟩
    by_cases hk : K a = K b
    · have hk' := congrArg Int32.toInt hk
      exact br_t hk (pk_le b a (fun z => hF (by omega)) (fun z => hT (by omega)))
    · have hk' : ¬ (K a).toInt = (K b).toInt := fun z => hk (Int32.toInt_inj.mp z)
      refine br_f hk ⟨i1, i2, br_c (fun z => hF ?_) (fun z => hT ?_)⟩
      · rw [Int32.le_iff_toInt_le] at z; omega
      · rw [Int32.le_iff_toInt_le] at z; omega
  · have hg' : ¬ (G a).toInt = (G b).toInt := fun z => hg (Int32.toInt_inj.mp z)
    refine br_f hg ⟨i1, i2, br_c (fun z => hF ?_) (fun z => hT ?_)⟩
    · rw [Int32.le_iff_toInt_le] at z; omega
    · rw [Int32.le_iff_toInt_le] at z; omega
theorem wf_x25 {post : SX → Prop} {J : Int32 → (Nat → Int32) → (Nat → Int32) → (Nat → Int32) → (Nat → Int32) → (Nat → Int32) → (Nat → Int32) → (Nat → Int32) → (Nat → Int32) → (Nat → Int32) → (Nat → Int32) → (Nat → Int32) → (Nat → Int32) → Prop} (hc : c ≤ 24) (ok : wf_ok c G K V) {i : Nat} (hi : i < c) (so : wf_so (wf_w G K) o i) (hJ : ∀ (ord : Nat → Int32) (o : Nat → Nat), wf_so (wf_w G K) o (i + 1) → (∀ j, j < i + 1 → ord j = nI (o j)) → J (nI (i + 1)) G K V ord spt beg pf pe st tot low high) : ∀ (a n : Nat) (ord : Nat → Int32), a ≤ i → a < n → (∀ j, j < a → ord j = nI (o j)) → (∀ j, a < j → j < i + 1 → ord j = nI (o (j - 1))) → (∀ j, a ≤ j → j < i → wf_w G K i < wf_w G K (o j)) → wX_refresh_25 post J (nI i) (nI c) kd fr tt ff fe cu n (nI a) G K V ord spt beg pf pe st tot low high := by
  have fin : ∀ (a : Nat) (ord : Nat → Int32), a ≤ i → (∀ j, j < a → ord j = nI (o j)) → (∀ j, a < j → j < i + 1 → ord j = nI (o (j - 1))) → (∀ j, a ≤ j → j < i → wf_w G K i < wf_w G K (o j)) → (∀ j, j < a → wf_w G K (o j) < wf_w G K i) → J (nI (i + 1)) G K V (upd ord a (nI i)) spt beg pf pe st tot low high := by
    intro a ord ha h1 h2 h3 h4
    refine hJ _ (wf_ins o a i) (wf_so_ins so ha h4 h3) (fun j hj => ?_)
    rcases Nat.lt_trichotomy j a with z | z | z
    · rw [pk_un (by omega), wf_ins_lo z, h1 j z]
    · subst z; rw [pk_us, wf_ins_at]
    · rw [pk_un (by omega), wf_ins_hi z, h2 j z hj]
  intro a
  induction a with
  | zero =>
    intro n ord ha hn h1 h2 h3
    obtain ⟨n, rfl⟩ : ∃ m, n = m + 1 := ⟨n - 1, by omega⟩
    have e1 := nI_clamp (n := 0) (by omega)
    refine br_t (by decide) ⟨vp_in_nI (by omega) (by omega), ?_⟩
    rw [e1]
    exact nm_e (nm_r (nI_1 i) (fin 0 ord ha h1 h2 h3 (fun j hj => by omega)))
  | succ a ih =>
    intro n ord ha hn h1 h2 h3
    obtain ⟨n, rfl⟩ : ∃ m, n = m + 1 := ⟨n - 1, by omega⟩
    have e1 := nI_clamp (n := a) (by omega)
    have e2 := nI_clamp (n := a + 1) (by omega)
    have eo := h1 a (by omega)
    have oa := so.1 a (by omega)
    refine br_f (nI_nle (by omega) (by omega)) ?_
    rw [nI_pred a, e1, e2, eo]
    refine ⟨vp_in_nI (by omega) (by omega), wf_xcf hc ok hi (by omega) (fun hw => ?_) (fun hw => ?_)⟩
    · refine br_f wf_10 ⟨vp_in_nI (by omega) (by omega), vp_in_nI (by omega) (by omega), nm_e (nm_r (pk_m1 a) (ih n _ (by omega) (by omega) (fun j hj => ?_) (fun j hj hj2 => ?_) (fun j hj hj2 => ?_)))⟩
      · rw [pk_un (by omega)]; exact h1 j (by omega)
      · by_cases e : j = a + 1
        · subst e; rw [pk_us]; rfl
        · rw [pk_un e]; exact h2 j (by omega) hj2
      · by_cases e : j = a
        · subst e; exact hw
        · exact h3 j (by omega) hj2
    · refine br_t rfl ⟨vp_in_nI (by omega) (by omega), nm_e (nm_r (nI_1 i) (fin (a + 1) ord ha h1 h2 h3 (fun j hj => ?_)))⟩
      have h5 : wf_w G K (o a) < wf_w G K i := by
        unfold wf_w at hw ⊢; omega
      exact Int.lt_of_le_of_lt (wf_so_le so (by omega) (by omega)) h5
theorem wf_x15 {post : SX → Prop} (hc : c ≤ 24) (ok : wf_ok c G K V) (hE : ∀ (ord : Nat → Int32) (o : Nat → Nat), wf_so (wf_w G K) o c → (∀ j, j < c → ord j = nI (o j)) → ∃ n80, wX_refresh_80 post (nI c) kd fr tt ff fe cu n80 0 G K V ord spt beg pf pe st tot low high) : ∀ (d i n : Nat) (ord : Nat → Int32) (o : Nat → Nat), i + d = c → d < n → wf_so (wf_w G K) o i → (∀ j, j < i → ord j = nI (o j)) → wX_refresh_15 post (nI c) kd fr tt ff fe cu n (nI i) G K V ord spt beg pf pe st tot low high := by
  intro d
  induction d with
  | zero =>
    intro i n ord o hs hn so ho
    obtain ⟨n, rfl⟩ : ∃ m, n = m + 1 := ⟨n - 1, by omega⟩
    obtain rfl : i = c := by omega
    exact br_t (Int32.le_refl _) (hE ord o so ho)
  | succ d ih =>
    intro i n ord o hs hn so ho
    obtain ⟨n, rfl⟩ : ∃ m, n = m + 1 := ⟨n - 1, by omega⟩
    refine br_f (nI_ge (by omega) (by omega)) ⟨i + 1, ?_⟩
    exact wf_x25 hc ok (by omega) so (fun ord' o' so' ho' => ih (i + 1) n ord' o' (by omega) (by omega) so' ho') i (i + 1) ord (by omega) (by omega) ho (fun j hj hj2 => by omega) (fun j hj hj2 => by omega)
theorem wf_x70 {post : SX → Prop} (hc : c ≤ 24) (so : wf_so (wf_w G K) o c) (ho : ∀ j, j < c → ord j = nI (o j)) (hE : ∀ tot : Nat → Int32, wf_To V o c tot → post (nI c, kd, fr, tt, ff, fe, cu, G, K, V, ord, spt, beg, pf, pe, st, tot, low, high)) : ∀ (d k n : Nat) (tot : Nat → Int32), k + d = c → d < n → wf_To V o k tot → wX_findGroups_70 post (nI c) kd fr tt ff fe cu n (nI k) G K V ord spt beg pf pe st tot low high := by
  intro d
  induction d with
  | zero =>
    intro k n tot hs hn hi
    obtain ⟨n, rfl⟩ : ∃ m, n = m + 1 := ⟨n - 1, by omega⟩
    obtain rfl : k = c := by omega
    exact br_t (Int32.le_refl _) (hE tot hi)
  | succ d ih =>
    intro k n tot hs hn hi
    obtain ⟨n, rfl⟩ : ∃ m, n = m + 1 := ⟨n - 1, by omega⟩
    have e1 := nI_clamp (n := k) (by omega)
    have e2 := nI_clamp (n := k + 1) (by omega)
    have ok := so.1 k (by omega)
    have e3 := nI_clamp (n := o k) (by omega)
    refine br_f (nI_ge (by omega) (by omega)) ?_
    rw [nI_1 k, e1, e2, ho k (by omega), e3]
    refine ⟨vp_in_nI (by omega) (by omega), vp_in_nI (by omega) (by omega), vp_in_nI (by omega) (by omega), vp_in_nI (by omega) (by omega), nm_e (nm_e (ih (k + 1) n _ (by omega) (by omega) (fun j hj => ?_)))⟩
    by_cases e : j = k + 1
    · subst e; rw [pk_us, hi k (Nat.le_refl _), wf_sm_s]
    · rw [pk_un e]; exact hi j (by omega)
theorem wf_x9 {post : SX → Prop} {J : Int32 → Int32 → (Nat → Int32) → (Nat → Int32) → (Nat → Int32) → (Nat → Int32) → (Nat → Int32) → (Nat → Int32) → (Nat → Int32) → (Nat → Int32) → (Nat → Int32) → (Nat → Int32) → (Nat → Int32) → (Nat → Int32) → Prop} (hc : c ≤ 24) (ok : wf_ok c G K V) (so : wf_so (wf_w G K) o c) (ho : ∀ j, j < c → ord j = nI (o j)) {x : Nat} (hx : x ≤ 4) (hJ : ∀ b, wf_bg c G o x b → J (nI b) (nI (x + 1)) G K V ord spt (upd beg x (nI b)) pf pe st tot low high) : ∀ d a n, a + d = c → d < n → (∀ j, j < a → (G (o j)).toInt < (x : Int)) → wX_findGroups_9 post J (nI x) (nI c) kd fr tt ff fe cu G K V ord spt beg pf pe st tot low high n (nI a) := by
  have ex := nI_clamp (n := x) (by omega)
  intro d
  induction d with
  | zero =>
    intro a n hs hn hi
    obtain ⟨n, rfl⟩ : ∃ m, n = m + 1 := ⟨n - 1, by omega⟩
    obtain rfl : a = c := by omega
    refine br_t (Int32.le_refl _) ⟨vp_in_nI (by omega) (by omega), ?_⟩
    rw [ex]
    exact nm_e (nm_r (nI_1 x) (hJ a ⟨Nat.le_refl _, fun j hj => ⟨fun _ => hj, fun _ => hi j hj⟩⟩))
  | succ d ih =>
    intro a n hs hn hi
    obtain ⟨n, rfl⟩ : ∃ m, n = m + 1 := ⟨n - 1, by omega⟩
    have e1 := nI_clamp (n := a) (by omega)
    have oa := so.1 a (by omega)
    have e3 := nI_clamp (n := o a) (by omega)
    have et := nI_toInt (n := x) (by omega)
    refine br_f (nI_ge (by omega) (by omega)) ?_
    rw [e1, ho a (by omega), e3, ex]
    refine ⟨vp_in_nI (by omega) (by omega), vp_in_nI (by omega) (by omega), br_c (fun h => ⟨vp_in_nI (by omega) (by omega), nm_e (nm_r (nI_1 x) (hJ a ⟨by omega, fun j hj => ⟨fun z => ?_, fun z => hi j z⟩⟩))⟩) (fun h => nm_r (nI_1 a) (ih (a + 1) n (by omega) (by omega) (fun j hj => ?_)))⟩
    · rw [Int32.le_iff_toInt_le, et] at h
      rcases Nat.lt_or_ge j a with y | y
      · exact y
      · have := wf_og ok hc so y hj; omega
    · rw [Int32.le_iff_toInt_le, et] at h
      rcases Nat.lt_succ_iff_lt_or_eq.mp hj with y | y
      · exact hi j y
      · subst y; omega
theorem wf_x4 {post : SX → Prop} (hc : c ≤ 24) (ok : wf_ok c G K V) (so : wf_so (wf_w G K) o c) (ho : ∀ j, j < c → ord j = nI (o j)) (hE : ∀ beg tot : Nat → Int32, wf_Be c G o 5 beg → wf_To V o c tot → post (nI c, kd, fr, tt, ff, fe, cu, G, K, V, ord, spt, beg, pf, pe, st, tot, low, high)) : ∀ (d x n a : Nat) (beg : Nat → Int32), x + d = 5 → d < n → a ≤ c → (∀ j, j < a → (G (o j)).toInt < (x : Int)) → wf_Be c G o x beg → wX_findGroups_4 post (nI c) kd fr tt ff fe cu n (nI a) (nI x) G K V ord spt beg pf pe st tot low high := by
  intro d
  induction d with
  | zero =>
    intro x n a beg hs hn ha hi hb
    obtain ⟨n, rfl⟩ : ∃ m, n = m + 1 := ⟨n - 1, by omega⟩
    obtain rfl : x = 5 := by omega
    refine br_t (by decide) (nm_e (nm_e ⟨c + 1, ?_⟩))
    refine wf_x70 hc so ho (fun tot' ht => hE _ tot' (fun y hy => ?_) ht) c 0 (c + 1) _ (by omega) (by omega) (fun j hj => ?_)
    · by_cases e : y = 4
      · subst e
        exact ⟨c, pk_us, Nat.le_refl _, fun j hj => ⟨fun _ => hj, fun _ => by have := ok _ (so.1 j hj); omega⟩⟩
      · rw [pk_un e]; exact hb y hy
    · obtain rfl : j = 0 := by omega
      exact pk_us
  | succ d ih =>
    intro x n a beg hs hn ha hi hb
    obtain ⟨n, rfl⟩ : ∃ m, n = m + 1 := ⟨n - 1, by omega⟩
    refine br_f (nI_nlt (b := x) (a := 4) (by omega) (by omega)) ⟨c + 1, ?_⟩
    refine wf_x9 hc ok so ho (by omega) (fun b hbg => ih (x + 1) n b _ (by omega) (by omega) hbg.1 (fun j hj => ?_) (fun y hy => ?_)) (c - a) a (c + 1) (by omega) (by omega) hi
    · have := (hbg.2 j (by have := hbg.1; omega)).mpr hj; omega
    · by_cases e : y = x
      · subst e; exact ⟨b, pk_us, hbg⟩
      · rw [pk_un e]; exact hb y (by omega)
theorem wf_xgroups {post : SX → Prop} (hc : c ≤ 24) (ok : wf_ok c G K V) (so : wf_so (wf_w G K) o c) (ho : ∀ j, j < c → ord j = nI (o j)) (hE : ∀ beg tot : Nat → Int32, wf_Be c G o 5 beg → wf_To V o c tot → post (nI c, kd, fr, tt, ff, fe, cu, G, K, V, ord, spt, beg, pf, pe, st, tot, low, high)) : wpX_findGroups post (nI c, kd, fr, tt, ff, fe, cu, G, K, V, ord, spt, beg, pf, pe, st, tot, low, high) :=
  ⟨6, wf_x4 hc ok so ho hE 5 0 6 0 beg (by omega) (by omega) (by omega) (fun j hj => by omega) (fun y hy => by omega)⟩
end WFS
end
section
/-! the class finds peers -/
section WFP
variable {c : Nat} {kd fr tt ff fe cu : Int32} {G K V ord spt beg pf pe st tot low high : Nat → Int32} {o : Nat → Nat}
theorem wf_xap {post : Int32 → Prop} (hc : c ≤ 24) (ok : wf_ok c G K V) (so : wf_so (wf_w G K) o c) (ho : ∀ j, j < c → ord j = nI (o j)) {i j : Nat} (hi : i < c) (hj : j < c) (hT : wf_q G K (o i) = wf_q G K (o j) → post 1) (hF : ¬ wf_q G K (o i) = wf_q G K (o j) → post 0) : wpX_arePeers post (nI c, kd, fr, tt, ff, fe, cu, G, K, V, ord, spt, beg, pf, pe, st, tot, low, high) (nI i) (nI j) := by
  have e1 := nI_clamp (n := i) (by omega)
  have e2 := nI_clamp (n := j) (by omega)
  have oi := so.1 i hi
  have oj := so.1 j hj
  have e3 := nI_clamp (n := o i) (by omega)
  have e4 := nI_clamp (n := o j) (by omega)
  have i1 : vp_in (nI i) 24 := vp_in_nI (by omega) (by omega)
  have i2 : vp_in (nI j) 24 := vp_in_nI (by omega) (by omega)
  have i3 : vp_in (nI (o i)) 24 := vp_in_nI (by omega) (by omega)
  have i4 : vp_in (nI (o j)) 24 := vp_in_nI (by omega) (by omega)
  rw [wf_qe ok oi oj] at hT hF
  simp only [wpX_arePeers, e1, e2, ho i hi, ho j hj, e3, e4]
  refine ⟨i1, i3, i2, i4, br_c (fun g => ⟨i1, i3, i2, i4, br_c (fun k => hT ⟨congrArg _ g, congrArg _ k⟩) (fun k => hF (fun z => k (Int32.toInt_inj.mp z.2)))⟩) (fun g => hF (fun z => g (Int32.toInt_inj.mp z.1)))⟩
theorem wf_x156 {post : SX → Prop} {J : Int32 → (Nat → Int32) → (Nat → Int32) → (Nat → Int32) → (Nat → Int32) → (Nat → Int32) → (Nat → Int32) → (Nat → Int32) → (Nat → Int32) → (Nat → Int32) → (Nat → Int32) → (Nat → Int32) → (Nat → Int32) → Prop} {a : Nat} (ha : a < 24) (z : Int32) (h0 : z = 0 → J (nI a + (-1)) G K V ord spt beg pf (upd pe a (nI (a + 1))) st tot low high) (h1 : ¬ z = 0 → a + 1 < 24 ∧ J (nI a + (-1)) G K V ord spt beg pf (upd pe a (pe (a + 1))) st tot low high) : wX_findPeers_156 post J (nI a) z (nI c) kd fr tt ff fe cu G K V ord spt beg pf pe st tot low high := by
  unfold wX_findPeers_156
  rw [nI_1 a, nI_clamp (n := a) (by omega), nI_clamp (n := a + 1) (by omega)]
  exact br_c (fun y => ⟨vp_in_nI (by omega) (by omega), nm_e (nm_e (h0 y))⟩) (fun y => ⟨vp_in_nI (h1 y).1 (by omega), vp_in_nI (by omega) (by omega), nm_e (nm_e (h1 y).2)⟩)
theorem wf_pn_u {a : Nat} {y : Int32} (h : ∀ j, a + 1 ≤ j → j < c → wf_pn c G K o pe j) (ha : wf_pn c G K o (upd pe a y) a) : ∀ j, a ≤ j → j < c → wf_pn c G K o (upd pe a y) j := by
  intro j hj hj2
  by_cases e : j = a
  · subst e; exact ha
  · have := h j (by omega) hj2
    unfold wf_pn at this ⊢
    rw [pk_un e]; exact this
theorem wf_x126 {post : SX → Prop} (hc : c ≤ 24) (ok : wf_ok c G K V) (so : wf_so (wf_w G K) o c) (ho : ∀ j, j < c → ord j = nI (o j)) (hE : ∀ pe : Nat → Int32, (∀ j, j < c → wf_pn c G K o pe j) → post (nI c, kd, fr, tt, ff, fe, cu, G, K, V, ord, spt, beg, pf, pe, st, tot, low, high)) : ∀ (a n : Nat) (pe : Nat → Int32) (x : Int32), a ≤ c → a < n → x = nI a - 1 → (∀ j, a ≤ j → j < c → wf_pn c G K o pe j) → wX_findPeers_126 post (nI c) kd fr tt ff fe cu n x G K V ord spt beg pf pe st tot low high := by
  intro a
  induction a with
  | zero =>
    intro n pe x ha hn hx hi
    obtain ⟨n, rfl⟩ : ∃ m, n = m + 1 := ⟨n - 1, by omega⟩
    have hx0 : x < 0 := by rw [hx]; decide
    exact br_t hx0 (hE pe (fun j hj => hi j (by omega) hj))
  | succ a ih =>
    intro n pe x ha hn hx hi
    obtain ⟨n, rfl⟩ : ∃ m, n = m + 1 := ⟨n - 1, by omega⟩
    rw [nI_pred a] at hx
    subst hx
    refine br_f (nI_pos (by omega)) ?_
    rw [nI_1 a]
    have hN : (c ≤ a + 1 ∨ (a + 1 < c ∧ ¬ wf_q G K (o a) = wf_q G K (o (a + 1)))) → wX_findPeers_155 post (wX_findPeers_126 post (nI c) kd fr tt ff fe cu n) (nI a) (nI c) kd fr tt ff fe cu G K V ord spt beg pf pe st tot low high := by
      intro hne
      refine wf_x156 (by omega) 0 (fun _ => ih n _ _ (by omega) (by omega) (Int32.sub_eq_add_neg _ _).symm (wf_pn_u hi ?_)) (fun z => absurd rfl z)
      refine ⟨a + 1, pk_us, by omega, ha, fun i hi2 => ⟨fun z => ?_, fun z => wf_oq hc so (by omega) (by omega)⟩⟩
      rcases Nat.lt_or_ge i (a + 1) with y | y
      · exact y
      · rcases hne with y2 | ⟨y2, y3⟩
        · omega
        · have h1 := wf_oq hc so y hi2
          have h2 := wf_oq hc so (i := a) (j := a + 1) (by omega) y2
          omega
    refine pk_le c (a + 1) (fun h => hN (Or.inl h)) (fun h => ?_)
    refine wf_xap hc ok so ho (by omega) h (fun e => br_f wf_10 ?_) (fun e => br_t rfl (hN (Or.inr ⟨h, e⟩)))
    refine wf_x156 (by omega) 1 (fun z => absurd z wf_10) (fun _ => ⟨by omega, ih n _ _ (by omega) (by omega) (Int32.sub_eq_add_neg _ _).symm (wf_pn_u hi ?_)⟩)
    obtain ⟨p, h1, h2, h3, h4⟩ := hi (a + 1) (Nat.le_refl _) h
    refine ⟨p, by rw [pk_us, h1], by omega, h3, fun i hi2 => ?_⟩
    rw [e]; exact h4 i hi2
theorem wf_x82 {post : SX → Prop} {J : Int32 → (Nat → Int32) → (Nat → Int32) → (Nat → Int32) → (Nat → Int32) → (Nat → Int32) → (Nat → Int32) → (Nat → Int32) → (Nat → Int32) → (Nat → Int32) → (Nat → Int32) → (Nat → Int32) → (Nat → Int32) → Prop} {a : Nat} (ha : a < 24) (z : Int32) (h0 : z = 0 → 0 < a ∧ J (nI (a + 1)) G K V ord spt beg (upd pf a (nI a)) pe (upd st a (st (a - 1) + 1)) tot low high) (h1 : ¬ z = 0 → J (nI (a + 1)) G K V ord spt beg (upd pf a (nI a)) pe (upd st a 0) tot low high) : wX_findPeers_82 post J (nI a) z (nI c) kd fr tt ff fe cu G K V ord spt beg pf pe st tot low high := by
  unfold wX_findPeers_82
  rw [nI_clamp (n := a) (by omega), nI_1 a]
  refine ⟨vp_in_nI (by omega) (by omega), nm_e (br_c (fun y => ?_) (fun y => ⟨vp_in_nI (by omega) (by omega), nm_e (nm_e (h1 y))⟩))⟩
  obtain ⟨hp, hj⟩ := h0 y
  obtain ⟨b, rfl⟩ : ∃ b, a = b + 1 := ⟨a - 1, by omega⟩
  rw [nI_pred b, nI_clamp (n := b) (by omega)]
  exact ⟨vp_in_nI (by omega) (by omega), vp_in_nI (by omega) (by omega), nm_e (nm_e hj)⟩
theorem wf_x35 {post : SX → Prop} {J : Int32 → (Nat → Int32) → (Nat → Int32) → (Nat → Int32) → (Nat → Int32) → (Nat → Int32) → (Nat → Int32) → (Nat → Int32) → (Nat → Int32) → (Nat → Int32) → (Nat → Int32) → (Nat → Int32) → (Nat → Int32) → Prop} (hc : c ≤ 24) (ok : wf_ok c G K V) (so : wf_so (wf_w G K) o c) (ho : ∀ j, j < c → ord j = nI (o j)) {a : Nat} (ha : a < c) (z : Int32) (hz : z = 0 → 0 < a) (hP : 0 < a → wf_q G K (o a) = wf_q G K (o (a - 1)) → J (nI (a + 1)) G K V ord spt beg (upd pf a (pf (a - 1))) pe (upd st a (st (a - 1))) tot low high) (h0 : z = 0 → 0 < a → ¬ wf_q G K (o a) = wf_q G K (o (a - 1)) → J (nI (a + 1)) G K V ord spt beg (upd pf a (nI a)) pe (upd st a (st (a - 1) + 1)) tot low high) (h1 : ¬ z = 0 → (0 < a → ¬ wf_q G K (o a) = wf_q G K (o (a - 1))) → J (nI (a + 1)) G K V ord spt beg (upd pf a (nI a)) pe (upd st a 0) tot low high) : wX_findPeers_35 post J (nI a) z (nI c) kd fr tt ff fe cu G K V ord spt beg pf pe st tot low high := by
  unfold wX_findPeers_35
  refine pk_le a 0 (fun h => wf_x82 (by omega) z (fun y => absurd (hz y) (by omega)) (fun y => h1 y (fun w => absurd w (by omega)))) (fun h => ?_)
  obtain ⟨b, rfl⟩ : ∃ b, a = b + 1 := ⟨a - 1, by omega⟩
  rw [nI_pred b, nI_clamp (n := b) (by omega), nI_clamp (n := b + 1) (by omega), nI_1 (b + 1)]
  refine wf_xap hc ok so ho ha (by omega) (fun e => br_f wf_10 ?_) (fun e => br_t rfl (wf_x82 (by omega) z (fun y => ⟨h, h0 y h e⟩) (fun y => h1 y (fun _ => e))))
  exact ⟨vp_in_nI (by omega) (by omega), vp_in_nI (by omega) (by omega), nm_e ⟨vp_in_nI (by omega) (by omega), vp_in_nI (by omega) (by omega), nm_e (nm_e (hP h e))⟩⟩
theorem wf_Pf_p {a : Nat} (h0 : 0 < a) (ha : a < c) (e : wf_q G K (o a) = wf_q G K (o (a - 1))) (h : wf_Pf c G K o a pf) : wf_Pf c G K o (a + 1) (upd pf a (pf (a - 1))) := by
  intro j hj
  by_cases e2 : j = a
  · subst e2
    obtain ⟨p, h1, h2, h3⟩ := h (j - 1) (by omega)
    exact ⟨p, by rw [pk_us, h1], by omega, fun i hi => by rw [e]; exact h3 i hi⟩
  · rw [pk_un e2]; exact h j (by omega)
theorem wf_Pf_n (hc : c ≤ 24) (so : wf_so (wf_w G K) o c) {a : Nat} (ha : a < c) (e : 0 < a → ¬ wf_q G K (o a) = wf_q G K (o (a - 1))) (h : wf_Pf c G K o a pf) : wf_Pf c G K o (a + 1) (upd pf a (nI a)) := by
  intro j hj
  by_cases e2 : j = a
  · subst e2
    refine ⟨j, pk_us, Nat.le_refl _, fun i hi => ⟨fun z => ?_, fun z => ?_⟩⟩
    · rcases Nat.lt_or_ge i j with y | y
      · exact y
      · have := wf_oq hc so y hi; omega
    · have h1 := wf_oq hc so (i := i) (j := j - 1) (by omega) (by omega)
      have h2 := wf_oq hc so (i := j - 1) (j := j) (by omega) ha
      have h3 := e (by omega)
      omega
  · rw [pk_un e2]; exact h j (by omega)
theorem wf_St_u {a : Nat} {x : Int32} (hx : x = nI (wf_D c G K (o a))) (h : wf_St c G K o a st) : wf_St c G K o (a + 1) (upd st a x) := by
  intro j hj
  by_cases e2 : j = a
  · subst e2; rw [pk_us, hx]
  · rw [pk_un e2]; exact h j (by omega)
theorem wf_x2p {post : SX → Prop} (hc : c ≤ 24) (ok : wf_ok c G K V) (so : wf_so (wf_w G K) o c) (ho : ∀ j, j < c → ord j = nI (o j)) (hb : wf_Be c G o 5 beg) (hE : ∀ pf st : Nat → Int32, wf_Pf c G K o c pf → wf_St c G K o c st → ∃ n126, wX_findPeers_126 post (nI c) kd fr tt ff fe cu n126 (nI c - 1) G K V ord spt beg pf pe st tot low high) : ∀ (d a n : Nat) (pf st : Nat → Int32), a + d = c → d < n → wf_Pf c G K o a pf → wf_St c G K o a st → wX_findPeers_2 post (nI c) kd fr tt ff fe cu n (nI a) G K V ord spt beg pf pe st tot low high := by
  intro d
  induction d with
  | zero =>
    intro a n pf st hs hn hp ht
    obtain ⟨n, rfl⟩ : ∃ m, n = m + 1 := ⟨n - 1, by omega⟩
    obtain rfl : a = c := by omega
    exact br_t (Int32.le_refl _) (nm_e (hE pf st hp ht))
  | succ d ih =>
    intro a n pf st hs hn hp ht
    obtain ⟨n, rfl⟩ : ∃ m, n = m + 1 := ⟨n - 1, by omega⟩
    have hac : a < c := by omega
    have oa := so.1 a hac
    obtain ⟨x, hx, eg, et⟩ := wf_g5 ok oa
    obtain ⟨b, eb, hbg⟩ := hb x (by omega)
    have e1 := nI_clamp (n := a) (by omega)
    have e3 := nI_clamp (n := o a) (by omega)
    have e4 := nI_clamp (n := x) (by omega)
    refine br_f (nI_ge (by omega) (by omega)) ?_
    rw [e1, ho a hac, e3, eg, e4, eb]
    have hbc := hbg.1
    have hba : b ≤ a := by
      rcases Nat.lt_or_ge a b with y | y
      · have := (hbg.2 a hac).mpr y; omega
      · exact y
    have go : ∀ z : Int32, (z = 0 → a ≠ b) → (¬ z = 0 → a = b) → wX_findPeers_35 post (wX_findPeers_2 post (nI c) kd fr tt ff fe cu n) (nI a) z (nI c) kd fr tt ff fe cu G K V ord spt beg pf pe st tot low high := by
      intro z z0 z1
      refine wf_x35 hc ok so ho hac z (fun y => by have := z0 y; omega) (fun h e => ?_) (fun y h e => ?_) (fun y h => ?_)
      · refine ih (a + 1) n _ _ (by omega) (by omega) (wf_Pf_p h hac e hp) (wf_St_u ?_ ht)
        rw [ht (a - 1) (by omega), wf_D_eq ok oa (so.1 (a - 1) (by omega)) e]
      · refine ih (a + 1) n _ _ (by omega) (by omega) (wf_Pf_n hc so hac (fun _ => e) hp) (wf_St_u ?_ ht)
        have hne := z0 y
        have op := so.1 (a - 1) (by omega)
        have g1 := wf_og ok hc so (i := a - 1) (j := a) (by omega) hac
        have g2 : ¬ (G (o (a - 1))).toInt < (x : Int) := fun w => by have := (hbg.2 (a - 1) (by omega)).mp w; omega
        have q1 := wf_oq hc so (i := a - 1) (j := a) (by omega) hac
        have q2 := (wf_ql ok op oa).mp (by omega)
        rw [ht (a - 1) (by omega), nI_1]
        rw [wf_D_s ok op oa (by omega) (by omega) ?_]
        intro s hs1 hs2 hs3
        obtain ⟨i, hi, rfl⟩ := so.2.2.1 s hs1
        have q3 := (wf_ql ok hs1 oa).mpr (Or.inr ⟨hs2, hs3⟩)
        rcases Nat.lt_or_ge i a with w | w
        · have q4 := wf_oq hc so (i := i) (j := a - 1) (by omega) (by omega)
          have q5 : ¬ wf_q G K (o (a - 1)) < wf_q G K (o i) := by omega
          rw [wf_ql ok op hs1] at q5
          omega
        · have := wf_oq hc so w hi; omega
      · refine ih (a + 1) n _ _ (by omega) (by omega) (wf_Pf_n hc so hac h hp) (wf_St_u ?_ ht)
        have := z1 y
        rw [wf_D_0 ok so hac et hbg (by omega) hc]; rfl
    refine ⟨vp_in_nI (by omega) (by omega), vp_in_nI (by omega) (by omega), vp_in_nI (by omega) (by omega), pk_eq a b (fun e => go 1 (fun z => absurd z wf_10) (fun _ => e)) (fun e => go 0 (fun _ => e) (fun z => absurd rfl z))⟩
theorem wf_xpeers {post : SX → Prop} (hc : c ≤ 24) (ok : wf_ok c G K V) (so : wf_so (wf_w G K) o c) (ho : ∀ j, j < c → ord j = nI (o j)) (hb : wf_Be c G o 5 beg) (hE : ∀ pf pe st : Nat → Int32, wf_Pf c G K o c pf → wf_St c G K o c st → (∀ j, j < c → wf_pn c G K o pe j) → post (nI c, kd, fr, tt, ff, fe, cu, G, K, V, ord, spt, beg, pf, pe, st, tot, low, high)) : wpX_findPeers post (nI c, kd, fr, tt, ff, fe, cu, G, K, V, ord, spt, beg, pf, pe, st, tot, low, high) :=
  ⟨c + 1, wf_x2p hc ok so ho hb (fun pf' st' h1 h2 => ⟨c + 1, wf_x126 hc ok so ho (fun pe' h3 => hE pf' pe' st' h1 h2 h3) c (c + 1) pe _ (by omega) (by omega) rfl (fun j hj hj2 => by omega)⟩) c 0 (c + 1) pf st (by omega) (by omega) (fun j hj => by omega) (fun j hj => by omega)⟩
end WFP
end
section
/-! the class builds its tables of extremes, and refreshes -/
theorem wf_sh : ∀ l, l < 5 → (1 : Int32) <<< (nI l &&& 31) = nI (2 ^ l) := by decide +kernel
theorem wf_sh2 : ∀ l, l < 5 → (2 : Int32) <<< (nI l &&& 31) = nI (2 * 2 ^ l) := by decide +kernel
theorem wf_p24 : ∀ l, l < 5 → 1 ≤ 2 ^ l ∧ 2 ^ l ≤ 16 := by decide
theorem wf_24 (a : Nat) : 24 * nI a = nI (24 * a) := pk_mul 24 a
theorem wf_2m (a : Nat) : 2 * nI a = nI (2 * a) := pk_mul 2 a
section WFE
variable {c : Nat} {kd fr tt ff fe cu : Int32} {G K V ord spt beg pf pe st tot low high : Nat → Int32} {o : Nat → Nat}
theorem wf_mn_1 (a : Nat) : wf_mn V o (V (o a)) a (a + 1) :=
  ⟨fun i h1 h2 => by obtain rfl : i = a := by omega
                     exact Int.le_refl _, a, Nat.le_refl _, by omega, rfl⟩
theorem wf_mx_1 (a : Nat) : wf_mx V o (V (o a)) a (a + 1) :=
  ⟨fun i h1 h2 => by obtain rfl : i = a := by omega
                     exact Int.le_refl _, a, Nat.le_refl _, by omega, rfl⟩
theorem wf_mn_2 {m m1 m2 : Int32} {a b a' b' : Nat} (h1 : wf_mn V o m1 a b) (h2 : wf_mn V o m2 a' b') (ha : a ≤ a') (hb : b ≤ b') (hab : a' ≤ b) (hm : m = m1 ∨ m = m2) (l1 : m.toInt ≤ m1.toInt) (l2 : m.toInt ≤ m2.toInt) : wf_mn V o m a b' := by
  obtain ⟨p1, i1, q1, r1, s1⟩ := h1
  obtain ⟨p2, i2, q2, r2, s2⟩ := h2
  refine ⟨fun i hi1 hi2 => ?_, ?_⟩
  · rcases Nat.lt_or_ge i b with z | z
    · have := p1 i hi1 z; omega
    · have := p2 i (by omega) hi2; omega
  · rcases hm with e | e
    · exact ⟨i1, q1, by omega, e.trans s1⟩
    · exact ⟨i2, by omega, r2, e.trans s2⟩
theorem wf_mx_2 {m m1 m2 : Int32} {a b a' b' : Nat} (h1 : wf_mx V o m1 a b) (h2 : wf_mx V o m2 a' b') (ha : a ≤ a') (hb : b ≤ b') (hab : a' ≤ b) (hm : m = m1 ∨ m = m2) (l1 : m1.toInt ≤ m.toInt) (l2 : m2.toInt ≤ m.toInt) : wf_mx V o m a b' := by
  obtain ⟨p1, i1, q1, r1, s1⟩ := h1
  obtain ⟨p2, i2, q2, r2, s2⟩ := h2
  refine ⟨fun i hi1 hi2 => ?_, ?_⟩
  · rcases Nat.lt_or_ge i b with z | z
    · have := p1 i hi1 z; omega
    · have := p2 i (by omega) hi2; omega
  · rcases hm with e | e
    · exact ⟨i1, q1, by omega, e.trans s1⟩
    · exact ⟨i2, by omega, r2, e.trans s2⟩
theorem wf_xe137 {post : SX → Prop} {J52 J : Int32 → (Nat → Int32) → (Nat → Int32) → (Nat → Int32) → (Nat → Int32) → (Nat → Int32) → (Nat → Int32) → (Nat → Int32) → (Nat → Int32) → (Nat → Int32) → (Nat → Int32) → (Nat → Int32) → (Nat → Int32) → Prop} {l a p q t : Nat} {x2 z0 : Int32} (hp : p < 120) (hq : q < 120) (ht : t < 120) (et : t = 24 * l + a) (hJ : ∀ h : Int32, (h = high p ∨ h = high q) → (high p).toInt ≤ h.toInt → (high q).toInt ≤ h.toInt → J (nI (a + 1)) G K V ord spt beg pf pe st tot (upd low t z0) (upd high t h)) : wX_findExtremes_137 post J52 J (nI l) x2 (nI a) (nI p) (nI q) z0 (nI t) (nI c) kd fr tt ff fe cu G K V ord spt beg pf pe st tot low high := by
  unfold wX_findExtremes_137
  rw [wf_24 l, nI_add, ← et, nI_clamp (n := t) (by omega), nI_clamp (n := p) (by omega), nI_clamp (n := q) (by omega), nI_1 a]
  refine ⟨vp_in_nI ht (by omega), nm_e ⟨vp_in_nI hp (by omega), vp_in_nI hq (by omega), br_c (fun h => ?_) (fun h => ?_)⟩⟩
  · rw [Int32.le_iff_toInt_le] at h
    exact ⟨vp_in_nI hq (by omega), vp_in_nI ht (by omega), nm_e (nm_e (hJ _ (Or.inr rfl) h (Int.le_refl _)))⟩
  · rw [Int32.le_iff_toInt_le] at h
    exact ⟨vp_in_nI hp (by omega), vp_in_nI ht (by omega), nm_e (nm_e (hJ _ (Or.inl rfl) (Int.le_refl _) (by omega)))⟩
theorem wf_Lo_u {l t : Nat} {z : Int32} (hc : c ≤ 24) (ht : 24 * l ≤ t) (h : wf_Lo c V o l low) : wf_Lo c V o l (upd low t z) := by
  intro k hk a ha
  have := Nat.two_pow_pos k
  rw [pk_un (by omega)]
  exact h k hk a ha
theorem wf_Hi_u {l t : Nat} {z : Int32} (hc : c ≤ 24) (ht : 24 * l ≤ t) (h : wf_Hi c V o l low) : wf_Hi c V o l (upd low t z) := by
  intro k hk a ha
  have := Nat.two_pow_pos k
  rw [pk_un (by omega)]
  exact h k hk a ha
theorem wf_xe65 {post : SX → Prop} {J : Int32 → (Nat → Int32) → (Nat → Int32) → (Nat → Int32) → (Nat → Int32) → (Nat → Int32) → (Nat → Int32) → (Nat → Int32) → (Nat → Int32) → (Nat → Int32) → (Nat → Int32) → (Nat → Int32) → (Nat → Int32) → Prop} (hc : c ≤ 24) {l hf : Nat} (hl : l < 4) (ehf : 2 ^ l = hf) (hJ : ∀ low high : Nat → Int32, wf_Lo c V o (l + 2) low → wf_Hi c V o (l + 2) high → J (nI (l + 2)) G K V ord spt beg pf pe st tot low high) : ∀ (d a n : Nat) (low high : Nat → Int32), a + d = c → d < n → wf_Lo c V o (l + 1) low → wf_Hi c V o (l + 1) high → (∀ i, i < a → i + 2 * hf ≤ c → wf_mn V o (low (24 * (l + 1) + i)) i (i + 2 * hf)) → (∀ i, i < a → i + 2 * hf ≤ c → wf_mx V o (high (24 * (l + 1) + i)) i (i + 2 * hf)) → wX_findExtremes_65 post J (nI (l + 1)) (nI hf) (nI c) kd fr tt ff fe cu n (nI a) G K V ord spt beg pf pe st tot low high := by
  have hf1 := wf_p24 l (by omega)
  rw [ehf] at hf1
  have e2 : 2 ^ (l + 1) = 2 * hf := by rw [Nat.pow_succ, ehf, Nat.mul_comm]
  have fin : ∀ (a n : Nat) (low high : Nat → Int32), c < a + 2 * hf → a ≤ c → wf_Lo c V o (l + 1) low → wf_Hi c V o (l + 1) high → (∀ i, i < a → i + 2 * hf ≤ c → wf_mn V o (low (24 * (l + 1) + i)) i (i + 2 * hf)) → (∀ i, i < a → i + 2 * hf ≤ c → wf_mx V o (high (24 * (l + 1) + i)) i (i + 2 * hf)) → wX_findExtremes_65 post J (nI (l + 1)) (nI hf) (nI c) kd fr tt ff fe cu (n + 1) (nI a) G K V ord spt beg pf pe st tot low high := by
    intro a n low high ha hac h1 h2 h3 h4
    unfold wX_findExtremes_65
    rw [wf_2m, nI_add]
    refine br_t (nI_lt ha (by omega)) (nm_r (nI_1 _) (hJ low high (fun k hk i hi => ?_) (fun k hk i hi => ?_)))
    · by_cases e : k = l + 1
      · subst e; rw [e2] at hi ⊢; exact h3 i (by omega) hi
      · exact h1 k (by omega) i hi
    · by_cases e : k = l + 1
      · subst e; rw [e2] at hi ⊢; exact h4 i (by omega) hi
      · exact h2 k (by omega) i hi
  intro d
  induction d with
  | zero =>
    intro a n low high hs hn h1 h2 h3 h4
    obtain ⟨n, rfl⟩ : ∃ m, n = m + 1 := ⟨n - 1, by omega⟩
    exact fin a n low high (by omega) (by omega) h1 h2 h3 h4
  | succ d ih =>
    intro a n low high hs hn h1 h2 h3 h4
    obtain ⟨n, rfl⟩ : ∃ m, n = m + 1 := ⟨n - 1, by omega⟩
    by_cases hx : c < a + 2 * hf
    · exact fin a n low high hx (by omega) h1 h2 h3 h4
    · have ha := h1 l (by omega) a (by rw [ehf]; omega)
      have hb := h1 l (by omega) (a + hf) (by rw [ehf]; omega)
      have ka := h2 l (by omega) a (by rw [ehf]; omega)
      have kb := h2 l (by omega) (a + hf) (by rw [ehf]; omega)
      rw [ehf] at ha hb ka kb
      have epq : 24 * l + (a + hf) = 24 * l + a + hf := by omega
      have e3 : a + hf + hf = a + 2 * hf := by omega
      rw [epq, e3] at hb kb
      have main : ∀ z0 : Int32, (z0 = low (24 * l + a) ∨ z0 = low (24 * l + a + hf)) → z0.toInt ≤ (low (24 * l + a)).toInt → z0.toInt ≤ (low (24 * l + a + hf)).toInt → wX_findExtremes_137 post J (wX_findExtremes_65 post J (nI (l + 1)) (nI hf) (nI c) kd fr tt ff fe cu n) (nI (l + 1)) (nI hf) (nI a) (nI (24 * l + a)) (nI (24 * l + a + hf)) z0 (nI (24 * (l + 1) + a)) (nI c) kd fr tt ff fe cu G K V ord spt beg pf pe st tot low high := by
        intro z0 y1 y2 y3
        refine wf_xe137 (by omega) (by omega) (by omega) rfl (fun h w1 w2 w3 => ih (a + 1) n _ _ (by omega) (by omega) (wf_Lo_u hc (by omega) h1) (wf_Hi_u hc (by omega) h2) (fun i hi hi2 => ?_) (fun i hi hi2 => ?_))
        · by_cases e : i = a
          · subst e; rw [pk_us]; exact wf_mn_2 ha hb (by omega) (by omega) (by omega) y1 y2 y3
          · rw [pk_un (by omega)]; exact h3 i (by omega) hi2
        · by_cases e : i = a
          · subst e; rw [pk_us]; exact wf_mx_2 ka kb (by omega) (by omega) (by omega) w1 w2 w3
          · rw [pk_un (by omega)]; exact h4 i (by omega) hi2
      unfold wX_findExtremes_65
      rw [wf_2m, nI_add, nI_pred l, wf_24, wf_24, nI_add, nI_add]
      refine br_f (nI_nlt (by omega) (by omega)) (nm_e (nm_r (nI_add _ _) ?_))
      rw [nI_clamp (n := 24 * l + a) (by omega), nI_clamp (n := 24 * l + a + hf) (by omega)]
      refine ⟨vp_in_nI (by omega) (by omega), vp_in_nI (by omega) (by omega), br_c (fun h => ⟨vp_in_nI (by omega) (by omega), main _ (Or.inr rfl) ?_ (Int.le_refl _)⟩) (fun h => ⟨vp_in_nI (by omega) (by omega), main _ (Or.inl rfl) (Int.le_refl _) ?_⟩)⟩
      · rw [Int32.le_iff_toInt_le] at h; exact h
      · rw [Int32.le_iff_toInt_le] at h; omega
theorem wf_xe52 {post : SX → Prop} (hc : c ≤ 24) (hE : ∀ low high : Nat → Int32, wf_Lo c V o 5 low → wf_Hi c V o 5 high → post (nI c, kd, fr, tt, ff, fe, cu, G, K, V, ord, spt, beg, pf, pe, st, tot, low, high)) : ∀ (d l n : Nat) (low high : Nat → Int32), l + 1 + d = 5 → d < n → wf_Lo c V o (l + 1) low → wf_Hi c V o (l + 1) high → wX_findExtremes_52 post (nI c) kd fr tt ff fe cu n (nI (l + 1)) G K V ord spt beg pf pe st tot low high := by
  intro d
  induction d with
  | zero =>
    intro l n low high hs hn h1 h2
    obtain ⟨n, rfl⟩ : ∃ m, n = m + 1 := ⟨n - 1, by omega⟩
    obtain rfl : l = 4 := by omega
    exact br_t (by decide) (hE low high h1 h2)
  | succ d ih =>
    intro l n low high hs hn h1 h2
    obtain ⟨n, rfl⟩ : ∃ m, n = m + 1 := ⟨n - 1, by omega⟩
    refine br_f (nI_ge (b := 5) (by omega) (by decide)) ?_
    rw [nI_pred l, wf_sh l (by omega)]
    refine nm_e ⟨c + 1, wf_xe65 hc (by omega) rfl (fun low' high' k1 k2 => ih (l + 1) n low' high' (by omega) (by omega) k1 k2) c 0 (c + 1) low high (by omega) (by omega) h1 h2 (fun i hi => by omega) (fun i hi => by omega)⟩
theorem wf_xe2 {post : SX → Prop} (hc : c ≤ 24) (so : wf_so (wf_w G K) o c) (ho : ∀ j, j < c → ord j = nI (o j)) (hE : ∀ low high : Nat → Int32, wf_Lo c V o 5 low → wf_Hi c V o 5 high → post (nI c, kd, fr, tt, ff, fe, cu, G, K, V, ord, spt, beg, pf, pe, st, tot, low, high)) : ∀ (d a n : Nat) (low high : Nat → Int32), a + d = c → d < n → (∀ j, j < a → low j = V (o j)) → (∀ j, j < a → high j = V (o j)) → wX_findExtremes_2 post (nI c) kd fr tt ff fe cu n (nI a) G K V ord spt beg pf pe st tot low high := by
  intro d
  induction d with
  | zero =>
    intro a n low high hs hn h1 h2
    obtain ⟨n, rfl⟩ : ∃ m, n = m + 1 := ⟨n - 1, by omega⟩
    obtain rfl : a = c := by omega
    refine br_t (Int32.le_refl _) ⟨5, wf_xe52 hc hE 4 0 5 low high (by omega) (by omega) (fun l hl i hi => ?_) (fun l hl i hi => ?_)⟩
    · obtain rfl : l = 0 := by omega
      rw [Nat.pow_zero] at hi ⊢
      rw [show 24 * 0 + i = i from by omega, h1 i (by omega)]
      exact wf_mn_1 i
    · obtain rfl : l = 0 := by omega
      rw [Nat.pow_zero] at hi ⊢
      rw [show 24 * 0 + i = i from by omega, h2 i (by omega)]
      exact wf_mx_1 i
  | succ d ih =>
    intro a n low high hs hn h1 h2
    obtain ⟨n, rfl⟩ : ∃ m, n = m + 1 := ⟨n - 1, by omega⟩
    have hac : a < c := by omega
    have oa := so.1 a hac
    have e1 := nI_clamp (n := a) (by omega)
    have e3 := nI_clamp (n := o a) (by omega)
    have i1 : vp_in (nI a) 24 := vp_in_nI (by omega) (by omega)
    have i2 : vp_in (nI (o a)) 24 := vp_in_nI (by omega) (by omega)
    have i3 : vp_in (nI a) 120 := vp_in_nI (by omega) (by omega)
    refine br_f (nI_ge (by omega) (by omega)) ?_
    rw [e1, ho a hac, e3]
    refine ⟨i1, i2, i3, nm_e ⟨i1, i2, i3, nm_e (nm_r (nI_1 a) (ih (a + 1) n _ _ (by omega) (by omega) (fun j hj => ?_) (fun j hj => ?_)))⟩⟩
    · by_cases e : j = a
      · subst e; exact pk_us
      · rw [pk_un e]; exact h1 j (by omega)
    · by_cases e : j = a
      · subst e; exact pk_us
      · rw [pk_un e]; exact h2 j (by omega)
theorem wf_xext {post : SX → Prop} (hc : c ≤ 24) (so : wf_so (wf_w G K) o c) (ho : ∀ j, j < c → ord j = nI (o j)) (hE : ∀ low high : Nat → Int32, wf_Lo c V o 5 low → wf_Hi c V o 5 high → post (nI c, kd, fr, tt, ff, fe, cu, G, K, V, ord, spt, beg, pf, pe, st, tot, low, high)) : wpX_findExtremes post (nI c, kd, fr, tt, ff, fe, cu, G, K, V, ord, spt, beg, pf, pe, st, tot, low, high) :=
  ⟨c + 1, wf_xe2 hc so ho hE c 0 (c + 1) low high (by omega) (by omega) (fun j hj => by omega) (fun j hj => by omega)⟩
theorem wf_x80 {post : SX → Prop} (hc : c ≤ 24) (ok : wf_ok c G K V) (so : wf_so (wf_w G K) o c) (ho : ∀ j, j < c → ord j = nI (o j)) (hE : ∀ spt beg pf pe st tot low high : Nat → Int32, wf_Fr c G K V o ord spt beg pf pe st tot low high → post (nI c, kd, fr, tt, ff, fe, cu, G, K, V, ord, spt, beg, pf, pe, st, tot, low, high)) : ∀ (d a n : Nat) (spt : Nat → Int32), a + d = c → d < n → (∀ j, j < a → spt (o j) = nI j) → wX_refresh_80 post (nI c) kd fr tt ff fe cu n (nI a) G K V ord spt beg pf pe st tot low high := by
  intro d
  induction d with
  | zero =>
    intro a n spt hs hn h1
    obtain ⟨n, rfl⟩ : ∃ m, n = m + 1 := ⟨n - 1, by omega⟩
    obtain rfl : a = c := by omega
    refine br_t (Int32.le_refl _) ?_
    refine wf_xgroups hc ok so ho (fun beg' tot' k1 k2 => ?_)
    refine wf_xpeers hc ok so ho k1 (fun pf' pe' st' k3 k4 k5 => ?_)
    refine wf_xext hc so ho (fun low' high' k6 k7 => ?_)
    exact hE spt beg' pf' pe' st' tot' low' high' ⟨so, ho, h1, k1, k2, k3, k4, k5, k6, k7⟩
  | succ d ih =>
    intro a n spt hs hn h1
    obtain ⟨n, rfl⟩ : ∃ m, n = m + 1 := ⟨n - 1, by omega⟩
    have hac : a < c := by omega
    have oa := so.1 a hac
    have e1 := nI_clamp (n := a) (by omega)
    have e3 := nI_clamp (n := o a) (by omega)
    refine br_f (nI_ge (by omega) (by omega)) ?_
    rw [e1, ho a hac, e3]
    refine ⟨vp_in_nI (by omega) (by omega), vp_in_nI (by omega) (by omega), nm_e (nm_r (nI_1 a) (ih (a + 1) n _ (by omega) (by omega) (fun j hj => ?_)))⟩
    by_cases e : j = a
    · subst e; exact pk_us
    · rw [pk_un (fun z => e (wf_so_inj so (by omega) hac z))]; exact h1 j (by omega)
/-- what holds of the class's state at every turn: if it says so, its tables are right -/
def wf_Cu (c : Nat) (G K V : Nat → Int32) (cu : Int32) (ord spt beg pf pe st tot low high : Nat → Int32) : Prop := cu = 0 ∨ (cu = 1 ∧ ∃ o, wf_Fr c G K V o ord spt beg pf pe st tot low high)
theorem wf_xrefresh {post : SX → Prop} (hc : c ≤ 24) (ok : wf_ok c G K V) (hcu : wf_Cu c G K V cu ord spt beg pf pe st tot low high) (hE : ∀ (o : Nat → Nat) (ord spt beg pf pe st tot low high : Nat → Int32), wf_Fr c G K V o ord spt beg pf pe st tot low high → post (nI c, kd, fr, tt, ff, fe, 1, G, K, V, ord, spt, beg, pf, pe, st, tot, low, high)) : wpX_refresh post (nI c, kd, fr, tt, ff, fe, cu, G, K, V, ord, spt, beg, pf, pe, st, tot, low, high) := by
  rcases hcu with rfl | ⟨rfl, o, h⟩
  · refine br_t rfl ⟨c + 1, ?_⟩
    exact wf_x15 hc ok (fun ord' o' so ho => ⟨c + 1, wf_x80 hc ok so ho (fun spt' beg' pf' pe' st' tot' low' high' hf => hE o' ord' spt' beg' pf' pe' st' tot' low' high' hf) c 0 (c + 1) spt (by omega) (by omega) (fun j hj => by omega)⟩) c 0 (c + 1) ord (fun j => j) (by omega) (by omega) (wf_so_0 _ _) (fun j hj => by omega)
  · exact br_f wf_10 (hE o ord spt beg pf pe st tot low high h)
end WFE
end
section
/-! the class's frames -/
theorem wf_1i : (1 : Int32).toInt = 1 := by decide
theorem wf_0i : (0 : Int32).toInt = 0 := by decide
section WFF
variable {c : Nat} {kd fr tt ff fe cu : Int32} {G K V ord spt beg pf pe st tot low high : Nat → Int32} {o : Nat → Nat}
theorem wf_xrow1 {post : Int32 → Prop} (hc : c ≤ 24) {j : Nat} (hj : j < c) (h : post 1) : wpX_isRow post (nI c, kd, fr, tt, ff, fe, cu, G, K, V, ord, spt, beg, pf, pe, st, tot, low, high) (nI j) :=
  br_f (nI_pos (by omega)) (br_f (nI_ge hj (by omega)) h)
theorem wf_xrow0 {post : Int32 → Prop} {p : Int32} (hp : p < 0 ∨ nI c ≤ p) (h : post 0) : wpX_isRow post (nI c, kd, fr, tt, ff, fe, cu, G, K, V, ord, spt, beg, pf, pe, st, tot, low, high) p := by
  by_cases h0 : p < 0
  · exact br_t h0 h
  · exact br_f h0 (br_t (hp.resolve_left h0) h)
theorem wf_xfw61 {post : Int32 → Prop} {J : Int32 → Int32 → Prop} {lim x3 x5 z0 : Int32} {a k : Nat} (ha : a < 24) (h1 : z0.toInt < lim.toInt → J (pe a) (nI (k + 1))) (h2 : ¬ z0.toInt < lim.toInt → post (nI a)) : wX_firstWith_61 post J lim x3 (nI a) x5 (nI k) z0 (nI c) kd fr tt ff fe cu G K V ord spt beg pf pe st tot low high := by
  unfold wX_firstWith_61
  rw [nI_clamp (n := a) (by omega), nI_1 k, Int32.lt_iff_toInt_lt]
  exact br_c (fun h => ⟨vp_in_nI (by omega) (by omega), nm_e (nm_e (h1 h))⟩) h2
theorem wf_xfw21 {post : Int32 → Prop} (hc : c ≤ 24) (so : wf_so (wf_w G K) o c) (ok : wf_ok c G K V) (ho : ∀ j, j < c → ord j = nI (o j)) (hP : ∀ j, j < c → wf_pn c G K o pe j) {x b b' : Nat} (hb : wf_bg c G o x b) (hb' : wf_bg c G o (x + 1) b') {lim p2 : Int32} {hh : Nat → Int} (h0 : p2 = 0 → ∀ j, j < c → (st j).toInt = hh j) (h1 : ¬ p2 = 0 → ∀ j, j < c → (K (o j)).toInt = hh j) (hm : ∀ i j, b ≤ i → i ≤ j → j < b' → hh i ≤ hh j) (he : ∀ i j, i < c → j < c → wf_q G K (o i) = wf_q G K (o j) → hh i = hh j) (hR : ∀ R, b ≤ R → R ≤ b' → (∀ j, b ≤ j → j < b' → (hh j < lim.toInt ↔ j < R)) → post (nI R)) : ∀ d a k n, b' ≤ a + d → d < n → b ≤ a → a ≤ b' → k + b ≤ a → (∀ j, b ≤ j → j < a → hh j < lim.toInt) → wX_firstWith_21 post lim p2 (nI b') (nI c) kd fr tt ff fe cu G K V ord spt beg pf pe st tot low high n (nI a) (nI k) := by
  have hbc := hb'.1
  intro d
  induction d with
  | zero =>
    intro a k n hs hn hba hab hk hi
    obtain ⟨n, rfl⟩ : ∃ m, n = m + 1 := ⟨n - 1, by omega⟩
    have P : post (nI b') := hR b' (by omega) (Nat.le_refl _) (fun j hj hj2 => ⟨fun _ => hj2, fun _ => hi j hj (by omega)⟩)
    exact pk_le 24 k (fun _ => P) (fun _ => br_t (nI_le (by omega) (by omega)) P)
  | succ d ih =>
    intro a k n hs hn hba hab hk hi
    obtain ⟨n, rfl⟩ : ∃ m, n = m + 1 := ⟨n - 1, by omega⟩
    by_cases hx : b' ≤ a
    · have P : post (nI b') := hR b' (by omega) (Nat.le_refl _) (fun j hj hj2 => ⟨fun _ => hj2, fun _ => hi j hj (by omega)⟩)
      exact pk_le 24 k (fun _ => P) (fun _ => br_t (nI_le (by omega) (by omega)) P)
    · have hac : a < c := by omega
      have oa := so.1 a hac
      have e1 := nI_clamp (n := a) (by omega)
      have e3 := nI_clamp (n := o a) (by omega)
      refine br_f (nI_ge (b := 24) (by omega) (by decide)) (br_f (nI_ge (by omega) (by omega)) ?_)
      rw [e1, ho a hac, e3]
      obtain ⟨p, q1, q2, q3, q4⟩ := hP a hac
      have hpb : p ≤ b' := by
        rcases Nat.lt_or_ge b' p with z | z
        · have w1 := (q4 b' (by omega)).mpr z
          have w2 := (hb'.2 a hac).mpr (by omega)
          have w3 := ok _ (so.1 b' (by omega))
          have w4 := ok _ oa
          have w5 : (G (o b')).toInt ≤ (G (o a)).toInt := by unfold wf_q at w1; omega
          have w6 := (hb'.2 b' (by omega)).mp (by omega)
          omega
        · exact z
      have go : ∀ z0 : Int32, z0.toInt = hh a → wX_firstWith_61 post (wX_firstWith_21 post lim p2 (nI b') (nI c) kd fr tt ff fe cu G K V ord spt beg pf pe st tot low high n) lim p2 (nI a) (nI b') (nI k) z0 (nI c) kd fr tt ff fe cu G K V ord spt beg pf pe st tot low high := by
        intro z0 ez
        refine wf_xfw61 (by omega) (fun y => ?_) (fun y => ?_)
        · rw [q1]
          refine ih p (k + 1) n (by omega) (by omega) (by omega) hpb (by omega) (fun j hj hj2 => ?_)
          rcases Nat.lt_or_ge j a with w | w
          · exact hi j hj w
          · have w1 := (q4 j (by omega)).mpr hj2
            have w2 := wf_oq hc so w (by omega)
            rw [he j a (by omega) hac (by omega)]; omega
        · refine hR a hba hab (fun j hj hj2 => ⟨fun w => ?_, fun w => hi j hj w⟩)
          rcases Nat.lt_or_ge j a with w2 | w2
          · exact w2
          · have := hm a j hba w2 hj2; omega
      exact br_c (fun z => ⟨vp_in_nI (by omega) (by omega), go _ (h0 z a hac)⟩) (fun z => ⟨vp_in_nI (by omega) (by omega), vp_in_nI (by omega) (by omega), go _ (h1 z a hac)⟩)
theorem wf_xfw {post : Int32 → Prop} (hc : c ≤ 24) (ok : wf_ok c G K V) (hF : wf_Fr c G K V o ord spt beg pf pe st tot low high) {x b b' : Nat} (hx : x ≤ 3) (eb : beg x = nI b) (eb' : beg (x + 1) = nI b') (hb : wf_bg c G o x b) (hb' : wf_bg c G o (x + 1) b') {lim p2 : Int32} {hh : Nat → Int} (h0 : p2 = 0 → ∀ j, j < c → (st j).toInt = hh j) (h1 : ¬ p2 = 0 → ∀ j, j < c → (K (o j)).toInt = hh j) (hm : ∀ i j, b ≤ i → i ≤ j → j < b' → hh i ≤ hh j) (he : ∀ i j, i < c → j < c → wf_q G K (o i) = wf_q G K (o j) → hh i = hh j) (hR : ∀ R, b ≤ R → R ≤ b' → (∀ j, b ≤ j → j < b' → (hh j < lim.toInt ↔ j < R)) → post (nI R)) : wpX_firstWith post (nI c, kd, fr, tt, ff, fe, cu, G, K, V, ord, spt, beg, pf, pe, st, tot, low, high) (nI x) lim p2 := by
  obtain ⟨so, ho, _, _, _, _, _, hP, _, _⟩ := hF
  unfold wpX_firstWith
  dsimp only
  rw [nI_1 x, nI_clamp (n := x) (by omega), nI_clamp (n := x + 1) (by omega), eb, eb']
  exact ⟨vp_in_nI (by omega) (by omega), nm_e ⟨vp_in_nI (by omega) (by omega), nm_e ⟨b' + 1, wf_xfw21 hc so ok ho hP hb hb' h0 h1 hm he hR b' b 0 (b' + 1) (by omega) (by omega) (Nat.le_refl _) (wf_bg_le ok so hb hb') (by omega) (fun j hj hj2 => by omega)⟩⟩⟩
theorem wf_xf210 {post : SX → Prop} {b b' : Nat} {z w : Int32} (hbb : b' ≤ 24) (hz : (b : Int) ≤ z.toInt) (hw : w.toInt ≤ (b' : Int)) (h : ∀ F E : Nat, F ≤ E → E ≤ b' → (∀ j : Nat, (F ≤ j ∧ j < E) ↔ (z.toInt ≤ (j : Int) ∧ (j : Int) < w.toInt)) → post (nI c, kd, fr, tt, nI F, nI E, cu, G, K, V, ord, spt, beg, pf, pe, st, tot, low, high)) : wX_findFrame_210 post w (nI c) kd fr tt z fe cu G K V ord spt beg pf pe st tot low high := by
  unfold wX_findFrame_210
  refine br_c (fun y => ?_) (fun y => ?_)
  · rw [Int32.lt_iff_toInt_lt] at y
    obtain ⟨F, hF, eF⟩ := nI_of (x := z) (by rw [Int32.lt_iff_toInt_lt, wf_0i]; omega)
    obtain ⟨E, hE, eE⟩ := nI_of (x := w) (by rw [Int32.lt_iff_toInt_lt, wf_0i]; omega)
    have tF : z.toInt = (F : Int) := by rw [eF, nI_toInt hF]
    have tE : w.toInt = (E : Int) := by rw [eE, nI_toInt hE]
    have := h F E (by omega) (by omega) (fun j => by omega)
    rw [eF, eE]; exact this
  · rw [Int32.lt_iff_toInt_lt] at y
    exact h 0 0 (by omega) (by omega) (fun j => by omega)
theorem wf_xf149 {post : SX → Prop} {x b b' : Nat} (hx : x ≤ 3) (eb : beg x = nI b) (eb' : beg (x + 1) = nI b') (hbb : b ≤ 24) (hbb' : b' ≤ 24) (h : ∀ F E : Nat, F ≤ E → E ≤ b' → (∀ j : Nat, (F ≤ j ∧ j < E) ↔ ((b ≤ j ∧ j < b') ∧ ff.toInt ≤ (j : Int) ∧ (j : Int) < fe.toInt)) → post (nI c, kd, fr, tt, nI F, nI E, cu, G, K, V, ord, spt, beg, pf, pe, st, tot, low, high)) : wX_findFrame_149 post (nI x) (nI c) kd fr tt ff fe cu G K V ord spt beg pf pe st tot low high := by
  have tb := nI_toInt (n := b) (by omega)
  have tb' := nI_toInt (n := b') (by omega)
  have main : ∀ z : Int32, (b : Int) ≤ z.toInt → ff.toInt ≤ z.toInt → (z.toInt = (b : Int) ∨ z.toInt = ff.toInt) → wX_findFrame_176 post (nI x) z (nI c) kd fr tt ff fe cu G K V ord spt beg pf pe st tot low high := by
    intro z z1 z2 z3
    unfold wX_findFrame_176
    rw [nI_1 x, nI_clamp (n := x + 1) (by omega), eb']
    refine ⟨vp_in_nI (by omega) (by omega), br_c (fun y => ?_) (fun y => ⟨vp_in_nI (by omega) (by omega), ?_⟩)⟩
    · rw [Int32.le_iff_toInt_le, tb'] at y
      exact wf_xf210 hbb' z1 y (fun F E k1 k2 k3 => h F E k1 k2 (fun j => (k3 j).trans (by omega)))
    · rw [Int32.le_iff_toInt_le, tb'] at y
      exact wf_xf210 hbb' z1 (by omega) (fun F E k1 k2 k3 => h F E k1 k2 (fun j => (k3 j).trans (by omega)))
  unfold wX_findFrame_149
  rw [nI_clamp (n := x) (by omega), eb]
  refine ⟨vp_in_nI (by omega) (by omega), br_c (fun y => ?_) (fun y => ⟨vp_in_nI (by omega) (by omega), ?_⟩)⟩
  · rw [Int32.le_iff_toInt_le, tb] at y
    exact main ff (by omega) (by omega) (Or.inr rfl)
  · rw [Int32.le_iff_toInt_le, tb] at y
    exact main (nI b) (by omega) (by omega) (Or.inl tb)
/-- the frame of the row at place j, by places -/
theorem wf_fm_o {x b b' j i : Nat} (hi : i < c) (hx : (G (o j)).toInt = (x : Int)) (hb : wf_bg c G o x b) (hb' : wf_bg c G o (x + 1) b') : wf_fm c kd fr tt G K (o j) (o i) = true ↔ ((b ≤ i ∧ i < b') ∧ fr.toInt ≤ wf_h c kd G K (o i) - wf_h c kd G K (o j) ∧ wf_h c kd G K (o i) - wf_h c kd G K (o j) ≤ tt.toInt) := by
  unfold wf_fm
  rw [decide_eq_true_eq, hx, wf_bg_in hi hb hb']
theorem wf_xframe {post : SX → Prop} (hc : c ≤ 24) (ok : wf_ok c G K V) (hcu : wf_Cu c G K V cu ord spt beg pf pe st tot low high) (hkd : kd = 0 ∨ kd = 1 ∨ kd = 2) (hfr : -30 ≤ fr.toInt ∧ fr.toInt ≤ 30) (htt : -30 ≤ tt.toInt ∧ tt.toInt ≤ 30) {r : Nat} (hr : r < c) (hE : ∀ (o : Nat → Nat) (ord spt beg pf pe st tot low high : Nat → Int32) (F E : Nat), wf_Fr c G K V o ord spt beg pf pe st tot low high → F ≤ E → E ≤ c → (∀ i, i < c → (wf_fm c kd fr tt G K r (o i) = true ↔ (F ≤ i ∧ i < E))) → post (nI c, kd, fr, tt, nI F, nI E, 1, G, K, V, ord, spt, beg, pf, pe, st, tot, low, high)) : wpX_findFrame post (nI c, kd, fr, tt, ff, fe, cu, G, K, V, ord, spt, beg, pf, pe, st, tot, low, high) (nI r) := by
  unfold wpX_findFrame
  refine wf_xrefresh hc ok hcu (fun o ord spt beg pf pe st tot low high hF => ?_)
  have hF' := hF
  obtain ⟨so, ho, hs, hB, hT, hPf, hSt, hPe, hLo, hHi⟩ := hF'
  obtain ⟨j, hj, rfl⟩ := so.2.2.1 r hr
  obtain ⟨x, hx, eg, et⟩ := wf_g5 ok hr
  obtain ⟨b, eb, hb⟩ := hB x (by omega)
  obtain ⟨b', eb', hb'⟩ := hB (x + 1) (by omega)
  have hbl := wf_bg_le ok so hb hb'
  have hb1 := hb.1
  have hb2 := hb'.1
  have okr := ok _ hr
  have hd := wf_cn_le (fun s => wf_ls G K s (o j) && wf_fs G K s) c
  have hD : wf_D c G K (o j) ≤ c := hd
  have tj := nI_toInt (n := j) (by omega)
  have tD := nI_toInt (n := wf_D c G K (o j)) (by omega)
  have sj := hSt j hj
  dsimp only
  rw [nI_clamp (n := o j) (by omega), hs j hj, eg]
  have vr : vp_in (nI (o j)) 24 := vp_in_nI (by omega) (by omega)
  have vj : vp_in (nI j) 24 := vp_in_nI (by omega) (by omega)
  refine ⟨vr, nm_e ⟨vr, nm_e ?_⟩⟩
  rcases hkd with rfl | rfl | rfl
  · refine br_t rfl (nm_e (nm_e ?_))
    have a1 : (nI j + fr).toInt = (j : Int) + fr.toInt := by rw [wf_add (by omega) (by omega), tj]
    have a2 : (nI j + tt).toInt = (j : Int) + tt.toInt := by rw [wf_add (by omega) (by omega), tj]
    have a3 : (nI j + tt + 1).toInt = (j : Int) + tt.toInt + 1 := by rw [wf_add (by omega) (by rw [wf_1i]; omega), a2, wf_1i]
    refine wf_xf149 hx eb eb' (by omega) (by omega) (fun F E k1 k2 k3 => hE o ord spt beg pf pe st tot low high F E hF k1 (by omega) (fun i hi => ?_))
    rw [k3 i, a1, a3, wf_fm_o hi et hb hb']
    have hP1 := wf_P_o ok hc so hj et hb hb'
    unfold wf_h
    rw [if_pos rfl, if_pos rfl]
    constructor
    · rintro ⟨⟨y1, y2⟩, y3, y4⟩
      have hP2 := wf_P_o ok hc so hi ((wf_bg_in hi hb hb').mpr ⟨y1, y2⟩) hb hb'
      omega
    · rintro ⟨⟨y1, y2⟩, y3, y4⟩
      have hP2 := wf_P_o ok hc so hi ((wf_bg_in hi hb hb').mpr ⟨y1, y2⟩) hb hb'
      omega
  · refine br_f wf_10 (br_t rfl ⟨vr, ?_⟩)
    have a1 : (K (o j) + fr).toInt = (K (o j)).toInt + fr.toInt := wf_add (by omega) (by omega)
    have a2 : (K (o j) + tt).toInt = (K (o j)).toInt + tt.toInt := wf_add (by omega) (by omega)
    have a3 : (K (o j) + tt + 1).toInt = (K (o j)).toInt + tt.toInt + 1 := by rw [wf_add (by omega) (by rw [wf_1i]; omega), a2, wf_1i]
    have m1 : ∀ i i', b ≤ i → i ≤ i' → i' < b' → (K (o i)).toInt ≤ (K (o i')).toInt := by
      intro i i' y1 y2 y3
      have w1 := wf_oq hc so y2 (by omega)
      have w2 := (wf_bg_in (j := i) (by omega) hb hb').mpr (by omega)
      have w3 := (wf_bg_in (j := i') (by omega) hb hb').mpr (by omega)
      unfold wf_q at w1; omega
    have m2 : ∀ i i', i < c → i' < c → wf_q G K (o i) = wf_q G K (o i') → (K (o i)).toInt = (K (o i')).toInt := fun i i' y1 y2 e => ((wf_qe ok (so.1 i y1) (so.1 i' y2)).mp e).2
    refine wf_xfw hc ok hF hx eb eb' hb hb' (fun z => absurd z wf_10) (fun _ i hi => rfl) m1 m2 (fun R r1 r2 r3 => ⟨vr, ?_⟩)
    refine wf_xfw hc ok hF hx eb eb' hb hb' (fun z => absurd z wf_10) (fun _ i hi => rfl) m1 m2 (fun Q q1 q2 q3 => ?_)
    refine wf_xf149 hx eb eb' (by omega) (by omega) (fun F E k1 k2 k3 => hE o ord spt beg pf pe st tot low high F E hF k1 (by omega) (fun i hi => ?_))
    rw [k3 i, wf_fm_o hi et hb hb', nI_toInt (n := R) (by omega), nI_toInt (n := Q) (by omega)]
    rw [a1] at r3
    rw [a3] at q3
    unfold wf_h
    rw [if_neg wf_10, if_neg (by decide), if_neg wf_10, if_neg (by decide)]
    constructor
    · rintro ⟨⟨y1, y2⟩, y3, y4⟩
      have w1 := r3 i y1 y2
      have w2 := q3 i y1 y2
      omega
    · rintro ⟨⟨y1, y2⟩, y3, y4⟩
      have w1 := r3 i y1 y2
      have w2 := q3 i y1 y2
      omega
  · refine br_f (by decide) (br_f (by decide) ⟨vj, ?_⟩)
    rw [nI_clamp (n := j) (by omega), sj]
    have a1 : (nI (wf_D c G K (o j)) + fr).toInt = (wf_D c G K (o j) : Int) + fr.toInt := by rw [wf_add (by omega) (by omega), tD]
    have a2 : (nI (wf_D c G K (o j)) + tt).toInt = (wf_D c G K (o j) : Int) + tt.toInt := by rw [wf_add (by omega) (by omega), tD]
    have a3 : (nI (wf_D c G K (o j)) + tt + 1).toInt = (wf_D c G K (o j) : Int) + tt.toInt + 1 := by rw [wf_add (by omega) (by rw [wf_1i]; omega), a2, wf_1i]
    have m0 : ∀ i, i < c → (st i).toInt = (wf_D c G K (o i) : Int) := by
      intro i hi
      have hd2 : wf_D c G K (o i) ≤ c := wf_cn_le (fun s => wf_ls G K s (o i) && wf_fs G K s) c
      rw [hSt i hi, nI_toInt (by omega)]
    have m1 : ∀ i i', b ≤ i → i ≤ i' → i' < b' → (wf_D c G K (o i) : Int) ≤ (wf_D c G K (o i') : Int) := by
      intro i i' y1 y2 y3
      have w1 := wf_oq hc so y2 (by omega)
      have w2 := (wf_bg_in (j := i) (by omega) hb hb').mpr (by omega)
      have w3 := (wf_bg_in (j := i') (by omega) hb hb').mpr (by omega)
      have w4 := wf_D_le ok (so.1 i (by omega)) (so.1 i' (by omega)) (by omega) (by unfold wf_q at w1; omega)
      omega
    have m2 : ∀ i i', i < c → i' < c → wf_q G K (o i) = wf_q G K (o i') → (wf_D c G K (o i) : Int) = (wf_D c G K (o i') : Int) := fun i i' y1 y2 e => by rw [wf_D_eq ok (so.1 i y1) (so.1 i' y2) e]
    refine wf_xfw hc ok hF hx eb eb' hb hb' (fun _ => m0) (fun z => absurd rfl z) m1 m2 (fun R r1 r2 r3 => ⟨vj, ?_⟩)
    refine wf_xfw hc ok hF hx eb eb' hb hb' (fun _ => m0) (fun z => absurd rfl z) m1 m2 (fun Q q1 q2 q3 => ?_)
    refine wf_xf149 hx eb eb' (by omega) (by omega) (fun F E k1 k2 k3 => hE o ord spt beg pf pe st tot low high F E hF k1 (by omega) (fun i hi => ?_))
    rw [k3 i, wf_fm_o hi et hb hb', nI_toInt (n := R) (by omega), nI_toInt (n := Q) (by omega)]
    rw [a1] at r3
    rw [a3] at q3
    unfold wf_h
    rw [if_neg (by decide), if_pos rfl, if_neg (by decide), if_pos rfl]
    constructor
    · rintro ⟨⟨y1, y2⟩, y3, y4⟩
      have w1 := r3 i y1 y2
      have w2 := q3 i y1 y2
      omega
    · rintro ⟨⟨y1, y2⟩, y3, y4⟩
      have w1 := r3 i y1 y2
      have w2 := q3 i y1 y2
      omega
theorem wf_xlevel {post : Int32 → Prop} {s : Nat} (h1 : 1 ≤ s) (h2 : s ≤ 24) (h : ∀ l, l < 5 → 2 ^ l ≤ s → s < 2 * 2 ^ l → post (nI l)) : wpX_levelFor post (nI s) := by
  have main : ∀ d l n, l + d = 4 → d < n → 2 ^ l ≤ s → wX_levelFor_2 post (nI s) n (nI l) := by
    intro d
    induction d with
    | zero =>
      intro l n hs hn hl
      obtain ⟨n, rfl⟩ : ∃ m, n = m + 1 := ⟨n - 1, by omega⟩
      obtain rfl : l = 4 := by omega
      exact br_t (by decide) (h 4 (by omega) hl (by omega))
    | succ d ih =>
      intro l n hs hn hl
      obtain ⟨n, rfl⟩ : ∃ m, n = m + 1 := ⟨n - 1, by omega⟩
      have hp := wf_p24 l (by omega)
      refine br_f (nI_ge (b := 4) (by omega) (by decide)) ?_
      rw [wf_sh2 l (by omega)]
      exact pk_lt s (2 * 2 ^ l) (fun z => h l (by omega) hl z) (fun z => nm_r (nI_1 l) (ih (l + 1) n (by omega) (by omega) (by rw [Nat.pow_succ]; omega)))
  exact ⟨5, main 4 0 5 (by omega) (by omega) (by omega)⟩
end WFF
end
section
/-! the class's questions, each answered by what the reference counts -/
theorem wf_tile_a {Z N p : Nat} (hN : 1 ≤ N) (h : p < Z % N * (Z / N + 1)) : p / (Z / N + 1) + 1 ≤ N ∧ (∀ t, t < p / (Z / N + 1) + 1 → wf_A (Z / N) (Z % N) t ≤ p) ∧ p < wf_A (Z / N) (Z % N) (p / (Z / N + 1) + 1) := by
  have hm : Z % N < N := Nat.mod_lt _ (by omega)
  generalize Z / N = q at *
  generalize Z % N = m at *
  have he : p / (q + 1) < m := (Nat.div_lt_iff_lt_mul (by omega)).mpr h
  have h1 := Nat.div_add_mod p (q + 1)
  have h2 := Nat.mod_lt p (show q + 1 > 0 by omega)
  generalize p / (q + 1) = e at *
  generalize p % (q + 1) = f at *
  have h3 : (q + 1) * e = e * q + e := by rw [Nat.mul_comm, Nat.mul_succ]
  refine ⟨by omega, fun t ht => ?_, ?_⟩
  · unfold wf_A
    have h4 : t * q ≤ e * q := Nat.mul_le_mul_right q (by omega)
    omega
  · unfold wf_A
    rw [Nat.succ_mul]
    omega
theorem wf_tile_b {Z N p : Nat} (hN : 1 ≤ N) (hp : p < Z) (h : Z % N * (Z / N + 1) ≤ p) (hq : 0 < Z / N) : Z % N + (p - Z % N * (Z / N + 1)) / (Z / N) + 1 ≤ N ∧ (∀ t, t < Z % N + (p - Z % N * (Z / N + 1)) / (Z / N) + 1 → wf_A (Z / N) (Z % N) t ≤ p) ∧ p < wf_A (Z / N) (Z % N) (Z % N + (p - Z % N * (Z / N + 1)) / (Z / N) + 1) := by
  have hm : Z % N < N := Nat.mod_lt _ (by omega)
  have h0 := Nat.div_add_mod Z N
  generalize Z / N = q at *
  generalize Z % N = m at *
  have h1 := Nat.div_add_mod (p - m * (q + 1)) q
  have h2 := Nat.mod_lt (p - m * (q + 1)) hq
  generalize (p - m * (q + 1)) / q = e at *
  generalize (p - m * (q + 1)) % q = f at *
  rw [Nat.mul_succ] at h h1
  have h3 : (m + e) * q = m * q + q * e := by rw [Nat.add_mul, Nat.mul_comm e q]
  refine ⟨?_, fun t ht => ?_, ?_⟩
  · rcases Nat.lt_or_ge (m + e) N with z | z
    · omega
    · have h4 : N * q ≤ (m + e) * q := Nat.mul_le_mul_right q z
      omega
  · unfold wf_A
    have h4 : t * q ≤ (m + e) * q := Nat.mul_le_mul_right q (by omega)
    omega
  · unfold wf_A
    rw [Nat.succ_mul]
    omega
theorem wf_xgrp1 {post : Int32 → Prop} {x : Nat} (hx : x ≤ 3) (h : post 1) : wpX_isGroup post (nI x) :=
  br_f (nI_pos (by omega)) (br_f (nI_ge (b := 4) (by omega) (by decide)) h)
section WFA
variable {c : Nat} {kd fr tt ff fe cu : Int32} {G K V ord spt beg pf pe st tot low high : Nat → Int32} {o : Nat → Nat}
theorem wf_fm_cn (so : wf_so (wf_w G K) o c) {p : Nat → Bool} {F E : Nat} (h1 : F ≤ E) (h2 : E ≤ c) (h : ∀ i, i < c → (p (o i) = true ↔ (F ≤ i ∧ i < E))) : wf_cn p c = E - F := by
  rw [← so.2.2.2.1]
  exact wf_cn_iv h1 h2 h
theorem wf_fm_sm (so : wf_so (wf_w G K) o c) {p : Nat → Bool} {F E : Nat} (h1 : F ≤ E) (h2 : E ≤ c) (h : ∀ i, i < c → (p (o i) = true ↔ (F ≤ i ∧ i < E))) : wf_sm (fun s => if p s = true then V s else 0) c = wf_sm (fun i => V (o i)) E - wf_sm (fun i => V (o i)) F := by
  rw [← so.2.2.2.2]
  exact wf_sm_iv h1 c h2 (fun i hi z1 z2 => if_pos ((h i hi).mpr ⟨z1, z2⟩)) (fun i hi z => if_neg (fun y => z ((h i hi).mp y)))
theorem wf_least_u (so : wf_so (wf_w G K) o c) (ok : wf_ok c G K V) {p : Nat → Bool} {F E : Nat} (h1 : F < E) (h2 : E ≤ c) (h : ∀ i, i < c → (p (o i) = true ↔ (F ≤ i ∧ i < E))) {res : Int32} (hr : wf_mn V o res F E) {m : Int32} (hm : (∀ s, s < c → p s = true → m.toInt ≤ (V s).toInt) ∧ (m = 10000 ∨ ∃ s, s < c ∧ p s = true ∧ m = V s)) : m = res := by
  have k1 := hm.1 (o F) (so.1 F (by omega)) ((h F (by omega)).mpr ⟨Nat.le_refl _, h1⟩)
  have k2 := ok (o F) (so.1 F (by omega))
  obtain ⟨r1, i, r2, r3, r4⟩ := hr
  have k3 := hm.1 (o i) (so.1 i (by omega)) ((h i (by omega)).mpr ⟨r2, r3⟩)
  rw [← r4] at k3
  rcases hm.2 with z | ⟨s, s1, s2, s3⟩
  · rw [z, show (10000 : Int32).toInt = 10000 from by decide] at k1; omega
  · obtain ⟨j, hj, rfl⟩ := so.2.2.1 s s1
    have k4 := (h j hj).mp s2
    have k5 := r1 j k4.1 k4.2
    rw [← s3] at k5
    exact Int32.toInt_inj.mp (by omega)
theorem wf_most_u (so : wf_so (wf_w G K) o c) (ok : wf_ok c G K V) {p : Nat → Bool} {F E : Nat} (h1 : F < E) (h2 : E ≤ c) (h : ∀ i, i < c → (p (o i) = true ↔ (F ≤ i ∧ i < E))) {res : Int32} (hr : wf_mx V o res F E) {m : Int32} (hm : (∀ s, s < c → p s = true → (V s).toInt ≤ m.toInt) ∧ (m = (-10000) ∨ ∃ s, s < c ∧ p s = true ∧ m = V s)) : m = res := by
  have k1 := hm.1 (o F) (so.1 F (by omega)) ((h F (by omega)).mpr ⟨Nat.le_refl _, h1⟩)
  have k2 := ok (o F) (so.1 F (by omega))
  obtain ⟨r1, i, r2, r3, r4⟩ := hr
  have k3 := hm.1 (o i) (so.1 i (by omega)) ((h i (by omega)).mpr ⟨r2, r3⟩)
  rw [← r4] at k3
  rcases hm.2 with z | ⟨s, s1, s2, s3⟩
  · rw [z, show (-10000 : Int32).toInt = -10000 from by decide] at k1; omega
  · obtain ⟨j, hj, rfl⟩ := so.2.2.1 s s1
    have k4 := (h j hj).mp s2
    have k5 := r1 j k4.1 k4.2
    rw [← s3] at k5
    exact Int32.toInt_inj.mp (by omega)
theorem wf_xplace {post : Int32 → SX → Prop} (hc : c ≤ 24) (ok : wf_ok c G K V) (hcu : wf_Cu c G K V cu ord spt beg pf pe st tot low high) {r : Nat} (hr : r < c) (hE : ∀ (o : Nat → Nat) (ord spt beg pf pe st tot low high : Nat → Int32), wf_Fr c G K V o ord spt beg pf pe st tot low high → post (nI (wf_P c G K r)) (nI c, kd, fr, tt, ff, fe, 1, G, K, V, ord, spt, beg, pf, pe, st, tot, low, high)) : wpX_place post (nI c, kd, fr, tt, ff, fe, cu, G, K, V, ord, spt, beg, pf, pe, st, tot, low, high) (nI r) := by
  unfold wpX_place
  refine wf_xrow1 hc hr (br_f wf_10 (wf_xrefresh hc ok hcu (fun o ord spt beg pf pe st tot low high hF => ?_)))
  have hE' := hE o ord spt beg pf pe st tot low high hF
  obtain ⟨so, ho, hs, hB, _⟩ := hF
  obtain ⟨j, hj, rfl⟩ := so.2.2.1 r hr
  obtain ⟨x, hx, eg, et⟩ := wf_g5 ok hr
  obtain ⟨b, eb, hb⟩ := hB x (by omega)
  obtain ⟨b', eb', hb'⟩ := hB (x + 1) (by omega)
  have hP := wf_P_o ok hc so hj et hb hb'
  dsimp only
  rw [nI_clamp (n := o j) (by omega), hs j hj, eg, nI_clamp (n := x) (by omega), eb, pk_sub hP.2.1, ← hP.1]
  exact ⟨vp_in_nI (by omega) (by omega), vp_in_nI (by omega) (by omega), vp_in_nI (by omega) (by omega), hE'⟩
theorem wf_xrowAt {post : Int32 → SX → Prop} (hc : c ≤ 24) (ok : wf_ok c G K V) (hcu : wf_Cu c G K V cu ord spt beg pf pe st tot low high) {x : Nat} (hx : x ≤ 3) {p : Int32} (hE : ∀ (o : Nat → Nat) (ord spt beg pf pe st tot low high : Nat → Int32) (res : Int32), wf_Fr c G K V o ord spt beg pf pe st tot low high → (∀ s, s < c → G s = nI x → nI (wf_P c G K s) = p → nI s = res) → ((∀ s, s < c → G s = nI x → ¬ nI (wf_P c G K s) = p) → -2 = res) → post res (nI c, kd, fr, tt, ff, fe, 1, G, K, V, ord, spt, beg, pf, pe, st, tot, low, high)) : wpX_rowAt post (nI c, kd, fr, tt, ff, fe, cu, G, K, V, ord, spt, beg, pf, pe, st, tot, low, high) (nI x) p := by
  unfold wpX_rowAt
  refine wf_xgrp1 hx (br_f wf_10 (wf_xrefresh hc ok hcu (fun o ord spt beg pf pe st tot low high hF => ?_)))
  have hE' := fun res => hE o ord spt beg pf pe st tot low high res hF
  obtain ⟨so, ho, hs, hB, _⟩ := hF
  obtain ⟨b, eb, hb⟩ := hB x (by omega)
  obtain ⟨b', eb', hb'⟩ := hB (x + 1) (by omega)
  have hbl := wf_bg_le ok so hb hb'
  have hb1 := hb.1
  have hb2 := hb'.1
  have hrow : ∀ s, s < c → G s = nI x → ∃ i, i < c ∧ s = o i ∧ wf_P c G K s = i - b ∧ b ≤ i ∧ i < b' := by
    intro s s1 s2
    obtain ⟨i, hi, rfl⟩ := so.2.2.1 s s1
    exact ⟨i, hi, rfl, wf_P_o ok hc so hi (by rw [s2, nI_toInt (by omega)]) hb hb'⟩
  dsimp only
  rw [nI_1 x, nI_clamp (n := x) (by omega), nI_clamp (n := x + 1) (by omega), eb, eb', pk_sub hbl]
  refine ⟨vp_in_nI (by omega) (by omega), vp_in_nI (by omega) (by omega), nm_e (br_c (fun h => ?_) (fun h => ?_))⟩
  · refine hE' (-2) (fun s s1 s2 s3 => ?_) (fun _ => rfl)
    have hP : wf_P c G K s ≤ c := wf_cn_le _ c
    rw [← s3] at h
    exact absurd h (nI_pos (by omega))
  · obtain ⟨y, hy, rfl⟩ := nI_of h
    refine pk_le (b' - b) y (fun z => ?_) (fun z => ?_)
    · refine hE' (-2) (fun s s1 s2 s3 => ?_) (fun _ => rfl)
      obtain ⟨i, i1, i2, i3, i4, i5⟩ := hrow s s1 s2
      rw [nI_eq (by omega) hy] at s3
      omega
    · rw [nI_add, nI_clamp (n := b + y) (by omega), ho (b + y) (by omega)]
      refine ⟨vp_in_nI (by omega) (by omega), vp_in_nI (by omega) (by omega), hE' _ (fun s s1 s2 s3 => ?_) (fun k => ?_)⟩
      · obtain ⟨i, i1, i2, i3, i4, i5⟩ := hrow s s1 s2
        rw [nI_eq (by omega) hy] at s3
        rw [i2, show i = b + y from by omega]
      · have g1 := (wf_bg_in (j := b + y) (by omega) hb hb').mpr (by omega)
        have g2 := wf_P_o ok hc so (j := b + y) (by omega) g1 hb hb'
        refine absurd ?_ (k (o (b + y)) (so.1 _ (by omega)) (Int32.toInt_inj.mp (by rw [g1, nI_toInt (by omega)])))
        rw [g2.1, show b + y - b = y from by omega]
theorem wf_xrank {post : Int32 → SX → Prop} (hc : c ≤ 24) (ok : wf_ok c G K V) (hcu : wf_Cu c G K V cu ord spt beg pf pe st tot low high) {r : Nat} (hr : r < c) (hE : ∀ (o : Nat → Nat) (ord spt beg pf pe st tot low high : Nat → Int32), wf_Fr c G K V o ord spt beg pf pe st tot low high → post (nI (wf_cn (fun s => wf_ls G K s r) c) + 1) (nI c, kd, fr, tt, ff, fe, 1, G, K, V, ord, spt, beg, pf, pe, st, tot, low, high)) : wpX_rank post (nI c, kd, fr, tt, ff, fe, cu, G, K, V, ord, spt, beg, pf, pe, st, tot, low, high) (nI r) := by
  unfold wpX_rank
  refine wf_xrow1 hc hr (br_f wf_10 (wf_xrefresh hc ok hcu (fun o ord spt beg pf pe st tot low high hF => ?_)))
  have hE' := hE o ord spt beg pf pe st tot low high hF
  obtain ⟨so, ho, hs, hB, hT, hPf, _⟩ := hF
  obtain ⟨j, hj, rfl⟩ := so.2.2.1 r hr
  obtain ⟨x, hx, eg, et⟩ := wf_g5 ok hr
  obtain ⟨b, eb, hb⟩ := hB x (by omega)
  obtain ⟨b', eb', hb'⟩ := hB (x + 1) (by omega)
  obtain ⟨p, p1, p2, p3⟩ := hPf j hj
  have hL := wf_L_o ok so hj et hb hb' p2 p3
  rw [hL.1] at hE'
  dsimp only
  rw [nI_clamp (n := o j) (by omega), hs j hj, eg, nI_clamp (n := x) (by omega), nI_clamp (n := j) (by omega), eb, p1, pk_sub hL.2]
  exact ⟨vp_in_nI (by omega) (by omega), vp_in_nI (by omega) (by omega), vp_in_nI (by omega) (by omega), vp_in_nI (by omega) (by omega), hE'⟩
theorem wf_xdense {post : Int32 → SX → Prop} (hc : c ≤ 24) (ok : wf_ok c G K V) (hcu : wf_Cu c G K V cu ord spt beg pf pe st tot low high) {r : Nat} (hr : r < c) (hE : ∀ (o : Nat → Nat) (ord spt beg pf pe st tot low high : Nat → Int32), wf_Fr c G K V o ord spt beg pf pe st tot low high → post (nI (wf_D c G K r) + 1) (nI c, kd, fr, tt, ff, fe, 1, G, K, V, ord, spt, beg, pf, pe, st, tot, low, high)) : wpX_denseRank post (nI c, kd, fr, tt, ff, fe, cu, G, K, V, ord, spt, beg, pf, pe, st, tot, low, high) (nI r) := by
  unfold wpX_denseRank
  refine wf_xrow1 hc hr (br_f wf_10 (wf_xrefresh hc ok hcu (fun o ord spt beg pf pe st tot low high hF => ?_)))
  have hE' := hE o ord spt beg pf pe st tot low high hF
  obtain ⟨so, ho, hs, hB, hT, hPf, hSt, _⟩ := hF
  obtain ⟨j, hj, rfl⟩ := so.2.2.1 r hr
  dsimp only
  rw [nI_clamp (n := o j) (by omega), hs j hj, nI_clamp (n := j) (by omega), hSt j hj]
  exact ⟨vp_in_nI (by omega) (by omega), vp_in_nI (by omega) (by omega), hE'⟩
theorem wf_xtile {post : Int32 → SX → Prop} (hc : c ≤ 24) (ok : wf_ok c G K V) (hcu : wf_Cu c G K V cu ord spt beg pf pe st tot low high) {r N : Nat} (hr : r < c) (hN : 1 ≤ N) (hN2 : N ≤ 10) (hE : ∀ (o : Nat → Nat) (ord spt beg pf pe st tot low high : Nat → Int32) (T : Nat), wf_Fr c G K V o ord spt beg pf pe st tot low high → 1 ≤ T → T ≤ N → (∀ t, t < T → wf_A (wf_cn (fun s => decide ((G s).toInt = (G r).toInt)) c / N) (wf_cn (fun s => decide ((G s).toInt = (G r).toInt)) c % N) t ≤ wf_P c G K r) → wf_P c G K r < wf_A (wf_cn (fun s => decide ((G s).toInt = (G r).toInt)) c / N) (wf_cn (fun s => decide ((G s).toInt = (G r).toInt)) c % N) T → post (nI T) (nI c, kd, fr, tt, ff, fe, 1, G, K, V, ord, spt, beg, pf, pe, st, tot, low, high)) : wpX_tile post (nI c, kd, fr, tt, ff, fe, cu, G, K, V, ord, spt, beg, pf, pe, st, tot, low, high) (nI r) (nI N) := by
  unfold wpX_tile
  refine wf_xrow1 hc hr (br_f wf_10 ?_)
  refine br_f (nI_nlt (b := 1) (by omega) (by omega)) (br_t (nI_le (b := 10) (by omega) (by omega)) ?_)
  refine wf_xrefresh hc ok hcu (fun o ord spt beg pf pe st tot low high hF => ?_)
  have hE' := fun T => hE o ord spt beg pf pe st tot low high T hF
  obtain ⟨so, ho, hs, hB, _⟩ := hF
  obtain ⟨j, hj, rfl⟩ := so.2.2.1 r hr
  obtain ⟨x, hx, eg, et⟩ := wf_g5 ok hr
  obtain ⟨b, eb, hb⟩ := hB x (by omega)
  obtain ⟨b', eb', hb'⟩ := hB (x + 1) (by omega)
  have hbl := wf_bg_le ok so hb hb'
  have hb2 := hb'.1
  have hP := wf_P_o ok hc so hj et hb hb'
  have hZ := wf_n_o so hbl hb hb'
  rw [← et] at hZ
  rw [hZ, hP.1] at hE'
  have hp : j - b < b' - b := by omega
  have hZ24 : b' - b ≤ 24 := by omega
  dsimp only
  rw [nI_clamp (n := o j) (by omega), hs j hj, eg, nI_1 x, nI_clamp (n := x) (by omega), nI_clamp (n := x + 1) (by omega), eb, eb', pk_sub hbl, pk_sub hP.2.1]
  have v1 : vp_in (nI (o j)) 24 := vp_in_nI (by omega) (by omega)
  have v2 : vp_in (nI x) 5 := vp_in_nI (by omega) (by omega)
  have v3 : vp_in (nI (x + 1)) 5 := vp_in_nI (by omega) (by omega)
  have n0 : ¬ nI N = 0 := nI_ne0 (by omega) (by omega)
  clear hP hZ
  generalize j - b = p at *
  generalize b' - b = Z at *
  have hq : Z / N ≤ Z := Nat.div_le_self _ _
  have hm : Z % N < N := Nat.mod_lt _ (by omega)
  have hmq : Z % N * (Z / N + 1) ≤ 10 * 25 := Nat.mul_le_mul (by omega) (by omega)
  refine ⟨v1, v3, v1, v2, nm_e ⟨v1, v1, v2, nm_e ⟨n0, nm_r (pk_div (by omega) (by omega) (by omega)) ⟨n0, nm_r (pk_rem (by omega) (by omega) (by omega)) ?_⟩⟩⟩⟩
  rw [nI_1 (Z / N), pk_mul]
  refine pk_le (Z % N * (Z / N + 1)) p (fun h => ?_) (fun h => ?_)
  · refine pk_le (Z / N) 0 (fun h0 => ?_) (fun h0 => ?_)
    · have h1 := Nat.div_add_mod Z N
      have h2 : Z / N = 0 := Nat.le_zero.mp h0
      rw [h2] at h1 h
      omega
    · refine ⟨nI_ne0 h0 (by omega), ?_⟩
      have hl := wf_tile_b hN hp h h0
      rw [pk_sub h, pk_div (by omega) h0 (by omega), nI_add, nI_1]
      exact hE' _ (Nat.le_add_left 1 _) hl.1 hl.2.1 hl.2.2
  · refine ⟨nI_ne0 (Nat.succ_pos _) (by omega), ?_⟩
    have hl := wf_tile_a hN h
    rw [pk_div (by omega) (Nat.succ_pos _) (by omega), nI_1]
    exact hE' _ (Nat.le_add_left 1 _) hl.1 hl.2.1 hl.2.2
end WFA
end
section
/-! the class's questions about frames, running totals -/
section WFB
variable {c : Nat} {kd fr tt ff fe cu : Int32} {G K V ord spt beg pf pe st tot low high : Nat → Int32} {o : Nat → Nat}
theorem wf_xsize {post : Int32 → SX → Prop} (hc : c ≤ 24) (ok : wf_ok c G K V) (hcu : wf_Cu c G K V cu ord spt beg pf pe st tot low high) (hkd : kd = 0 ∨ kd = 1 ∨ kd = 2) (hfr : -30 ≤ fr.toInt ∧ fr.toInt ≤ 30) (htt : -30 ≤ tt.toInt ∧ tt.toInt ≤ 30) {r : Nat} (hr : r < c) (hE : ∀ (o : Nat → Nat) (ord spt beg pf pe st tot low high : Nat → Int32) (ff fe : Int32), wf_Fr c G K V o ord spt beg pf pe st tot low high → post (nI (wf_cn (fun s => wf_fm c kd fr tt G K r s) c)) (nI c, kd, fr, tt, ff, fe, 1, G, K, V, ord, spt, beg, pf, pe, st, tot, low, high)) : wpX_size post (nI c, kd, fr, tt, ff, fe, cu, G, K, V, ord, spt, beg, pf, pe, st, tot, low, high) (nI r) := by
  unfold wpX_size
  refine wf_xrow1 hc hr (br_f wf_10 (wf_xframe hc ok hcu hkd hfr htt hr (fun o ord spt beg pf pe st tot low high F E hF k1 k2 k3 => ?_)))
  have hE' := hE o ord spt beg pf pe st tot low high (nI F) (nI E) hF
  rw [wf_fm_cn hF.1 (p := fun s => wf_fm c kd fr tt G K r s) k1 k2 k3] at hE'
  dsimp only
  rw [pk_sub k1]
  exact hE'
theorem wf_xsum {post : Int32 → SX → Prop} (hc : c ≤ 24) (ok : wf_ok c G K V) (hcu : wf_Cu c G K V cu ord spt beg pf pe st tot low high) (hkd : kd = 0 ∨ kd = 1 ∨ kd = 2) (hfr : -30 ≤ fr.toInt ∧ fr.toInt ≤ 30) (htt : -30 ≤ tt.toInt ∧ tt.toInt ≤ 30) {r : Nat} (hr : r < c) (hE : ∀ (o : Nat → Nat) (ord spt beg pf pe st tot low high : Nat → Int32) (ff fe : Int32), wf_Fr c G K V o ord spt beg pf pe st tot low high → post (wf_sm (fun s => if wf_fm c kd fr tt G K r s = true then V s else 0) c) (nI c, kd, fr, tt, ff, fe, 1, G, K, V, ord, spt, beg, pf, pe, st, tot, low, high)) : wpX_sum post (nI c, kd, fr, tt, ff, fe, cu, G, K, V, ord, spt, beg, pf, pe, st, tot, low, high) (nI r) := by
  unfold wpX_sum
  refine wf_xrow1 hc hr (br_f wf_10 (wf_xframe hc ok hcu hkd hfr htt hr (fun o ord spt beg pf pe st tot low high F E hF k1 k2 k3 => ?_)))
  have hE' := hE o ord spt beg pf pe st tot low high (nI F) (nI E) hF
  rw [wf_fm_sm hF.1 (p := fun s => wf_fm c kd fr tt G K r s) k1 k2 k3] at hE'
  obtain ⟨so, ho, hs, hB, hT, _⟩ := hF
  dsimp only
  rw [nI_clamp (n := F) (by omega), nI_clamp (n := E) (by omega), hT F (by omega), hT E k2]
  exact ⟨vp_in_nI (by omega) (by omega), vp_in_nI (by omega) (by omega), hE'⟩
theorem wf_xleast {post : Int32 → SX → Prop} (hc : c ≤ 24) (ok : wf_ok c G K V) (hcu : wf_Cu c G K V cu ord spt beg pf pe st tot low high) (hkd : kd = 0 ∨ kd = 1 ∨ kd = 2) (hfr : -30 ≤ fr.toInt ∧ fr.toInt ≤ 30) (htt : -30 ≤ tt.toInt ∧ tt.toInt ≤ 30) {r : Nat} (hr : r < c) (hE : ∀ (o : Nat → Nat) (ord spt beg pf pe st tot low high : Nat → Int32) (ff fe : Int32) (res : Int32), wf_Fr c G K V o ord spt beg pf pe st tot low high → (∀ m : Int32, ((∀ s, s < c → wf_fm c kd fr tt G K r s = true → m.toInt ≤ (V s).toInt) ∧ (m = 10000 ∨ ∃ s, s < c ∧ wf_fm c kd fr tt G K r s = true ∧ m = V s)) → m = res) → post res (nI c, kd, fr, tt, ff, fe, 1, G, K, V, ord, spt, beg, pf, pe, st, tot, low, high)) : wpX_least post (nI c, kd, fr, tt, ff, fe, cu, G, K, V, ord, spt, beg, pf, pe, st, tot, low, high) (nI r) := by
  unfold wpX_least
  refine wf_xrow1 hc hr (br_f wf_10 (wf_xframe hc ok hcu hkd hfr htt hr (fun o ord spt beg pf pe st tot low high F E hF k1 k2 k3 => ?_)))
  have hE' := fun res => hE o ord spt beg pf pe st tot low high (nI F) (nI E) res hF
  obtain ⟨so, ho, hs, hB, hT, hPf, hSt, hPe, hLo, hHi⟩ := hF
  dsimp only
  refine pk_eq F E (fun e => ?_) (fun e => ?_)
  · refine hE' 10000 (fun m hm => ?_)
    rcases hm.2 with z | ⟨s, s1, s2, s3⟩
    · exact z
    · obtain ⟨j, hj, rfl⟩ := so.2.2.1 s s1
      have := (k3 j hj).mp s2; omega
  · rw [pk_sub k1]
    refine wf_xlevel (by omega) (by omega) (fun l l1 l2 l3 => ?_)
    have hp := wf_p24 l l1
    rw [wf_24, nI_add, nI_add, wf_sh l l1, pk_sub (by omega), nI_clamp (n := 24 * l + F) (by omega), nI_clamp (n := 24 * l + E - 2 ^ l) (by omega)]
    have m1 := hLo l l1 F (by omega)
    have m2 := hLo l l1 (E - 2 ^ l) (by omega)
    rw [show 24 * l + (E - 2 ^ l) = 24 * l + E - 2 ^ l from by omega, show E - 2 ^ l + 2 ^ l = E from by omega] at m2
    refine ⟨vp_in_nI (by omega) (by omega), nm_e ⟨vp_in_nI (by omega) (by omega), nm_e (br_c (fun h => ?_) (fun h => ?_))⟩⟩
    · rw [Int32.le_iff_toInt_le] at h
      exact hE' _ (fun m hm => wf_least_u so ok (p := fun s => wf_fm c kd fr tt G K r s) (by omega) k2 k3 (wf_mn_2 m1 m2 (by omega) (by omega) (by omega) (Or.inr rfl) h (Int.le_refl _)) hm)
    · rw [Int32.le_iff_toInt_le] at h
      exact hE' _ (fun m hm => wf_least_u so ok (p := fun s => wf_fm c kd fr tt G K r s) (by omega) k2 k3 (wf_mn_2 m1 m2 (by omega) (by omega) (by omega) (Or.inl rfl) (Int.le_refl _) (by omega)) hm)
theorem wf_xmost {post : Int32 → SX → Prop} (hc : c ≤ 24) (ok : wf_ok c G K V) (hcu : wf_Cu c G K V cu ord spt beg pf pe st tot low high) (hkd : kd = 0 ∨ kd = 1 ∨ kd = 2) (hfr : -30 ≤ fr.toInt ∧ fr.toInt ≤ 30) (htt : -30 ≤ tt.toInt ∧ tt.toInt ≤ 30) {r : Nat} (hr : r < c) (hE : ∀ (o : Nat → Nat) (ord spt beg pf pe st tot low high : Nat → Int32) (ff fe : Int32) (res : Int32), wf_Fr c G K V o ord spt beg pf pe st tot low high → (∀ m : Int32, ((∀ s, s < c → wf_fm c kd fr tt G K r s = true → (V s).toInt ≤ m.toInt) ∧ (m = (-10000) ∨ ∃ s, s < c ∧ wf_fm c kd fr tt G K r s = true ∧ m = V s)) → m = res) → post res (nI c, kd, fr, tt, ff, fe, 1, G, K, V, ord, spt, beg, pf, pe, st, tot, low, high)) : wpX_most post (nI c, kd, fr, tt, ff, fe, cu, G, K, V, ord, spt, beg, pf, pe, st, tot, low, high) (nI r) := by
  unfold wpX_most
  refine wf_xrow1 hc hr (br_f wf_10 (wf_xframe hc ok hcu hkd hfr htt hr (fun o ord spt beg pf pe st tot low high F E hF k1 k2 k3 => ?_)))
  have hE' := fun res => hE o ord spt beg pf pe st tot low high (nI F) (nI E) res hF
  obtain ⟨so, ho, hs, hB, hT, hPf, hSt, hPe, hLo, hHi⟩ := hF
  dsimp only
  refine pk_eq F E (fun e => ?_) (fun e => ?_)
  · refine hE' (-10000) (fun m hm => ?_)
    rcases hm.2 with z | ⟨s, s1, s2, s3⟩
    · exact z
    · obtain ⟨j, hj, rfl⟩ := so.2.2.1 s s1
      have := (k3 j hj).mp s2; omega
  · rw [pk_sub k1]
    refine wf_xlevel (by omega) (by omega) (fun l l1 l2 l3 => ?_)
    have hp := wf_p24 l l1
    rw [wf_24, nI_add, nI_add, wf_sh l l1, pk_sub (by omega), nI_clamp (n := 24 * l + F) (by omega), nI_clamp (n := 24 * l + E - 2 ^ l) (by omega)]
    have m1 := hHi l l1 F (by omega)
    have m2 := hHi l l1 (E - 2 ^ l) (by omega)
    rw [show 24 * l + (E - 2 ^ l) = 24 * l + E - 2 ^ l from by omega, show E - 2 ^ l + 2 ^ l = E from by omega] at m2
    refine ⟨vp_in_nI (by omega) (by omega), nm_e ⟨vp_in_nI (by omega) (by omega), nm_e (br_c (fun h => ?_) (fun h => ?_))⟩⟩
    · rw [Int32.le_iff_toInt_le] at h
      exact hE' _ (fun m hm => wf_most_u so ok (p := fun s => wf_fm c kd fr tt G K r s) (by omega) k2 k3 (wf_mx_2 m1 m2 (by omega) (by omega) (by omega) (Or.inr rfl) h (Int.le_refl _)) hm)
    · rw [Int32.le_iff_toInt_le] at h
      exact hE' _ (fun m hm => wf_most_u so ok (p := fun s => wf_fm c kd fr tt G K r s) (by omega) k2 k3 (wf_mx_2 m1 m2 (by omega) (by omega) (by omega) (Or.inl rfl) (Int.le_refl _) (by omega)) hm)
theorem wf_xfirst {post : Int32 → SX → Prop} (hc : c ≤ 24) (ok : wf_ok c G K V) (hcu : wf_Cu c G K V cu ord spt beg pf pe st tot low high) (hkd : kd = 0 ∨ kd = 1 ∨ kd = 2) (hfr : -30 ≤ fr.toInt ∧ fr.toInt ≤ 30) (htt : -30 ≤ tt.toInt ∧ tt.toInt ≤ 30) {r : Nat} (hr : r < c) (hE : ∀ (o : Nat → Nat) (ord spt beg pf pe st tot low high : Nat → Int32) (ff fe : Int32) (res : Int32), wf_Fr c G K V o ord spt beg pf pe st tot low high → ((∀ i, i < c → ¬ wf_fm c kd fr tt G K r i = true) → -2 = res) → (∀ f, f < c → wf_fm c kd fr tt G K r f = true → (∀ i, i < c → wf_fm c kd fr tt G K r i = true → i ≠ f → wf_bf G K f i = true) → nI f = res) → post res (nI c, kd, fr, tt, ff, fe, 1, G, K, V, ord, spt, beg, pf, pe, st, tot, low, high)) : wpX_first post (nI c, kd, fr, tt, ff, fe, cu, G, K, V, ord, spt, beg, pf, pe, st, tot, low, high) (nI r) := by
  unfold wpX_first
  refine wf_xrow1 hc hr (br_f wf_10 (wf_xframe hc ok hcu hkd hfr htt hr (fun o ord spt beg pf pe st tot low high F E hF k1 k2 k3 => ?_)))
  have hE' := fun res => hE o ord spt beg pf pe st tot low high (nI F) (nI E) res hF
  obtain ⟨so, ho, _⟩ := hF
  dsimp only
  refine pk_eq F E (fun e => ?_) (fun e => ?_)
  · refine hE' (-2) (fun _ => rfl) (fun f f1 f2 _ => ?_)
    obtain ⟨j, hj, rfl⟩ := so.2.2.1 f f1
    have := (k3 j hj).mp f2; omega
  · have hFE : F < E := by omega
    rw [nI_clamp (n := F) (by omega), ho F (by omega)]
    have hfF := (k3 F (by omega)).mpr ⟨Nat.le_refl _, hFE⟩
    refine ⟨vp_in_nI (by omega) (by omega), hE' _ (fun z => absurd hfF (z (o F) (so.1 F (by omega)))) (fun f f1 f2 f3 => ?_)⟩
    obtain ⟨j, hj, rfl⟩ := so.2.2.1 f f1
    have hjF := (k3 j hj).mp f2
    by_cases y : o F = o j
    · rw [y]
    · have := (wf_bf_o ok hc so hj (by omega)).mp (f3 (o F) (so.1 F (by omega)) hfF y)
      omega
theorem wf_xfby14 {post : Int32 → SX → Prop} (hc : c ≤ 24) (ok : wf_ok c G K V) (hkd : kd = 0 ∨ kd = 1 ∨ kd = 2) (hfr : -30 ≤ fr.toInt ∧ fr.toInt ≤ 30) (htt : -30 ≤ tt.toInt ∧ tt.toInt ≤ 30) {r : Nat} (hr : r < c) (hE : ∀ (ff fe cu : Int32) (ord spt beg pf pe st tot low high : Nat → Int32), wf_Cu c G K V cu ord spt beg pf pe st tot low high → post (nI (wf_cn (fun s => wf_fm c kd fr tt G K s r) c)) (nI c, kd, fr, tt, ff, fe, cu, G, K, V, ord, spt, beg, pf, pe, st, tot, low, high)) : ∀ (d s n : Nat) (ff fe cu : Int32) (ord spt beg pf pe st tot low high : Nat → Int32), s + d = c → d < n → wf_Cu c G K V cu ord spt beg pf pe st tot low high → wX_framedBy_14 post (nI r) n (nI (wf_cn (fun s => wf_fm c kd fr tt G K s r) s)) (nI s) (nI c) kd fr tt ff fe cu G K V ord spt beg pf pe st tot low high := by
  intro d
  induction d with
  | zero =>
    intro s n ff fe cu ord spt beg pf pe st tot low high hs hn hcu
    obtain ⟨n, rfl⟩ : ∃ m, n = m + 1 := ⟨n - 1, by omega⟩
    obtain rfl : s = c := by omega
    exact br_t (Int32.le_refl _) (hE ff fe cu ord spt beg pf pe st tot low high hcu)
  | succ d ih =>
    intro s n ff fe cu ord spt beg pf pe st tot low high hs hn hcu
    obtain ⟨n, rfl⟩ : ∃ m, n = m + 1 := ⟨n - 1, by omega⟩
    refine br_f (nI_ge (by omega) (by omega)) ?_
    refine wf_xframe hc ok hcu hkd hfr htt (show s < c by omega) (fun o ord spt beg pf pe st tot low high F E hF k1 k2 k3 => ?_)
    have J := ih (s + 1) n (nI F) (nI E) 1 ord spt beg pf pe st tot low high (by omega) (by omega) (Or.inr ⟨rfl, o, hF⟩)
    obtain ⟨so, ho, hs', _⟩ := hF
    obtain ⟨j, hj, rfl⟩ := so.2.2.1 r hr
    have k4 := k3 j hj
    dsimp only
    rw [nI_clamp (n := o j) (by omega), hs' j hj]
    have v1 : vp_in (nI (o j)) 24 := vp_in_nI (by omega) (by omega)
    refine ⟨v1, pk_lt j F (fun z => ?_) (fun z => ⟨v1, pk_le E j (fun y => ?_) (fun y => ?_)⟩)⟩
    · rw [wf_cn_f (p := fun s => wf_fm c kd fr tt G K s (o j)) (n := s) (fun w => by have := k4.mp w; omega)] at J
      exact nm_r (Int32.add_zero _) (nm_r (nI_1 s) J)
    · rw [wf_cn_f (p := fun s => wf_fm c kd fr tt G K s (o j)) (n := s) (fun w => by have := k4.mp w; omega)] at J
      exact nm_r (Int32.add_zero _) (nm_r (nI_1 s) J)
    · rw [wf_cn_t (p := fun s => wf_fm c kd fr tt G K s (o j)) (n := s) (k4.mpr ⟨z, y⟩)] at J
      exact nm_r (nI_1 _) (nm_r (nI_1 s) J)
theorem wf_xfby {post : Int32 → SX → Prop} (hc : c ≤ 24) (ok : wf_ok c G K V) (hcu : wf_Cu c G K V cu ord spt beg pf pe st tot low high) (hkd : kd = 0 ∨ kd = 1 ∨ kd = 2) (hfr : -30 ≤ fr.toInt ∧ fr.toInt ≤ 30) (htt : -30 ≤ tt.toInt ∧ tt.toInt ≤ 30) {r : Nat} (hr : r < c) (hE : ∀ (ff fe cu : Int32) (ord spt beg pf pe st tot low high : Nat → Int32), wf_Cu c G K V cu ord spt beg pf pe st tot low high → post (nI (wf_cn (fun s => wf_fm c kd fr tt G K s r) c)) (nI c, kd, fr, tt, ff, fe, cu, G, K, V, ord, spt, beg, pf, pe, st, tot, low, high)) : wpX_framedBy post (nI c, kd, fr, tt, ff, fe, cu, G, K, V, ord, spt, beg, pf, pe, st, tot, low, high) (nI r) := by
  unfold wpX_framedBy
  exact wf_xrow1 hc hr (br_f wf_10 ⟨c + 1, wf_xfby14 hc ok hkd hfr htt hr hE c 0 (c + 1) ff fe cu ord spt beg pf pe st tot low high (by omega) (by omega) hcu⟩)
theorem wf_xtot20 {post : Int32 → SX → Prop} (hc : c ≤ 24) (ok : wf_ok c G K V) (hF : wf_Fr c G K V o ord spt beg pf pe st tot low high) {x : Int32} (hE : post (wf_sm (fun s => if (x >>> (G s &&& 31)) &&& 1 = 1 then V s else 0) c) (nI c, kd, fr, tt, ff, fe, cu, G, K, V, ord, spt, beg, pf, pe, st, tot, low, high)) : ∀ d g n : Nat, g + d = 4 → d < n → wX_total_20 post x (nI c) kd fr tt ff fe cu G K V ord spt beg pf pe st tot low high n (wf_sm (fun i => if (G (o i)).toInt < (g : Int) ∧ (x >>> (G (o i) &&& 31)) &&& 1 = 1 then V (o i) else 0) c) (nI g) := by
  obtain ⟨so, ho, hs, hB, hT, _⟩ := hF
  intro d
  induction d with
  | zero =>
    intro g n hs hn
    obtain ⟨n, rfl⟩ : ∃ m, n = m + 1 := ⟨n - 1, by omega⟩
    obtain rfl : g = 4 := by omega
    refine br_t (by decide) ?_
    rw [← so.2.2.2.2] at hE
    rw [wf_sm_congr (q := fun i => if (x >>> (G (o i) &&& 31)) &&& 1 = 1 then V (o i) else 0) (fun i hi => ?_)]
    · exact hE
    · have h1 := ok _ (so.1 i hi)
      by_cases h : (x >>> (G (o i) &&& 31)) &&& 1 = 1
      · rw [if_pos h, if_pos ⟨by omega, h⟩]
      · rw [if_neg h, if_neg (fun z => h z.2)]
  | succ d ih =>
    intro g n hs hn
    obtain ⟨n, rfl⟩ : ∃ m, n = m + 1 := ⟨n - 1, by omega⟩
    have J := ih (g + 1) n (by omega) (by omega)
    obtain ⟨b, eb, hb⟩ := hB g (by omega)
    obtain ⟨b', eb', hb'⟩ := hB (g + 1) (by omega)
    have hbl := wf_bg_le ok so hb hb'
    have hb1 := hb.1
    have hb2 := hb'.1
    have eG : ∀ i, (G (o i)).toInt = (g : Int) → G (o i) = nI g := fun i hi => Int32.toInt_inj.mp (by rw [hi, nI_toInt (by omega)])
    refine br_f (nI_ge (b := 4) (by omega) (by decide)) ?_
    by_cases h : (x >>> (nI g &&& 31)) &&& 1 = 1
    · refine br_t h ?_
      rw [nI_1 g, nI_clamp (n := g) (by omega), nI_clamp (n := g + 1) (by omega), eb, eb', nI_clamp (n := b) (by omega), nI_clamp (n := b') (by omega), hT b hb1, hT b' hb2]
      refine ⟨vp_in_nI (by omega) (by omega), vp_in_nI (by omega) (by omega), vp_in_nI (by omega) (by omega), vp_in_nI (by omega) (by omega), nm_r ?_ (nm_e J)⟩
      rw [← wf_sm_iv (f := fun i => if (G (o i)).toInt = (g : Int) then V (o i) else 0) hbl c hb2 (fun i hi z1 z2 => if_pos ((wf_bg_in hi hb hb').mpr ⟨z1, z2⟩)) (fun i hi z => if_neg (fun y => z ((wf_bg_in hi hb hb').mp y)))]
      refine (wf_sm_add (fun i hi => ?_)).symm
      by_cases h1 : (G (o i)).toInt = (g : Int)
      · have t1 : (G (o i)).toInt < ((g + 1 : Nat) : Int) ∧ (x >>> (G (o i) &&& 31)) &&& 1 = 1 := ⟨by omega, by rw [eG i h1]; exact h⟩
        have t2 : ¬ ((G (o i)).toInt < (g : Int) ∧ (x >>> (G (o i) &&& 31)) &&& 1 = 1) := fun z => by have := z.1; omega
        rw [if_pos t1, if_neg t2, if_pos h1, Int32.zero_add]
      · rw [if_neg h1, Int32.add_zero]
        by_cases h2 : (G (o i)).toInt < (g : Int) ∧ (x >>> (G (o i) &&& 31)) &&& 1 = 1
        · rw [if_pos h2, if_pos ⟨by omega, h2.2⟩]
        · rw [if_neg h2, if_neg (fun z => h2 ⟨by omega, z.2⟩)]
    · refine br_f h (nm_r (Int32.add_zero _) (nm_r (nI_1 g) ?_))
      rw [wf_sm_congr (q := fun i => if (G (o i)).toInt < ((g + 1 : Nat) : Int) ∧ (x >>> (G (o i) &&& 31)) &&& 1 = 1 then V (o i) else 0) (fun i hi => ?_)]
      · exact J
      · by_cases h2 : (G (o i)).toInt < (g : Int) ∧ (x >>> (G (o i) &&& 31)) &&& 1 = 1
        · rw [if_pos h2, if_pos ⟨by omega, h2.2⟩]
        · rw [if_neg h2, if_neg (fun z => ?_)]
          by_cases h1 : (G (o i)).toInt = (g : Int)
          · have h3 := z.2
            rw [eG i h1] at h3
            exact h h3
          · exact h2 ⟨by omega, z.2⟩
theorem wf_xtotal {post : Int32 → SX → Prop} (hc : c ≤ 24) (ok : wf_ok c G K V) (hcu : wf_Cu c G K V cu ord spt beg pf pe st tot low high) {x : Int32} (h0 : ¬ x < 0) (h15 : x ≤ 15) (hE : ∀ (o : Nat → Nat) (ord spt beg pf pe st tot low high : Nat → Int32), wf_Fr c G K V o ord spt beg pf pe st tot low high → post (wf_sm (fun s => if (x >>> (G s &&& 31)) &&& 1 = 1 then V s else 0) c) (nI c, kd, fr, tt, ff, fe, 1, G, K, V, ord, spt, beg, pf, pe, st, tot, low, high)) : wpX_total post (nI c, kd, fr, tt, ff, fe, cu, G, K, V, ord, spt, beg, pf, pe, st, tot, low, high) x := by
  unfold wpX_total
  refine br_f h0 (br_t h15 (wf_xrefresh hc ok hcu (fun o ord spt beg pf pe st tot low high hF => ⟨5, ?_⟩)))
  have J := wf_xtot20 (kd := kd) (fr := fr) (tt := tt) (ff := ff) (fe := fe) (cu := 1) hc ok hF (hE o ord spt beg pf pe st tot low high hF) 4 0 5 (by omega) (by omega)
  rw [wf_sm_z (fun i hi => if_neg (fun z => by have := z.1; have := ok _ (hF.1.1 i hi); omega))] at J
  exact J
end WFB
end
section
/-! the relation, and the calls that change the rows -/
def wf_Ba (c : Nat) (kd fr tt : Int32) (G K V : Nat → Int32) : Prop := c ≤ 24 ∧ wf_ok c G K V ∧ (kd = 0 ∨ kd = 1 ∨ kd = 2) ∧ (-30 ≤ fr.toInt ∧ fr.toInt ≤ 30) ∧ (-30 ≤ tt.toInt ∧ tt.toInt ≤ 30)
/-- the relation at the head of a turn: both hold the same rows and frame; the class's tables are right if it says so -/
def i_Rel (k : Nat) (u : SX) (v : SY) : Prop := ∃ (c : Nat) (kd fr tt ff fe cu : Int32) (G K V ord spt beg pf pe st tot low high : Nat → Int32), wf_Ba c kd fr tt G K V ∧ wf_Cu c G K V cu ord spt beg pf pe st tot low high ∧ u = (nI c, kd, fr, tt, ff, fe, cu, G, K, V, ord, spt, beg, pf, pe, st, tot, low, high) ∧ v = (nI c, kd, fr, tt, G, K, V)
theorem wf_el {k : Nat} {u : SX} {v : SY} {P : SX → SY → Prop} (h : ∀ (c : Nat) (kd fr tt ff fe cu : Int32) (G K V ord spt beg pf pe st tot low high : Nat → Int32), wf_Ba c kd fr tt G K V → wf_Cu c G K V cu ord spt beg pf pe st tot low high → P (nI c, kd, fr, tt, ff, fe, cu, G, K, V, ord, spt, beg, pf, pe, st, tot, low, high) (nI c, kd, fr, tt, G, K, V)) (I : i_Rel k u v) : P u v := by
  obtain ⟨c, kd, fr, tt, ff, fe, cu, G, K, V, ord, spt, beg, pf, pe, st, tot, low, high, h1, h2, rfl, rfl⟩ := I
  exact h c kd fr tt ff fe cu G K V ord spt beg pf pe st tot low high h1 h2
theorem wf_neg50 : (-50 : Int32).toInt = -50 := by decide
theorem wf_50 : (50 : Int32).toInt = 50 := by decide
theorem wf_neg1000 : (-1000 : Int32).toInt = -1000 := by decide
theorem wf_1000 : (1000 : Int32).toInt = 1000 := by decide
theorem wf_neg30 : (-30 : Int32).toInt = -30 := by decide
theorem wf_30 : (30 : Int32).toInt = 30 := by decide
theorem wf_10i : (10 : Int32).toInt = 10 := by decide
theorem wf_rng {p a b : Int32} (h1 : ¬ p < a) (h2 : ¬ b < p) : a.toInt ≤ p.toInt ∧ p.toInt ≤ b.toInt := by
  rw [Int32.lt_iff_toInt_lt] at h1 h2; omega
theorem wf_xgrp0 {post : Int32 → Prop} {p : Int32} (hp : p < 0 ∨ 4 ≤ p) (h : post 0) : wpX_isGroup post p := by
  by_cases h0 : p < 0
  · exact br_t h0 h
  · exact br_f h0 (br_t (hp.resolve_left h0) h)
theorem wf_grp (p : Int32) : (p < 0 ∨ (4 ≤ p ∧ ¬ p ≤ 3)) ∨ ∃ x : Nat, x ≤ 3 ∧ p = nI x := by
  rcases pk_ix p (n := 4) (by omega) with h | h | ⟨j, hj, e⟩
  · exact Or.inl (Or.inl h)
  · refine Or.inl (Or.inr ⟨h, fun z => ?_⟩)
    have h' : (4 : Int32) ≤ p := h
    rw [Int32.le_iff_toInt_le, show (4 : Int32).toInt = 4 from by decide] at h'
    rw [Int32.le_iff_toInt_le, show (3 : Int32).toInt = 3 from by decide] at z
    omega
  · exact Or.inr ⟨j, by omega, e⟩
theorem wf_xkey1 {post : Int32 → Prop} {p : Int32} (h1 : ¬ p < -50) (h2 : ¬ 50 < p) (h : post 1) : wpX_isKey post p := br_f h1 (br_f h2 h)
theorem wf_xkey0 {post : Int32 → Prop} {p : Int32} (hp : ¬ (¬ p < -50 ∧ ¬ 50 < p)) (h : post 0) : wpX_isKey post p := by
  by_cases h0 : p < -50
  · exact br_t h0 h
  · by_cases h1 : 50 < p
    · exact br_f h0 (br_t h1 h)
    · exact absurd ⟨h0, h1⟩ hp
theorem wf_xval1 {post : Int32 → Prop} {p : Int32} (h1 : ¬ p < -1000) (h2 : ¬ 1000 < p) (h : post 1) : wpX_isValue post p := br_f h1 (br_f h2 h)
theorem wf_xval0 {post : Int32 → Prop} {p : Int32} (hp : ¬ (¬ p < -1000 ∧ ¬ 1000 < p)) (h : post 0) : wpX_isValue post p := by
  by_cases h0 : p < -1000
  · exact br_t h0 h
  · by_cases h1 : 1000 < p
    · exact br_f h0 (br_t h1 h)
    · exact absurd ⟨h0, h1⟩ hp
section WFM
variable {k c : Nat} {kd fr tt ff fe cu : Int32} {G K V ord spt beg pf pe st tot low high : Nat → Int32}
theorem wf_in (h1 : wf_Ba c kd fr tt G K V) (h2 : wf_Cu c G K V cu ord spt beg pf pe st tot low high) : i_Rel k (nI c, kd, fr, tt, ff, fe, cu, G, K, V, ord, spt, beg, pf, pe, st, tot, low, high) (nI c, kd, fr, tt, G, K, V) :=
  ⟨c, kd, fr, tt, ff, fe, cu, G, K, V, ord, spt, beg, pf, pe, st, tot, low, high, h1, h2, rfl, rfl⟩
theorem wf_ykey0 {post : Int32 → Prop} {p : Int32} (h1 : ¬ p < -50) (h2 : ¬ 50 < p) (h : post 0) : wpY_farKey post (nI c, kd, fr, tt, G, K, V) p := br_f h1 (br_t (Int32.not_lt.mp h2) h)
theorem wf_ykey1 {post : Int32 → Prop} {p : Int32} (hp : ¬ (¬ p < -50 ∧ ¬ 50 < p)) (h : post 1) : wpY_farKey post (nI c, kd, fr, tt, G, K, V) p := by
  by_cases h0 : p < -50
  · exact br_t h0 h
  · by_cases h1 : 50 < p
    · exact br_f h0 (br_f (Int32.not_le.mpr h1) h)
    · exact absurd ⟨h0, h1⟩ hp
theorem wf_yval0 {post : Int32 → Prop} {p : Int32} (h1 : ¬ p < -1000) (h2 : ¬ 1000 < p) (h : post 0) : wpY_farValue post (nI c, kd, fr, tt, G, K, V) p := br_f h1 (br_t (Int32.not_lt.mp h2) h)
theorem wf_yval1 {post : Int32 → Prop} {p : Int32} (hp : ¬ (¬ p < -1000 ∧ ¬ 1000 < p)) (h : post 1) : wpY_farValue post (nI c, kd, fr, tt, G, K, V) p := by
  by_cases h0 : p < -1000
  · exact br_t h0 h
  · by_cases h1 : 1000 < p
    · exact br_f h0 (br_f (Int32.not_le.mpr h1) h)
    · exact absurd ⟨h0, h1⟩ hp
theorem wf_xwrite {post : SX → Prop} {i : Nat} (hi : i < 24) {a b d : Int32} (h : post (nI c, kd, fr, tt, ff, fe, cu, upd G i a, upd K i b, upd V i d, ord, spt, beg, pf, pe, st, tot, low, high)) : wpX_write post (nI c, kd, fr, tt, ff, fe, cu, G, K, V, ord, spt, beg, pf, pe, st, tot, low, high) (nI i) a b d := by
  unfold wpX_write
  dsimp only
  rw [nI_clamp (n := i) (by omega)]
  have v := vp_in_nI hi (by omega)
  exact ⟨v, nm_e ⟨v, nm_e ⟨v, nm_e h⟩⟩⟩
theorem wf_yadd {post : Int32 → SY → Prop} (hc : c < 24) {a b d : Int32} (h : post (nI c) (nI (c + 1), kd, fr, tt, upd G c a, upd K c b, upd V c d)) : wpY_add post (nI c, kd, fr, tt, G, K, V) a b d := by
  unfold wpY_add
  dsimp only
  rw [nI_clamp (n := c) (by omega)]
  have v := vp_in_nI hc (by omega)
  exact br_t (nI_le (b := 23) (by omega) (by omega)) ⟨v, nm_e ⟨v, nm_e ⟨v, nm_e (nm_r (nI_1 c) h)⟩⟩⟩
theorem wf_yadd24 {post : Int32 → SY → Prop} (hc : c = 24) {a b d : Int32} (h : post (-4) (nI c, kd, fr, tt, G, K, V)) : wpY_add post (nI c, kd, fr, tt, G, K, V) a b d :=
  br_f (nI_ge (a := 23) (by omega) (by omega)) h
theorem wf_ok_put (ok : wf_ok c G K V) {a b d : Int32} (h1 : 0 ≤ a.toInt ∧ a.toInt ≤ 3) (h2 : -50 ≤ b.toInt ∧ b.toInt ≤ 50) (h3 : -1000 ≤ d.toInt ∧ d.toInt ≤ 1000) : wf_ok (c + 1) (upd G c a) (upd K c b) (upd V c d) := by
  intro i hi
  by_cases e : i = c
  · subst e; rw [pk_us, pk_us, pk_us]; exact ⟨h1, h2, h3⟩
  · rw [pk_un e, pk_un e, pk_un e]; exact ok i (by omega)
theorem wf_ok_k (ok : wf_ok c G K V) {r : Nat} {b : Int32} (h2 : -50 ≤ b.toInt ∧ b.toInt ≤ 50) : wf_ok c G (upd K r b) V := by
  intro i hi
  by_cases e : i = r
  · subst e; rw [pk_us]; exact ⟨(ok i hi).1, h2, (ok i hi).2.2⟩
  · rw [pk_un e]; exact ok i hi
theorem wf_ok_v (ok : wf_ok c G K V) {r : Nat} {b : Int32} (h2 : -1000 ≤ b.toInt ∧ b.toInt ≤ 1000) : wf_ok c G K (upd V r b) := by
  intro i hi
  by_cases e : i = r
  · subst e; rw [pk_us]; exact ⟨(ok i hi).1, (ok i hi).2.1, h2⟩
  · rw [pk_un e]; exact ok i hi
theorem wf_ok_c (ok : wf_ok c G K V) {r s : Nat} (hs : s < c) : wf_ok c (upd G r (G s)) (upd K r (K s)) (upd V r (V s)) := by
  intro i hi
  by_cases e : i = r
  · subst e; rw [pk_us, pk_us, pk_us]; exact ok s hs
  · rw [pk_un e, pk_un e, pk_un e]; exact ok i hi
theorem wf_sow_g (a q : Nat) (ha : a ≤ 20) (hq : q ≤ 24) : 0 ≤ ((nI a + nI q) - (nI a + nI q) / 4 * 4).toInt ∧ ((nI a + nI q) - (nI a + nI q) / 4 * 4).toInt ≤ 3 := by
  rw [nI_add]
  have e : nI (a + q) - nI (a + q) / 4 * 4 = nI ((a + q) % 4) := pk_rem (d := 4) (by omega) (by omega) (by omega)
  rw [e, nI_toInt (by omega)]
  omega
theorem wf_sow_k (a b q : Nat) (ha : a ≤ 20) (hb : b ≤ 9) (hq : q ≤ 24) : -50 ≤ (((nI a + ((7 * nI q) * nI b)) - (nI a + ((7 * nI q) * nI b)) / 21 * 21) - 10).toInt ∧ (((nI a + ((7 * nI q) * nI b)) - (nI a + ((7 * nI q) * nI b)) / 21 * 21) - 10).toInt ≤ 50 := by
  have e0 : 7 * nI q = nI (7 * q) := pk_mul 7 q
  have h : 7 * q * b ≤ 168 * 9 := Nat.mul_le_mul (by omega) hb
  rw [e0, pk_mul, nI_add]
  generalize 7 * q * b = y at *
  have e : nI (a + y) - nI (a + y) / 21 * 21 = nI ((a + y) % 21) := pk_rem (d := 21) (by omega) (by omega) (by omega)
  have e2 : (nI ((a + y) % 21)).toInt = (((a + y) % 21 : Nat) : Int) := nI_toInt (by omega)
  rw [e, wf_sub (by omega) (by rw [wf_10i]; omega), e2, wf_10i]
  omega
theorem wf_sow_v (a q : Nat) (ha : a ≤ 20) (hq : q ≤ 24) : -1000 ≤ (((nI a * 31) + ((nI q * nI q) * 17)) - ((nI a * 31) + ((nI q * nI q) * 17)) / 500 * 500).toInt ∧ (((nI a * 31) + ((nI q * nI q) * 17)) - ((nI a * 31) + ((nI q * nI q) * 17)) / 500 * 500).toInt ≤ 1000 := by
  have e0 : nI a * 31 = nI (a * 31) := pk_mul a 31
  have h : q * q ≤ 24 * 24 := Nat.mul_le_mul hq hq
  rw [e0, pk_mul q q]
  generalize q * q = y at *
  have e1 : nI y * 17 = nI (y * 17) := pk_mul y 17
  rw [e1, nI_add]
  have e : nI (a * 31 + y * 17) - nI (a * 31 + y * 17) / 500 * 500 = nI ((a * 31 + y * 17) % 500) := pk_rem (d := 500) (by omega) (by omega) (by omega)
  rw [e, nI_toInt (by omega)]
  omega
theorem wf_ysow24 {post : Int32 → SY → Prop} {x1 x2 : Int32} {m : Nat} (hm : m ≤ 24) (h : post (nI 24) (nI 24, kd, fr, tt, G, K, V)) : ∀ d q n, q + d = m → d < n → wY_sow_42 post x1 x2 (nI m) n (nI q) (nI 24) kd fr tt G K V := by
  intro d
  induction d with
  | zero =>
    intro q n hs hn
    obtain ⟨n, rfl⟩ : ∃ m, n = m + 1 := ⟨n - 1, by omega⟩
    obtain rfl : q = m := by omega
    exact br_t (Int32.le_refl _) h
  | succ d ih =>
    intro q n hs hn
    obtain ⟨n, rfl⟩ : ∃ m, n = m + 1 := ⟨n - 1, by omega⟩
    refine br_f (nI_ge (by omega) (by omega)) ⟨by decide, nm_e ⟨by decide, nm_e ⟨by decide, nm_e ?_⟩⟩⟩
    refine wf_yadd24 rfl (nm_r (nI_1 q) (ih (q + 1) n (by omega) (by omega)))
theorem wf_sow {a b m : Nat} (ha : a ≤ 20) (hb : b ≤ 9) (hm : m ≤ 24) : ∀ (d q c : Nat) (G K V : Nat → Int32), q + d = m → c ≤ 24 → wf_ok c G K V → ∃ (c' : Nat) (G' K' V' : Nat → Int32), c' ≤ 24 ∧ wf_ok c' G' K' V' ∧ (∀ (post : Int32 → SX → Prop) (n : Nat), d < n → post (nI c') (nI c', kd, fr, tt, ff, fe, 0, G', K', V', ord, spt, beg, pf, pe, st, tot, low, high) → wX_sow_42 post (nI a) (nI b) (nI m) n (nI q) (nI c) kd fr tt ff fe cu G K V ord spt beg pf pe st tot low high) ∧ (∀ (post : Int32 → SY → Prop) (n : Nat), d < n → post (nI c') (nI c', kd, fr, tt, G', K', V') → wY_sow_42 post (nI a) (nI b) (nI m) n (nI q) (nI c) kd fr tt G K V) := by
  intro d
  induction d with
  | zero =>
    intro q c G K V hs hc ok
    refine ⟨c, G, K, V, hc, ok, fun post n hn h => ?_, fun post n hn h => ?_⟩
    · obtain ⟨n, rfl⟩ : ∃ m, n = m + 1 := ⟨n - 1, by omega⟩
      exact br_t (nI_le (by omega) (by omega)) h
    · obtain ⟨n, rfl⟩ : ∃ m, n = m + 1 := ⟨n - 1, by omega⟩
      exact br_t (nI_le (by omega) (by omega)) h
  | succ d ih =>
    intro q c G K V hs hc ok
    by_cases h24 : c = 24
    · subst h24
      refine ⟨24, G, K, V, hc, ok, fun post n hn h => ?_, fun post n hn h => ?_⟩
      · obtain ⟨n, rfl⟩ : ∃ m, n = m + 1 := ⟨n - 1, by omega⟩
        exact br_f (nI_ge (by omega) (by omega)) (br_t (by decide) h)
      · exact wf_ysow24 hm h (d + 1) q n hs hn
    · obtain ⟨c', G', K', V', h1, h2, hX, hY⟩ := ih (q + 1) (c + 1) _ _ _ (by omega) (by omega) (wf_ok_put ok (wf_sow_g a q ha (by omega)) (wf_sow_k a b q ha hb (by omega)) (wf_sow_v a q ha (by omega)))
      refine ⟨c', G', K', V', h1, h2, fun post n hn h => ?_, fun post n hn h => ?_⟩
      · obtain ⟨n, rfl⟩ : ∃ m, n = m + 1 := ⟨n - 1, by omega⟩
        refine br_f (nI_ge (by omega) (by omega)) (br_f (nI_ge (b := 24) (by omega) (by decide)) ⟨by decide, nm_e ⟨by decide, nm_e ⟨by decide, ?_⟩⟩⟩)
        exact wf_xwrite (by omega) (nm_r (nI_1 c) (nm_r (nI_1 q) (hX post n (by omega) h)))
      · obtain ⟨n, rfl⟩ : ∃ m, n = m + 1 := ⟨n - 1, by omega⟩
        refine br_f (nI_ge (by omega) (by omega)) ⟨by decide, nm_e ⟨by decide, nm_e ⟨by decide, nm_e ?_⟩⟩⟩
        exact wf_yadd (by omega) (nm_r (nI_1 q) (hY post n (by omega) h))
theorem wf_drop {e : Nat} (he : e < 24) : ∀ (d i : Nat) (G K V : Nat → Int32), i + d = e → wf_ok (e + 1) G K V → ∃ (G' K' V' : Nat → Int32), wf_ok (e + 1) G' K' V' ∧ (∀ (post : Int32 → SX → Prop) (n : Nat), d < n → post (nI e) (nI e, kd, fr, tt, ff, fe, 0, G', K', V', ord, spt, beg, pf, pe, st, tot, low, high) → wX_drop_14 post n (nI (i + 1)) (nI (e + 1)) kd fr tt ff fe cu G K V ord spt beg pf pe st tot low high) ∧ (∀ (post : Int32 → SY → Prop) (n : Nat), d < n → post (nI e) (nI e, kd, fr, tt, G', K', V') → wY_drop_12 post (nI (e + 1)) kd fr tt n (nI i) G K V) := by
  intro d
  induction d with
  | zero =>
    intro i G K V hs ok
    refine ⟨G, K, V, ok, fun post n hn h => ?_, fun post n hn h => ?_⟩
    · obtain ⟨n, rfl⟩ : ∃ m, n = m + 1 := ⟨n - 1, by omega⟩
      exact br_t (nI_le (by omega) (by omega)) (nm_r (nI_pred e) h)
    · obtain ⟨n, rfl⟩ : ∃ m, n = m + 1 := ⟨n - 1, by omega⟩
      have hle : nI (e + 1) - 1 ≤ nI i := by rw [nI_pred e]; exact nI_le (by omega) (by omega)
      exact br_t hle (nm_r (nI_pred e) h)
  | succ d ih =>
    intro i G K V hs ok
    obtain ⟨G', K', V', h2, hX, hY⟩ := ih (i + 1) _ _ _ (by omega) (wf_ok_c ok (r := i) (s := i + 1) (by omega))
    refine ⟨G', K', V', h2, fun post n hn h => ?_, fun post n hn h => ?_⟩
    · obtain ⟨n, rfl⟩ : ∃ m, n = m + 1 := ⟨n - 1, by omega⟩
      have v : vp_in (nI (i + 1)) 24 := vp_in_nI (by omega) (by omega)
      refine br_f (nI_ge (by omega) (by omega)) ?_
      rw [nI_pred i, nI_clamp (n := i + 1) (by omega)]
      exact ⟨v, v, v, wf_xwrite (by omega) (nm_r (nI_1 _) (hX post n (by omega) h))⟩
    · obtain ⟨n, rfl⟩ : ∃ m, n = m + 1 := ⟨n - 1, by omega⟩
      have v : vp_in (nI (i + 1)) 24 := vp_in_nI (by omega) (by omega)
      have v0 : vp_in (nI i) 24 := vp_in_nI (by omega) (by omega)
      have hle : ¬ nI (e + 1) - 1 ≤ nI i := by rw [nI_pred e]; exact nI_ge (by omega) (by omega)
      refine br_f hle (br_f (nI_ge (b := 23) (by omega) (by decide)) ?_)
      rw [nI_1 i, nI_clamp (n := i + 1) (by omega), nI_clamp (n := i) (by omega)]
      exact ⟨v, v0, nm_e ⟨v, v0, nm_e ⟨v, v0, nm_e (nm_e (hY post n (by omega) h))⟩⟩⟩
end WFM
end
section
/-! what is owed -/
theorem i_up {k : Nat} {u : SX} {v : SY} (h : i_Rel k u v) : i_Rel (k + 4) u v := h
theorem i_vc0 : wpX_init (fun u => wpY_init (fun v => i_Rel 0 u v)) :=
  wf_in (k := 0) (c := 0) ⟨by omega, fun i hi => by omega, Or.inl rfl, by decide, by decide⟩ (Or.inl rfl)
theorem i_vc_put {k : Nat} {u : SX} {v : SY} (I : i_Rel k u v) (hk : k + 4 ≤ 2048) (v1 : Int32) (v2 : Int32) (v3 : Int32) : wpX_put (fun r u' => wpY_put (fun r' v' => r' = r ∧ i_Rel (k + 4) u' v') v v1 v2 v3) u v1 v2 v3 := by
  refine wf_el (P := fun u v => wpX_put (fun r u' => wpY_put (fun r' v' => r' = r ∧ i_Rel (k + 4) u' v') v v1 v2 v3) u v1 v2 v3) ?_ I
  intro c kd fr tt ff fe cu G K V ord spt beg pf pe st tot low high hb hcu
  have R : i_Rel (k + 4) (nI c, kd, fr, tt, ff, fe, cu, G, K, V, ord, spt, beg, pf, pe, st, tot, low, high) (nI c, kd, fr, tt, G, K, V) := wf_in hb hcu
  obtain ⟨hc, ok, hkd, hfr, htt⟩ := hb
  unfold wpX_put wpY_put
  rcases wf_grp v1 with h | ⟨x, hx, rfl⟩
  · refine wf_xgrp0 (h.imp id (fun z => z.1)) (br_t rfl ?_)
    by_cases h0 : v1 < 0
    · exact br_t h0 ⟨rfl, R⟩
    · exact br_f h0 (br_f (h.resolve_left h0).2 ⟨rfl, R⟩)
  · refine wf_xgrp1 hx (br_f wf_10 ?_)
    have y1 : ¬ nI x < 0 := nI_pos (by omega)
    have y2 : nI x ≤ 3 := nI_le (b := 3) hx (by omega)
    by_cases h2 : ¬ v2 < -50 ∧ ¬ 50 < v2
    · refine wf_xkey1 h2.1 h2.2 (br_f wf_10 ?_)
      by_cases h3 : ¬ v3 < -1000 ∧ ¬ 1000 < v3
      · refine wf_xval1 h3.1 h3.2 (br_f wf_10 (pk_eq c 24 (fun e => ?_) (fun e => ?_)))
        · exact br_f y1 (br_t y2 (wf_ykey0 h2.1 h2.2 (br_t rfl (wf_yval0 h3.1 h3.2 (br_t rfl (wf_yadd24 e ⟨rfl, R⟩))))))
        · refine wf_xwrite (by omega) (nm_r (nI_1 c) ?_)
          refine br_f y1 (br_t y2 (wf_ykey0 h2.1 h2.2 (br_t rfl (wf_yval0 h3.1 h3.2 (br_t rfl (wf_yadd (by omega) ⟨(nI_pred c).symm, wf_in ⟨by omega, wf_ok_put ok ?_ ?_ ?_, hkd, hfr, htt⟩ (Or.inl rfl)⟩))))))
          · rw [nI_toInt (by omega)]; omega
          · have := wf_rng h2.1 h2.2; rw [wf_neg50, wf_50] at this; exact this
          · have := wf_rng h3.1 h3.2; rw [wf_neg1000, wf_1000] at this; exact this
      · exact wf_xval0 h3 (br_t rfl (br_f y1 (br_t y2 (wf_ykey0 h2.1 h2.2 (br_t rfl (wf_yval1 h3 (br_f wf_10 ⟨rfl, R⟩)))))))
    · exact wf_xkey0 h2 (br_t rfl (br_f y1 (br_t y2 (wf_ykey1 h2 (br_f wf_10 ⟨rfl, R⟩)))))
theorem i_vc_sow {k : Nat} {u : SX} {v : SY} (I : i_Rel k u v) (hk : k + 4 ≤ 2048) (v1 : Int32) (v2 : Int32) (v3 : Int32) : wpX_sow (fun r u' => wpY_sow (fun r' v' => r' = r ∧ i_Rel (k + 4) u' v') v v1 v2 v3) u v1 v2 v3 := by
  refine wf_el (P := fun u v => wpX_sow (fun r u' => wpY_sow (fun r' v' => r' = r ∧ i_Rel (k + 4) u' v') v v1 v2 v3) u v1 v2 v3) ?_ I
  intro c kd fr tt ff fe cu G K V ord spt beg pf pe st tot low high hb hcu
  have R : i_Rel (k + 4) (nI c, kd, fr, tt, ff, fe, cu, G, K, V, ord, spt, beg, pf, pe, st, tot, low, high) (nI c, kd, fr, tt, G, K, V) := wf_in hb hcu
  obtain ⟨hc, ok, hkd, hfr, htt⟩ := hb
  unfold wpX_sow wpY_sow
  by_cases a0 : v1 < 0
  · exact br_t a0 (br_t a0 ⟨rfl, R⟩)
  by_cases a1 : v1 ≤ 20
  rotate_left
  · exact br_f a0 (br_f a1 (br_f a0 (br_f a1 ⟨rfl, R⟩)))
  by_cases b0 : v2 < 0
  · exact br_f a0 (br_t a1 (br_t b0 (br_f a0 (br_t a1 (br_t b0 ⟨rfl, R⟩)))))
  by_cases b1 : v2 ≤ 9
  rotate_left
  · exact br_f a0 (br_t a1 (br_f b0 (br_f b1 (br_f a0 (br_t a1 (br_f b0 (br_f b1 ⟨rfl, R⟩)))))))
  by_cases m0 : v3 < 1
  · exact br_f a0 (br_t a1 (br_f b0 (br_t b1 (br_t m0 (br_f a0 (br_t a1 (br_f b0 (br_t b1 (br_t m0 ⟨rfl, R⟩)))))))))
  by_cases m1 : v3 ≤ 24
  rotate_left
  · exact br_f a0 (br_t a1 (br_f b0 (br_t b1 (br_f m0 (br_f m1 (br_f a0 (br_t a1 (br_f b0 (br_t b1 (br_f m0 (br_f m1 ⟨rfl, R⟩)))))))))))
  refine br_f a0 (br_t a1 (br_f b0 (br_t b1 (br_f m0 (br_t m1 ?_)))))
  obtain ⟨a, ha, rfl⟩ := nI_of2 (n := 20) (by decide) a0 a1
  obtain ⟨b, hb, rfl⟩ := nI_of2 (n := 9) (by decide) b0 b1
  have m00 : ¬ v3 < 0 := by
    rw [Int32.lt_iff_toInt_lt, wf_1i] at m0
    rw [Int32.lt_iff_toInt_lt, wf_0i]; omega
  obtain ⟨m, hm, rfl⟩ := nI_of2 (n := 24) (by decide) m00 m1
  obtain ⟨c', G', K', V', h1, h2, hX, hY⟩ := wf_sow (kd := kd) (fr := fr) (tt := tt) (ff := ff) (fe := fe) (cu := cu) (ord := ord) (spt := spt) (beg := beg) (pf := pf) (pe := pe) (st := st) (tot := tot) (low := low) (high := high) ha hb hm m 0 c G K V (by omega) hc ok
  refine ⟨m + 1, hX _ (m + 1) (by omega) ?_⟩
  refine br_f a0 (br_t a1 (br_f b0 (br_t b1 (br_f m0 (br_t m1 ⟨m + 1, hY _ (m + 1) (by omega) ?_⟩)))))
  exact ⟨rfl, wf_in ⟨h1, h2, hkd, hfr, htt⟩ (Or.inl rfl)⟩
theorem i_vc_rekey {k : Nat} {u : SX} {v : SY} (I : i_Rel k u v) (hk : k + 4 ≤ 2048) (v1 : Int32) (v2 : Int32) : wpX_rekey (fun r u' => wpY_rekey (fun r' v' => r' = r ∧ i_Rel (k + 4) u' v') v v1 v2) u v1 v2 := by
  refine wf_el (P := fun u v => wpX_rekey (fun r u' => wpY_rekey (fun r' v' => r' = r ∧ i_Rel (k + 4) u' v') v v1 v2) u v1 v2) ?_ I
  intro c kd fr tt ff fe cu G K V ord spt beg pf pe st tot low high hb hcu
  have R : i_Rel (k + 4) (nI c, kd, fr, tt, ff, fe, cu, G, K, V, ord, spt, beg, pf, pe, st, tot, low, high) (nI c, kd, fr, tt, G, K, V) := wf_in hb hcu
  obtain ⟨hc, ok, hkd, hfr, htt⟩ := hb
  rcases pk_ix v1 (n := c) (by omega) with h | h | ⟨r, hr, rfl⟩
  · unfold wpX_rekey wpY_rekey
    exact wf_xrow0 (Or.inl h) (br_t rfl (wf_ybad1 (Or.inl h) (br_f wf_10 ⟨rfl, R⟩)))
  · unfold wpX_rekey wpY_rekey
    exact wf_xrow0 (Or.inr h) (br_t rfl (wf_ybad1 (Or.inr h) (br_f wf_10 ⟨rfl, R⟩)))
  · unfold wpX_rekey wpY_rekey
    by_cases h2 : ¬ v2 < -50 ∧ ¬ 50 < v2
    · refine wf_xrow1 hc hr (br_f wf_10 (wf_xkey1 h2.1 h2.2 (br_f wf_10 ?_)))
      rw [nI_clamp (n := r) (by omega)]
      have v : vp_in (nI r) 24 := vp_in_nI (by omega) (by omega)
      refine ⟨v, nm_e ⟨v, nm_e ?_⟩⟩
      refine wf_ybad0 hc hr (br_t rfl (wf_ykey0 h2.1 h2.2 (br_t rfl ?_)))
      refine ⟨v, nm_e ⟨v, nm_e ⟨rfl, wf_in ⟨hc, wf_ok_k ok ?_, hkd, hfr, htt⟩ (Or.inl rfl)⟩⟩⟩
      have := wf_rng h2.1 h2.2
      rw [wf_neg50, wf_50] at this; exact this
    · exact wf_xrow1 hc hr (br_f wf_10 (wf_xkey0 h2 (br_t rfl (wf_ybad0 hc hr (br_t rfl (wf_ykey1 h2 (br_f wf_10 ⟨rfl, R⟩)))))))
theorem i_vc_revalue {k : Nat} {u : SX} {v : SY} (I : i_Rel k u v) (hk : k + 4 ≤ 2048) (v1 : Int32) (v2 : Int32) : wpX_revalue (fun r u' => wpY_revalue (fun r' v' => r' = r ∧ i_Rel (k + 4) u' v') v v1 v2) u v1 v2 := by
  refine wf_el (P := fun u v => wpX_revalue (fun r u' => wpY_revalue (fun r' v' => r' = r ∧ i_Rel (k + 4) u' v') v v1 v2) u v1 v2) ?_ I
  intro c kd fr tt ff fe cu G K V ord spt beg pf pe st tot low high hb hcu
  have R : i_Rel (k + 4) (nI c, kd, fr, tt, ff, fe, cu, G, K, V, ord, spt, beg, pf, pe, st, tot, low, high) (nI c, kd, fr, tt, G, K, V) := wf_in hb hcu
  obtain ⟨hc, ok, hkd, hfr, htt⟩ := hb
  rcases pk_ix v1 (n := c) (by omega) with h | h | ⟨r, hr, rfl⟩
  · unfold wpX_revalue wpY_revalue
    exact wf_xrow0 (Or.inl h) (br_t rfl (wf_ybad1 (Or.inl h) (br_f wf_10 ⟨rfl, R⟩)))
  · unfold wpX_revalue wpY_revalue
    exact wf_xrow0 (Or.inr h) (br_t rfl (wf_ybad1 (Or.inr h) (br_f wf_10 ⟨rfl, R⟩)))
  · unfold wpX_revalue wpY_revalue
    by_cases h2 : ¬ v2 < -1000 ∧ ¬ 1000 < v2
    · refine wf_xrow1 hc hr (br_f wf_10 (wf_xval1 h2.1 h2.2 (br_f wf_10 ?_)))
      rw [nI_clamp (n := r) (by omega)]
      have v : vp_in (nI r) 24 := vp_in_nI (by omega) (by omega)
      refine ⟨v, nm_e ⟨v, nm_e ?_⟩⟩
      refine wf_ybad0 hc hr (br_t rfl (wf_yval0 h2.1 h2.2 (br_t rfl ?_)))
      refine ⟨v, nm_e ⟨v, nm_e ⟨rfl, wf_in ⟨hc, wf_ok_v ok ?_, hkd, hfr, htt⟩ (Or.inl rfl)⟩⟩⟩
      have := wf_rng h2.1 h2.2
      rw [wf_neg1000, wf_1000] at this; exact this
    · exact wf_xrow1 hc hr (br_f wf_10 (wf_xval0 h2 (br_t rfl (wf_ybad0 hc hr (br_t rfl (wf_yval1 h2 (br_f wf_10 ⟨rfl, R⟩)))))))
theorem i_vc_drop {k : Nat} {u : SX} {v : SY} (I : i_Rel k u v) (hk : k + 4 ≤ 2048) (v1 : Int32) : wpX_drop (fun r u' => wpY_drop (fun r' v' => r' = r ∧ i_Rel (k + 4) u' v') v v1) u v1 := by
  refine wf_el (P := fun u v => wpX_drop (fun r u' => wpY_drop (fun r' v' => r' = r ∧ i_Rel (k + 4) u' v') v v1) u v1) ?_ I
  intro c kd fr tt ff fe cu G K V ord spt beg pf pe st tot low high hb hcu
  have R : i_Rel (k + 4) (nI c, kd, fr, tt, ff, fe, cu, G, K, V, ord, spt, beg, pf, pe, st, tot, low, high) (nI c, kd, fr, tt, G, K, V) := wf_in hb hcu
  obtain ⟨hc, ok, hkd, hfr, htt⟩ := hb
  rcases pk_ix v1 (n := c) (by omega) with h | h | ⟨r, hr, rfl⟩
  · unfold wpX_drop wpY_drop
    exact wf_xrow0 (Or.inl h) (br_t rfl (wf_ybad1 (Or.inl h) (br_f wf_10 ⟨rfl, R⟩)))
  · unfold wpX_drop wpY_drop
    exact wf_xrow0 (Or.inr h) (br_t rfl (wf_ybad1 (Or.inr h) (br_f wf_10 ⟨rfl, R⟩)))
  · unfold wpX_drop wpY_drop
    obtain ⟨e, rfl⟩ : ∃ e, c = e + 1 := ⟨c - 1, by omega⟩
    obtain ⟨G', K', V', h2, hX, hY⟩ := wf_drop (kd := kd) (fr := fr) (tt := tt) (ff := ff) (fe := fe) (cu := cu) (ord := ord) (spt := spt) (beg := beg) (pf := pf) (pe := pe) (st := st) (tot := tot) (low := low) (high := high) (show e < 24 by omega) (e - r) r G K V (by omega) ok
    refine wf_xrow1 hc hr (br_f wf_10 (nm_r (nI_1 r) ⟨e + 1, hX _ (e + 1) (by omega) ?_⟩))
    refine wf_ybad0 hc hr (br_t rfl ⟨e + 1, hY _ (e + 1) (by omega) ?_⟩)
    exact ⟨rfl, wf_in ⟨by omega, fun i hi => h2 i (by omega), hkd, hfr, htt⟩ (Or.inl rfl)⟩
theorem i_vc_frame {k : Nat} {u : SX} {v : SY} (I : i_Rel k u v) (hk : k + 4 ≤ 2048) (v1 : Int32) (v2 : Int32) (v3 : Int32) : wpX_frame (fun r u' => wpY_frame (fun r' v' => r' = r ∧ i_Rel (k + 4) u' v') v v1 v2 v3) u v1 v2 v3 := by
  refine wf_el (P := fun u v => wpX_frame (fun r u' => wpY_frame (fun r' v' => r' = r ∧ i_Rel (k + 4) u' v') v v1 v2 v3) u v1 v2 v3) ?_ I
  intro c kd fr tt ff fe cu G K V ord spt beg pf pe st tot low high hb hcu
  have R : i_Rel (k + 4) (nI c, kd, fr, tt, ff, fe, cu, G, K, V, ord, spt, beg, pf, pe, st, tot, low, high) (nI c, kd, fr, tt, G, K, V) := wf_in hb hcu
  obtain ⟨hc, ok, hkd, hfr, htt⟩ := hb
  unfold wpX_frame wpY_frame
  by_cases a0 : v1 < 0
  · exact br_t a0 (br_t a0 ⟨rfl, R⟩)
  by_cases a1 : v1 ≤ 2
  rotate_left
  · exact br_f a0 (br_f a1 (br_f a0 (br_f a1 ⟨rfl, R⟩)))
  by_cases b0 : v2 < -30
  · exact br_f a0 (br_t a1 (br_t b0 (br_f a0 (br_t a1 (br_t b0 ⟨rfl, R⟩)))))
  by_cases b1 : 30 < v2
  · exact br_f a0 (br_t a1 (br_f b0 (br_t b1 (br_f a0 (br_t a1 (br_f b0 (br_t b1 ⟨rfl, R⟩)))))))
  by_cases m0 : v3 < -30
  · exact br_f a0 (br_t a1 (br_f b0 (br_f b1 (br_t m0 (br_f a0 (br_t a1 (br_f b0 (br_f b1 (br_t m0 ⟨rfl, R⟩)))))))))
  by_cases m1 : v3 ≤ 30
  rotate_left
  · exact br_f a0 (br_t a1 (br_f b0 (br_f b1 (br_f m0 (br_f m1 (br_f a0 (br_t a1 (br_f b0 (br_f b1 (br_f m0 (br_f m1 ⟨rfl, R⟩)))))))))))
  refine br_f a0 (br_t a1 (br_f b0 (br_f b1 (br_f m0 (br_t m1 (br_f a0 (br_t a1 (br_f b0 (br_f b1 (br_f m0 (br_t m1 ⟨rfl, wf_in ⟨hc, ok, ?_, ?_, ?_⟩ hcu⟩)))))))))))
  · obtain ⟨a, ha, rfl⟩ := nI_of2 (n := 2) (by decide) a0 a1
    rcases (show a = 0 ∨ a = 1 ∨ a = 2 by omega) with rfl | rfl | rfl
    · exact Or.inl rfl
    · exact Or.inr (Or.inl rfl)
    · exact Or.inr (Or.inr rfl)
  · have := wf_rng b0 b1
    rw [wf_neg30, wf_30] at this; exact this
  · have := wf_rng m0 (Int32.not_lt.mpr m1)
    rw [wf_neg30, wf_30] at this; exact this
theorem i_vc_rows {k : Nat} {u : SX} {v : SY} (I : i_Rel k u v) (hk : k + 4 ≤ 2048) : wpX_rows (fun r => wpY_rows (fun r' => r' = r ∧ i_Rel (k + 4) u v) v) u := by
  refine wf_el (P := fun u v => wpX_rows (fun r => wpY_rows (fun r' => r' = r ∧ i_Rel (k + 4) u v) v) u) ?_ I
  intro c kd fr tt ff fe cu G K V ord spt beg pf pe st tot low high hb hcu
  have R : i_Rel (k + 4) (nI c, kd, fr, tt, ff, fe, cu, G, K, V, ord, spt, beg, pf, pe, st, tot, low, high) (nI c, kd, fr, tt, G, K, V) := wf_in hb hcu
  obtain ⟨hc, ok, hkd, hfr, htt⟩ := hb
  exact ⟨rfl, R⟩
theorem i_vc_place {k : Nat} {u : SX} {v : SY} (I : i_Rel k u v) (hk : k + 4 ≤ 2048) (v1 : Int32) : wpX_place (fun r u' => wpY_place (fun r' => r' = r ∧ i_Rel (k + 4) u' v) v v1) u v1 := by
  refine wf_el (P := fun u v => wpX_place (fun r u' => wpY_place (fun r' => r' = r ∧ i_Rel (k + 4) u' v) v v1) u v1) ?_ I
  intro c kd fr tt ff fe cu G K V ord spt beg pf pe st tot low high hb hcu
  have R : i_Rel (k + 4) (nI c, kd, fr, tt, ff, fe, cu, G, K, V, ord, spt, beg, pf, pe, st, tot, low, high) (nI c, kd, fr, tt, G, K, V) := wf_in hb hcu
  obtain ⟨hc, ok, hkd, hfr, htt⟩ := hb
  rcases pk_ix v1 (n := c) (by omega) with h | h | ⟨r, hr, rfl⟩
  · unfold wpX_place wpY_place
    exact wf_xrow0 (Or.inl h) (br_t rfl (wf_ybad1 (Or.inl h) (br_f wf_10 ⟨rfl, R⟩)))
  · unfold wpX_place wpY_place
    exact wf_xrow0 (Or.inr h) (br_t rfl (wf_ybad1 (Or.inr h) (br_f wf_10 ⟨rfl, R⟩)))
  · refine wf_xplace hc ok hcu hr (fun o ord spt beg pf pe st tot low high hF => ?_)
    unfold wpY_place
    exact wf_ybad0 hc hr (br_t rfl (wf_yplace hc hr ⟨rfl, wf_in ⟨hc, ok, hkd, hfr, htt⟩ (Or.inr ⟨rfl, o, hF⟩)⟩))
theorem i_vc_rowAt {k : Nat} {u : SX} {v : SY} (I : i_Rel k u v) (hk : k + 4 ≤ 2048) (v1 : Int32) (v2 : Int32) : wpX_rowAt (fun r u' => wpY_rowAt (fun r' => r' = r ∧ i_Rel (k + 4) u' v) v v1 v2) u v1 v2 := by
  refine wf_el (P := fun u v => wpX_rowAt (fun r u' => wpY_rowAt (fun r' => r' = r ∧ i_Rel (k + 4) u' v) v v1 v2) u v1 v2) ?_ I
  intro c kd fr tt ff fe cu G K V ord spt beg pf pe st tot low high hb hcu
  have R : i_Rel (k + 4) (nI c, kd, fr, tt, ff, fe, cu, G, K, V, ord, spt, beg, pf, pe, st, tot, low, high) (nI c, kd, fr, tt, G, K, V) := wf_in hb hcu
  obtain ⟨hc, ok, hkd, hfr, htt⟩ := hb
  rcases wf_grp v1 with h | ⟨x, hx, rfl⟩
  · unfold wpX_rowAt wpY_rowAt
    refine wf_xgrp0 (h.imp id (fun z => z.1)) (br_t rfl ?_)
    by_cases h0 : v1 < 0
    · exact br_t h0 ⟨rfl, R⟩
    · exact br_f h0 (br_f (h.resolve_left h0).2 ⟨rfl, R⟩)
  · refine wf_xrowAt hc ok hcu hx (fun o ord spt beg pf pe st tot low high res hF h1 h2 => ?_)
    unfold wpY_rowAt
    exact br_f (nI_pos (by omega)) (br_t (nI_le (b := 3) hx (by omega)) (wf_yat hc (fun r hr z1 z2 => ⟨h1 r hr z1 z2, wf_in ⟨hc, ok, hkd, hfr, htt⟩ (Or.inr ⟨rfl, o, hF⟩)⟩) (fun z => ⟨h2 z, wf_in ⟨hc, ok, hkd, hfr, htt⟩ (Or.inr ⟨rfl, o, hF⟩)⟩)))
theorem i_vc_rank {k : Nat} {u : SX} {v : SY} (I : i_Rel k u v) (hk : k + 4 ≤ 2048) (v1 : Int32) : wpX_rank (fun r u' => wpY_rank (fun r' => r' = r ∧ i_Rel (k + 4) u' v) v v1) u v1 := by
  refine wf_el (P := fun u v => wpX_rank (fun r u' => wpY_rank (fun r' => r' = r ∧ i_Rel (k + 4) u' v) v v1) u v1) ?_ I
  intro c kd fr tt ff fe cu G K V ord spt beg pf pe st tot low high hb hcu
  have R : i_Rel (k + 4) (nI c, kd, fr, tt, ff, fe, cu, G, K, V, ord, spt, beg, pf, pe, st, tot, low, high) (nI c, kd, fr, tt, G, K, V) := wf_in hb hcu
  obtain ⟨hc, ok, hkd, hfr, htt⟩ := hb
  rcases pk_ix v1 (n := c) (by omega) with h | h | ⟨r, hr, rfl⟩
  · unfold wpX_rank wpY_rank
    exact wf_xrow0 (Or.inl h) (br_t rfl (wf_ybad1 (Or.inl h) (br_f wf_10 ⟨rfl, R⟩)))
  · unfold wpX_rank wpY_rank
    exact wf_xrow0 (Or.inr h) (br_t rfl (wf_ybad1 (Or.inr h) (br_f wf_10 ⟨rfl, R⟩)))
  · refine wf_xrank hc ok hcu hr (fun o ord spt beg pf pe st tot low high hF => ?_)
    unfold wpY_rank
    exact wf_ybad0 hc hr (br_t rfl (wf_ylesser hc hr ⟨rfl, wf_in ⟨hc, ok, hkd, hfr, htt⟩ (Or.inr ⟨rfl, o, hF⟩)⟩))
theorem i_vc_denseRank {k : Nat} {u : SX} {v : SY} (I : i_Rel k u v) (hk : k + 4 ≤ 2048) (v1 : Int32) : wpX_denseRank (fun r u' => wpY_denseRank (fun r' => r' = r ∧ i_Rel (k + 4) u' v) v v1) u v1 := by
  refine wf_el (P := fun u v => wpX_denseRank (fun r u' => wpY_denseRank (fun r' => r' = r ∧ i_Rel (k + 4) u' v) v v1) u v1) ?_ I
  intro c kd fr tt ff fe cu G K V ord spt beg pf pe st tot low high hb hcu
  have R : i_Rel (k + 4) (nI c, kd, fr, tt, ff, fe, cu, G, K, V, ord, spt, beg, pf, pe, st, tot, low, high) (nI c, kd, fr, tt, G, K, V) := wf_in hb hcu
  obtain ⟨hc, ok, hkd, hfr, htt⟩ := hb
  rcases pk_ix v1 (n := c) (by omega) with h | h | ⟨r, hr, rfl⟩
  · unfold wpX_denseRank wpY_denseRank
    exact wf_xrow0 (Or.inl h) (br_t rfl (wf_ybad1 (Or.inl h) (br_f wf_10 ⟨rfl, R⟩)))
  · unfold wpX_denseRank wpY_denseRank
    exact wf_xrow0 (Or.inr h) (br_t rfl (wf_ybad1 (Or.inr h) (br_f wf_10 ⟨rfl, R⟩)))
  · refine wf_xdense hc ok hcu hr (fun o ord spt beg pf pe st tot low high hF => ?_)
    unfold wpY_denseRank
    exact wf_ybad0 hc hr (br_t rfl (wf_ystep hc hr ⟨rfl, wf_in ⟨hc, ok, hkd, hfr, htt⟩ (Or.inr ⟨rfl, o, hF⟩)⟩))
theorem i_vc_size {k : Nat} {u : SX} {v : SY} (I : i_Rel k u v) (hk : k + 4 ≤ 2048) (v1 : Int32) : wpX_size (fun r u' => wpY_size (fun r' => r' = r ∧ i_Rel (k + 4) u' v) v v1) u v1 := by
  refine wf_el (P := fun u v => wpX_size (fun r u' => wpY_size (fun r' => r' = r ∧ i_Rel (k + 4) u' v) v v1) u v1) ?_ I
  intro c kd fr tt ff fe cu G K V ord spt beg pf pe st tot low high hb hcu
  have R : i_Rel (k + 4) (nI c, kd, fr, tt, ff, fe, cu, G, K, V, ord, spt, beg, pf, pe, st, tot, low, high) (nI c, kd, fr, tt, G, K, V) := wf_in hb hcu
  obtain ⟨hc, ok, hkd, hfr, htt⟩ := hb
  rcases pk_ix v1 (n := c) (by omega) with h | h | ⟨r, hr, rfl⟩
  · unfold wpX_size wpY_size
    exact wf_xrow0 (Or.inl h) (br_t rfl (wf_ybad1 (Or.inl h) (br_f wf_10 ⟨rfl, R⟩)))
  · unfold wpX_size wpY_size
    exact wf_xrow0 (Or.inr h) (br_t rfl (wf_ybad1 (Or.inr h) (br_f wf_10 ⟨rfl, R⟩)))
  · refine wf_xsize hc ok hcu hkd hfr htt hr (fun o ord spt beg pf pe st tot low high ff fe hF => ?_)
    unfold wpY_size
    exact wf_ybad0 hc hr (br_t rfl ⟨c + 1, wf_ysize14 hc ok hr ⟨rfl, wf_in ⟨hc, ok, hkd, hfr, htt⟩ (Or.inr ⟨rfl, o, hF⟩)⟩ c 0 (c + 1) (by omega) (by omega)⟩)
theorem i_vc_sum {k : Nat} {u : SX} {v : SY} (I : i_Rel k u v) (hk : k + 4 ≤ 2048) (v1 : Int32) : wpX_sum (fun r u' => wpY_sum (fun r' => r' = r ∧ i_Rel (k + 4) u' v) v v1) u v1 := by
  refine wf_el (P := fun u v => wpX_sum (fun r u' => wpY_sum (fun r' => r' = r ∧ i_Rel (k + 4) u' v) v v1) u v1) ?_ I
  intro c kd fr tt ff fe cu G K V ord spt beg pf pe st tot low high hb hcu
  have R : i_Rel (k + 4) (nI c, kd, fr, tt, ff, fe, cu, G, K, V, ord, spt, beg, pf, pe, st, tot, low, high) (nI c, kd, fr, tt, G, K, V) := wf_in hb hcu
  obtain ⟨hc, ok, hkd, hfr, htt⟩ := hb
  rcases pk_ix v1 (n := c) (by omega) with h | h | ⟨r, hr, rfl⟩
  · unfold wpX_sum wpY_sum
    exact wf_xrow0 (Or.inl h) (br_t rfl (wf_ybad1 (Or.inl h) (br_f wf_10 ⟨rfl, R⟩)))
  · unfold wpX_sum wpY_sum
    exact wf_xrow0 (Or.inr h) (br_t rfl (wf_ybad1 (Or.inr h) (br_f wf_10 ⟨rfl, R⟩)))
  · refine wf_xsum hc ok hcu hkd hfr htt hr (fun o ord spt beg pf pe st tot low high ff fe hF => ?_)
    unfold wpY_sum
    exact wf_ybad0 hc hr (br_t rfl ⟨c + 1, wf_ysum14 hc ok hr ⟨rfl, wf_in ⟨hc, ok, hkd, hfr, htt⟩ (Or.inr ⟨rfl, o, hF⟩)⟩ c 0 (c + 1) (by omega) (by omega)⟩)
theorem i_vc_least {k : Nat} {u : SX} {v : SY} (I : i_Rel k u v) (hk : k + 4 ≤ 2048) (v1 : Int32) : wpX_least (fun r u' => wpY_least (fun r' => r' = r ∧ i_Rel (k + 4) u' v) v v1) u v1 := by
  refine wf_el (P := fun u v => wpX_least (fun r u' => wpY_least (fun r' => r' = r ∧ i_Rel (k + 4) u' v) v v1) u v1) ?_ I
  intro c kd fr tt ff fe cu G K V ord spt beg pf pe st tot low high hb hcu
  have R : i_Rel (k + 4) (nI c, kd, fr, tt, ff, fe, cu, G, K, V, ord, spt, beg, pf, pe, st, tot, low, high) (nI c, kd, fr, tt, G, K, V) := wf_in hb hcu
  obtain ⟨hc, ok, hkd, hfr, htt⟩ := hb
  rcases pk_ix v1 (n := c) (by omega) with h | h | ⟨r, hr, rfl⟩
  · unfold wpX_least wpY_least
    exact wf_xrow0 (Or.inl h) (br_t rfl (wf_ybad1 (Or.inl h) (br_f wf_10 ⟨rfl, R⟩)))
  · unfold wpX_least wpY_least
    exact wf_xrow0 (Or.inr h) (br_t rfl (wf_ybad1 (Or.inr h) (br_f wf_10 ⟨rfl, R⟩)))
  · refine wf_xleast hc ok hcu hkd hfr htt hr (fun o ord spt beg pf pe st tot low high ff fe res hF hu => ?_)
    unfold wpY_least
    exact wf_ybad0 hc hr (br_t rfl ⟨c + 1, wf_yleast16 hc ok hr (fun m hm => ⟨hu m hm, wf_in ⟨hc, ok, hkd, hfr, htt⟩ (Or.inr ⟨rfl, o, hF⟩)⟩) c 0 (c + 1) 10000 (by omega) (by omega) ⟨fun i hi => by omega, Or.inl rfl⟩⟩)
theorem i_vc_most {k : Nat} {u : SX} {v : SY} (I : i_Rel k u v) (hk : k + 4 ≤ 2048) (v1 : Int32) : wpX_most (fun r u' => wpY_most (fun r' => r' = r ∧ i_Rel (k + 4) u' v) v v1) u v1 := by
  refine wf_el (P := fun u v => wpX_most (fun r u' => wpY_most (fun r' => r' = r ∧ i_Rel (k + 4) u' v) v v1) u v1) ?_ I
  intro c kd fr tt ff fe cu G K V ord spt beg pf pe st tot low high hb hcu
  have R : i_Rel (k + 4) (nI c, kd, fr, tt, ff, fe, cu, G, K, V, ord, spt, beg, pf, pe, st, tot, low, high) (nI c, kd, fr, tt, G, K, V) := wf_in hb hcu
  obtain ⟨hc, ok, hkd, hfr, htt⟩ := hb
  rcases pk_ix v1 (n := c) (by omega) with h | h | ⟨r, hr, rfl⟩
  · unfold wpX_most wpY_most
    exact wf_xrow0 (Or.inl h) (br_t rfl (wf_ybad1 (Or.inl h) (br_f wf_10 ⟨rfl, R⟩)))
  · unfold wpX_most wpY_most
    exact wf_xrow0 (Or.inr h) (br_t rfl (wf_ybad1 (Or.inr h) (br_f wf_10 ⟨rfl, R⟩)))
  · refine wf_xmost hc ok hcu hkd hfr htt hr (fun o ord spt beg pf pe st tot low high ff fe res hF hu => ?_)
    unfold wpY_most
    exact wf_ybad0 hc hr (br_t rfl ⟨c + 1, wf_ymost16 hc ok hr (fun m hm => ⟨hu m hm, wf_in ⟨hc, ok, hkd, hfr, htt⟩ (Or.inr ⟨rfl, o, hF⟩)⟩) c 0 (c + 1) (-10000) (by omega) (by omega) ⟨fun i hi => by omega, Or.inl rfl⟩⟩)
theorem i_vc_first {k : Nat} {u : SX} {v : SY} (I : i_Rel k u v) (hk : k + 4 ≤ 2048) (v1 : Int32) : wpX_first (fun r u' => wpY_first (fun r' => r' = r ∧ i_Rel (k + 4) u' v) v v1) u v1 := by
  refine wf_el (P := fun u v => wpX_first (fun r u' => wpY_first (fun r' => r' = r ∧ i_Rel (k + 4) u' v) v v1) u v1) ?_ I
  intro c kd fr tt ff fe cu G K V ord spt beg pf pe st tot low high hb hcu
  have R : i_Rel (k + 4) (nI c, kd, fr, tt, ff, fe, cu, G, K, V, ord, spt, beg, pf, pe, st, tot, low, high) (nI c, kd, fr, tt, G, K, V) := wf_in hb hcu
  obtain ⟨hc, ok, hkd, hfr, htt⟩ := hb
  rcases pk_ix v1 (n := c) (by omega) with h | h | ⟨r, hr, rfl⟩
  · unfold wpX_first wpY_first
    exact wf_xrow0 (Or.inl h) (br_t rfl (wf_ybad1 (Or.inl h) (br_f wf_10 ⟨rfl, R⟩)))
  · unfold wpX_first wpY_first
    exact wf_xrow0 (Or.inr h) (br_t rfl (wf_ybad1 (Or.inr h) (br_f wf_10 ⟨rfl, R⟩)))
  · refine wf_xfirst hc ok hcu hkd hfr htt hr (fun o ord spt beg pf pe st tot low high ff fe res hF h1 h2 => ?_)
    unfold wpY_first
    exact wf_ybad0 hc hr (br_t rfl ⟨c + 1, wf_yfirst15 hc ok hr (fun z => ⟨h1 z, wf_in ⟨hc, ok, hkd, hfr, htt⟩ (Or.inr ⟨rfl, o, hF⟩)⟩) (fun f f1 f2 f3 => ⟨h2 f f1 f2 f3, wf_in ⟨hc, ok, hkd, hfr, htt⟩ (Or.inr ⟨rfl, o, hF⟩)⟩) c 0 (c + 1) (-2) (by omega) (by omega) (Or.inl ⟨rfl, fun i hi => by omega⟩)⟩)
theorem i_vc_shift {k : Nat} {u : SX} {v : SY} (I : i_Rel k u v) (hk : k + 4 ≤ 2048) (v1 : Int32) (v2 : Int32) : wpX_shift (fun r u' => wpY_shift (fun r' => r' = r ∧ i_Rel (k + 4) u' v) v v1 v2) u v1 v2 := by
  refine wf_el (P := fun u v => wpX_shift (fun r u' => wpY_shift (fun r' => r' = r ∧ i_Rel (k + 4) u' v) v v1 v2) u v1 v2) ?_ I
  intro c kd fr tt ff fe cu G K V ord spt beg pf pe st tot low high hb hcu
  have R : i_Rel (k + 4) (nI c, kd, fr, tt, ff, fe, cu, G, K, V, ord, spt, beg, pf, pe, st, tot, low, high) (nI c, kd, fr, tt, G, K, V) := wf_in hb hcu
  obtain ⟨hc, ok, hkd, hfr, htt⟩ := hb
  rcases pk_ix v1 (n := c) (by omega) with h | h | ⟨r, hr, rfl⟩
  · unfold wpX_shift wpY_shift
    exact wf_xrow0 (Or.inl h) (br_t rfl (wf_ybad1 (Or.inl h) (br_f wf_10 ⟨rfl, R⟩)))
  · unfold wpX_shift wpY_shift
    exact wf_xrow0 (Or.inr h) (br_t rfl (wf_ybad1 (Or.inr h) (br_f wf_10 ⟨rfl, R⟩)))
  · unfold wpX_shift wpY_shift
    refine wf_xrow1 hc hr (br_f wf_10 ?_)
    by_cases n0 : v2 < -24
    · exact br_t n0 (wf_ybad0 hc hr (br_t rfl (br_t n0 ⟨rfl, R⟩)))
    by_cases n1 : v2 ≤ 24
    rotate_left
    · exact br_f n0 (br_f n1 (wf_ybad0 hc hr (br_t rfl (br_f n0 (br_f n1 ⟨rfl, R⟩)))))
    refine br_f n0 (br_t n1 (wf_xplace hc ok hcu hr (fun o ord spt beg pf pe st tot low high hF => ?_)))
    obtain ⟨x, hx, eg, et⟩ := wf_g5 ok hr
    have v : vp_in (nI r) 24 := vp_in_nI (by omega) (by omega)
    dsimp only
    rw [nI_clamp (n := r) (by omega), eg]
    refine nm_e ⟨v, wf_xrowAt hc ok (Or.inr ⟨rfl, o, hF⟩) hx (fun o ord spt beg pf pe st tot low high res hF h1 h2 => ?_)⟩
    exact wf_ybad0 hc hr (br_t rfl (br_f n0 (br_t n1 (wf_yplace hc hr ⟨v, wf_yat hc (fun r hr z1 z2 => ⟨h1 r hr z1 z2, wf_in ⟨hc, ok, hkd, hfr, htt⟩ (Or.inr ⟨rfl, o, hF⟩)⟩) (fun z => ⟨h2 z, wf_in ⟨hc, ok, hkd, hfr, htt⟩ (Or.inr ⟨rfl, o, hF⟩)⟩)⟩))))
theorem i_vc_tile {k : Nat} {u : SX} {v : SY} (I : i_Rel k u v) (hk : k + 4 ≤ 2048) (v1 : Int32) (v2 : Int32) : wpX_tile (fun r u' => wpY_tile (fun r' => r' = r ∧ i_Rel (k + 4) u' v) v v1 v2) u v1 v2 := by
  refine wf_el (P := fun u v => wpX_tile (fun r u' => wpY_tile (fun r' => r' = r ∧ i_Rel (k + 4) u' v) v v1 v2) u v1 v2) ?_ I
  intro c kd fr tt ff fe cu G K V ord spt beg pf pe st tot low high hb hcu
  have R : i_Rel (k + 4) (nI c, kd, fr, tt, ff, fe, cu, G, K, V, ord, spt, beg, pf, pe, st, tot, low, high) (nI c, kd, fr, tt, G, K, V) := wf_in hb hcu
  obtain ⟨hc, ok, hkd, hfr, htt⟩ := hb
  rcases pk_ix v1 (n := c) (by omega) with h | h | ⟨r, hr, rfl⟩
  · unfold wpX_tile wpY_tile
    exact wf_xrow0 (Or.inl h) (br_t rfl (wf_ybad1 (Or.inl h) (br_f wf_10 ⟨rfl, R⟩)))
  · unfold wpX_tile wpY_tile
    exact wf_xrow0 (Or.inr h) (br_t rfl (wf_ybad1 (Or.inr h) (br_f wf_10 ⟨rfl, R⟩)))
  · by_cases n0 : v2 < 1
    · unfold wpX_tile wpY_tile
      exact wf_xrow1 hc hr (br_f wf_10 (br_t n0 (wf_ybad0 hc hr (br_t rfl (br_t n0 ⟨rfl, R⟩)))))
    by_cases n1 : v2 ≤ 10
    rotate_left
    · unfold wpX_tile wpY_tile
      exact wf_xrow1 hc hr (br_f wf_10 (br_f n0 (br_f n1 (wf_ybad0 hc hr (br_t rfl (br_f n0 (br_f n1 ⟨rfl, R⟩)))))))
    have n00 : ¬ v2 < 0 := by
      rw [Int32.lt_iff_toInt_lt, wf_1i] at n0
      rw [Int32.lt_iff_toInt_lt, wf_0i]; omega
    obtain ⟨N, hN, rfl⟩ := nI_of2 (n := 10) (by decide) n00 n1
    have hN1 : 1 ≤ N := by
      rw [Int32.lt_iff_toInt_lt, wf_1i, nI_toInt (by omega)] at n0; omega
    refine wf_xtile hc ok hcu hr hN1 hN (fun o ord spt beg pf pe st tot low high T hF t1 t2 t3 t4 => ?_)
    exact wf_ytile hc hr hN1 hN t1 t2 t3 t4 ⟨rfl, wf_in ⟨hc, ok, hkd, hfr, htt⟩ (Or.inr ⟨rfl, o, hF⟩)⟩
theorem i_vc_framedBy {k : Nat} {u : SX} {v : SY} (I : i_Rel k u v) (hk : k + 4 ≤ 2048) (v1 : Int32) : wpX_framedBy (fun r u' => wpY_framedBy (fun r' => r' = r ∧ i_Rel (k + 4) u' v) v v1) u v1 := by
  refine wf_el (P := fun u v => wpX_framedBy (fun r u' => wpY_framedBy (fun r' => r' = r ∧ i_Rel (k + 4) u' v) v v1) u v1) ?_ I
  intro c kd fr tt ff fe cu G K V ord spt beg pf pe st tot low high hb hcu
  have R : i_Rel (k + 4) (nI c, kd, fr, tt, ff, fe, cu, G, K, V, ord, spt, beg, pf, pe, st, tot, low, high) (nI c, kd, fr, tt, G, K, V) := wf_in hb hcu
  obtain ⟨hc, ok, hkd, hfr, htt⟩ := hb
  rcases pk_ix v1 (n := c) (by omega) with h | h | ⟨r, hr, rfl⟩
  · unfold wpX_framedBy wpY_framedBy
    exact wf_xrow0 (Or.inl h) (br_t rfl (wf_ybad1 (Or.inl h) (br_f wf_10 ⟨rfl, R⟩)))
  · unfold wpX_framedBy wpY_framedBy
    exact wf_xrow0 (Or.inr h) (br_t rfl (wf_ybad1 (Or.inr h) (br_f wf_10 ⟨rfl, R⟩)))
  · refine wf_xfby hc ok hcu hkd hfr htt hr (fun ff fe cu ord spt beg pf pe st tot low high hcu => ?_)
    unfold wpY_framedBy
    exact wf_ybad0 hc hr (br_t rfl ⟨c + 1, wf_yframedBy14 hc ok hr ⟨rfl, wf_in ⟨hc, ok, hkd, hfr, htt⟩ hcu⟩ c 0 (c + 1) (by omega) (by omega)⟩)
theorem i_vc_total {k : Nat} {u : SX} {v : SY} (I : i_Rel k u v) (hk : k + 4 ≤ 2048) (v1 : Int32) : wpX_total (fun r u' => wpY_total (fun r' => r' = r ∧ i_Rel (k + 4) u' v) v v1) u v1 := by
  refine wf_el (P := fun u v => wpX_total (fun r u' => wpY_total (fun r' => r' = r ∧ i_Rel (k + 4) u' v) v v1) u v1) ?_ I
  intro c kd fr tt ff fe cu G K V ord spt beg pf pe st tot low high hb hcu
  have R : i_Rel (k + 4) (nI c, kd, fr, tt, ff, fe, cu, G, K, V, ord, spt, beg, pf, pe, st, tot, low, high) (nI c, kd, fr, tt, G, K, V) := wf_in hb hcu
  obtain ⟨hc, ok, hkd, hfr, htt⟩ := hb
  by_cases a0 : v1 < 0
  · exact br_t a0 (br_t a0 ⟨rfl, R⟩)
  by_cases a1 : v1 ≤ 15
  rotate_left
  · exact br_f a0 (br_f a1 (br_f a0 (br_f a1 ⟨rfl, R⟩)))
  refine wf_xtotal hc ok hcu a0 a1 (fun o ord spt beg pf pe st tot low high hF => ?_)
  unfold wpY_total
  exact br_f a0 (br_t a1 ⟨c + 1, wf_ytotal16 hc ⟨rfl, wf_in ⟨hc, ok, hkd, hfr, htt⟩ (Or.inr ⟨rfl, o, hF⟩)⟩ c 0 (c + 1) (by omega) (by omega)⟩)
end
