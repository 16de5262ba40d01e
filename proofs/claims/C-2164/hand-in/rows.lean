section
theorem pk_us {f : Nat → Int32} {k : Nat} {x : Int32} : upd f k x k = x := if_pos rfl
theorem pk_un {f : Nat → Int32} {k j : Nat} {x : Int32} (h : j ≠ k) : upd f k x j = f j := if_neg h
theorem pk_sub {a b : Nat} (h : b ≤ a) : nI a - nI b = nI (a - b) := by
  obtain ⟨c, rfl⟩ : ∃ c, a = c + b := ⟨a - b, by omega⟩
  rw [← nI_add, Int32.add_sub_cancel, Nat.add_sub_cancel]
theorem pk_m1 (n : Nat) : nI (n + 1) + (-1) = nI n := by
  rw [← nI_1, Int32.add_assoc, show (1 : Int32) + (-1) = 0 from rfl, Int32.add_zero]
theorem pk_mul (a b : Nat) : nI a * nI b = nI (a * b) := (Int32.ofNat_mul a b).symm
theorem pk_div {a d : Nat} (ha : a < 2 ^ 31) (h0 : 0 < d) (hd : d < 2 ^ 31) : nI a / nI d = nI (a / d) := by
  apply Int32.toInt_inj.mp
  rw [lg_idiv_nonneg (by rw [nI_toInt ha]; omega) (by rw [nI_toInt hd]; omega), nI_toInt ha, nI_toInt hd, nI_toInt (Nat.lt_of_le_of_lt (Nat.div_le_self a d) ha)]
  first | rfl | exact (Int.natCast_ediv _ _).symm
theorem pk_rem {a d : Nat} (ha : a < 2 ^ 31) (h0 : 0 < d) (hd : d < 2 ^ 31) : nI a - nI a / nI d * nI d = nI (a % d) := by
  rw [pk_div ha h0 hd, pk_mul, pk_sub (Nat.div_mul_le_self a d)]
  exact congrArg nI (by have := Nat.div_add_mod' a d; omega)
theorem pk_le {x y : Int32} {A B : Prop} (a b : Nat) (f : a ≤ b → A) (g : b < a → B) (hx : x = nI a := by rfl) (hy : y = nI b := by rfl) (ha : a < 2 ^ 31 := by omega) (hb : b < 2 ^ 31 := by omega) : (x ≤ y → A) ∧ (¬ x ≤ y → B) := by
  subst hx hy
  rw [nI_leI ha hb]
  exact ⟨f, fun z => g (by omega)⟩
theorem pk_lt {x y : Int32} {A B : Prop} (a b : Nat) (f : a < b → A) (g : b ≤ a → B) (hx : x = nI a := by rfl) (hy : y = nI b := by rfl) (ha : a < 2 ^ 31 := by omega) (hb : b < 2 ^ 31 := by omega) : (x < y → A) ∧ (¬ x < y → B) := by
  subst hx hy
  rw [nI_ltI ha hb]
  exact ⟨f, fun z => g (by omega)⟩
theorem pk_eq {x y : Int32} {A B : Prop} (a b : Nat) (f : a = b → A) (g : a ≠ b → B) (hx : x = nI a := by rfl) (hy : y = nI b := by rfl) (ha : a < 2 ^ 31 := by omega) (hb : b < 2 ^ 31 := by omega) : (x = y → A) ∧ (¬ x = y → B) := by
  subst hx hy
  rw [nI_eq ha hb]
  exact ⟨f, g⟩
theorem pk_in {x : Int32} (n N : Nat) (h : n < N) (hx : x = nI n := by rfl) (hN : N < 2 ^ 31 := by omega) : vp_in x N := by
  subst hx
  exact vp_in_nI h hN
theorem pk_cl {x : Int32} (n : Nat) (hx : x = nI n := by rfl) (h : n < 2 ^ 31 := by omega) : x.toNatClampNeg = n := by
  subst hx
  exact nI_clamp h
theorem pk_tn {n : Nat} (h : n < 2 ^ 32) : (nI n).toBitVec.toNat = n := Nat.mod_eq_of_lt h
theorem pk_and (x : Int32) {m : Int32} (k : Nat) (hm : m.toBitVec.toNat = 2 ^ k - 1) : x &&& m = nI (x.toBitVec.toNat % 2 ^ k) := by
  apply Int32.toBitVec_inj.mp
  apply BitVec.eq_of_toNat_eq
  rw [Int32.toBitVec_and, BitVec.toNat_and, hm, Nat.and_two_pow_sub_one_eq_mod]
  show _ = (BitVec.ofNat 32 _).toNat
  rw [BitVec.toNat_ofNat]
  exact (Nat.mod_eq_of_lt (Nat.lt_of_le_of_lt (Nat.mod_le _ _) x.toBitVec.isLt)).symm
theorem pk_andN {n : Nat} (h : n < 2 ^ 32) {m : Int32} (k : Nat) (hm : m.toBitVec.toNat = 2 ^ k - 1) : nI n &&& m = nI (n % 2 ^ k) := by
  rw [pk_and _ k hm, pk_tn h]
theorem pk_andE (x : Int32) {m : Int32} (k : Nat) (hm : m.toBitVec.toNat = 2 ^ k - 1) : ∃ j : Nat, j < 2 ^ k ∧ x &&& m = nI j := ⟨_, Nat.mod_lt _ (Nat.two_pow_pos k), pk_and x k hm⟩
theorem pk_shr (a s : Int32) (k : Nat) (hs : (s.toBitVec.smod 32).toNat = k) : (a >>> s).toInt = a.toInt >>> k := by
  show (a.toBitVec.sshiftRight (s.toBitVec.smod 32).toNat).toInt = _
  rw [hs, BitVec.toInt_sshiftRight]
  rfl
theorem pk_shrN {n : Nat} (h : n < 2 ^ 31) (s : Int32) (k : Nat) (hs : (s.toBitVec.smod 32).toNat = k) : nI n >>> s = nI (n / 2 ^ k) := by
  apply Int32.toInt_inj.mp
  have h2 : n / 2 ^ k ≤ n := Nat.div_le_self _ _
  rw [pk_shr _ _ k hs, nI_toInt h, nI_toInt (by omega), Int.shiftRight_eq_div_pow]
  rfl
theorem pk_ushr (x s : Int32) (k : Nat) (hs : ((s.toUInt32 &&& Int32.toUInt32 31).toBitVec % 32).toNat = k) : (x.toUInt32 >>> (s.toUInt32 &&& Int32.toUInt32 31)).toInt32.toBitVec.toNat = x.toBitVec.toNat / 2 ^ k := by
  have e : (x.toUInt32 >>> (s.toUInt32 &&& Int32.toUInt32 31)).toInt32.toBitVec = x.toBitVec >>> k := by
    rw [← hs]
    exact UInt32.toBitVec_shiftRight _ _
  rw [e, BitVec.toNat_ushiftRight, Nat.shiftRight_eq_div_pow]
theorem pk_ushrN {n : Nat} (hn : n < 2 ^ 32) (s : Int32) (k : Nat) (hs : ((s.toUInt32 &&& Int32.toUInt32 31).toBitVec % 32).toNat = k) : ((nI n).toUInt32 >>> (s.toUInt32 &&& Int32.toUInt32 31)).toInt32 = nI (n / 2 ^ k) := by
  apply Int32.toBitVec_inj.mp
  apply BitVec.eq_of_toNat_eq
  rw [pk_ushr _ s k hs, pk_tn hn, pk_tn (Nat.lt_of_le_of_lt (Nat.div_le_self _ _) hn)]
theorem pk_vb (z : Int32) : vp_nar .byte z.toInt8.toInt32 = z.toInt8.toInt32 := by rw [vp_nar_byte]; simp
theorem s_l : ∀ n, n < 32 → ((nI n &&& 31).toBitVec.smod 32).toNat = n := by decide +kernel
theorem s_u : ∀ n, n < 32 → (((nI n).toUInt32 &&& Int32.toUInt32 31).toBitVec % 32).toNat = n := by decide +kernel
end
section
/-! sums -/
def po_sm (f : Nat → Nat) : Nat → Nat
  | 0 => 0
  | n + 1 => po_sm f n + f n
theorem po_sm_s (f : Nat → Nat) (n : Nat) : po_sm f (n + 1) = po_sm f n + f n := rfl
theorem po_sm_congr {f g : Nat → Nat} : ∀ {n : Nat}, (∀ i, i < n → f i = g i) → po_sm f n = po_sm g n := by
  intro n
  induction n with
  | zero => intro _; rfl
  | succ n ih =>
    intro h
    rw [po_sm_s, po_sm_s, ih (fun i hi => h i (by omega)), h n (by omega)]
theorem po_sm_le {f g : Nat → Nat} : ∀ {n : Nat}, (∀ i, i < n → f i ≤ g i) → po_sm f n ≤ po_sm g n := by
  intro n
  induction n with
  | zero => intro _; exact Nat.le_refl _
  | succ n ih =>
    intro h
    have h1 := ih (fun i hi => h i (by omega))
    have h2 := h n (by omega)
    rw [po_sm_s, po_sm_s]
    omega
theorem po_sm_ge {f : Nat → Nat} {p : Nat} : ∀ {n : Nat}, p < n → f p ≤ po_sm f n := by
  intro n
  induction n with
  | zero => intro h; omega
  | succ n ih =>
    intro h
    rw [po_sm_s]
    by_cases e : p = n
    · subst e; omega
    · have := ih (by omega); omega
theorem po_sm_0 (n : Nat) : po_sm (fun _ => 0) n = 0 := by
  induction n with
  | zero => rfl
  | succ n ih => rw [po_sm_s, ih]
theorem po_sm_c (c n : Nat) : po_sm (fun _ => c) n = c * n := by
  induction n with
  | zero => rfl
  | succ n ih => rw [po_sm_s, ih, Nat.mul_succ]
theorem po_sm_add (f g : Nat → Nat) (n : Nat) : po_sm (fun i => f i + g i) n = po_sm f n + po_sm g n := by
  induction n with
  | zero => rfl
  | succ n ih => rw [po_sm_s, po_sm_s, po_sm_s, ih]; omega
theorem po_sm_mul (f : Nat → Nat) (c n : Nat) : po_sm (fun i => f i * c) n = po_sm f n * c := by
  induction n with
  | zero => rw [show po_sm f 0 = 0 from rfl, Nat.zero_mul]; rfl
  | succ n ih => rw [po_sm_s, po_sm_s, ih, Nat.add_mul]
theorem po_sm_swap (f : Nat → Nat → Nat) (m n : Nat) : po_sm (fun i => po_sm (fun j => f i j) n) m = po_sm (fun j => po_sm (fun i => f i j) m) n := by
  induction m with
  | zero => exact (po_sm_0 n).symm
  | succ m ih =>
    rw [po_sm_s, ih, ← po_sm_add]
    rfl
theorem po_sm_pt (v n : Nat) : po_sm (fun i => if v = i then 1 else 0) n = if v < n then 1 else 0 := by
  induction n with
  | zero => rw [if_neg (by omega)]; rfl
  | succ n ih =>
    rw [po_sm_s, ih]
    by_cases h : v < n
    · rw [if_pos h, if_neg (by omega), if_pos (by omega)]
    · by_cases e : v = n
      · rw [if_neg h, if_pos e, if_pos (by omega)]
      · rw [if_neg h, if_neg e, if_neg (by omega)]
theorem po_sm_app (f : Nat → Nat) (a b : Nat) : po_sm f (a + b) = po_sm f a + po_sm (fun i => f (a + i)) b := by
  induction b with
  | zero => rfl
  | succ b ih => rw [← Nat.add_assoc, po_sm_s, po_sm_s, ih, Nat.add_assoc]
theorem po_sm_blk (f : Nat → Nat) (n m : Nat) : po_sm f (n * m) = po_sm (fun i => po_sm (fun j => f (n * i + j)) n) m := by
  induction m with
  | zero => rfl
  | succ m ih => rw [Nat.mul_succ, po_sm_app, ih, po_sm_s]
theorem po_sm_grp (g e : Nat → Nat) (h0 : e 0 = 0) : ∀ C : Nat, (∀ c, c < C → e c ≤ e (c + 1)) → (∀ c x, c < C → e c ≤ x → x < e (c + 1) → g x = g (e c)) → po_sm g (e C) = po_sm (fun c => g (e c) * (e (c + 1) - e c)) C := by
  intro C
  induction C with
  | zero => intro _ _; rw [h0]; rfl
  | succ C ih =>
    intro hm hg
    have h1 : e (C + 1) = e C + (e (C + 1) - e C) := by have := hm C (by omega); omega
    rw [po_sm_s, ← ih (fun c hc => hm c (by omega)) (fun c x hc => hg c x (by omega))]
    rw [h1, po_sm_app, ← h1]
    rw [po_sm_congr (f := fun i => g (e C + i)) (g := fun _ => g (e C)) (fun i hi => hg C (e C + i) (by omega) (by omega) (by omega)), po_sm_c]
/-! some index below n -/
def po_any (f : Nat → Bool) : Nat → Bool
  | 0 => false
  | n + 1 => po_any f n || f n
theorem po_any_s (f : Nat → Bool) (n : Nat) : po_any f (n + 1) = (po_any f n || f n) := rfl
theorem po_any_iff {f : Nat → Bool} : ∀ {n : Nat}, po_any f n = true ↔ ∃ i, i < n ∧ f i = true := by
  intro n
  induction n with
  | zero => exact ⟨fun h => absurd h Bool.false_ne_true, fun ⟨i, hi, _⟩ => absurd hi (by omega)⟩
  | succ n ih =>
    rw [po_any_s, Bool.or_eq_true, ih]
    constructor
    · rintro (⟨i, hi, e⟩ | e)
      · exact ⟨i, by omega, e⟩
      · exact ⟨n, by omega, e⟩
    · rintro ⟨i, hi, e⟩
      by_cases h : i = n
      · subst h; exact Or.inr e
      · exact Or.inl ⟨i, by omega, e⟩
theorem po_any_f {f : Nat → Bool} {n : Nat} : po_any f n = false ↔ ∀ i, i < n → f i = false := by
  rw [← Bool.not_eq_true, po_any_iff]
  constructor
  · intro h i hi
    exact Bool.eq_false_iff.mpr (fun e => h ⟨i, hi, e⟩)
  · rintro h ⟨i, hi, e⟩
    rw [h i hi] at e
    cases e
/-! the first match from r on, among k rules, plus one (0: none); the one behind it -/
def po_F (M : Nat → Bool) : Nat → Nat → Nat
  | 0, _ => 0
  | k + 1, r => if M r = true then r + 1 else po_F M k (r + 1)
def po_H (M : Nat → Bool) : Nat → Nat → Nat
  | 0, _ => 0
  | k + 1, r => if M r = true then po_F M k (r + 1) else po_H M k (r + 1)
theorem po_F_t {M : Nat → Bool} {r : Nat} (k : Nat) (h : M r = true) : po_F M (k + 1) r = r + 1 := if_pos h
theorem po_F_f {M : Nat → Bool} {r : Nat} (k : Nat) (h : M r = false) : po_F M (k + 1) r = po_F M k (r + 1) := if_neg (by rw [h]; exact Bool.false_ne_true)
theorem po_H_t {M : Nat → Bool} {r : Nat} (k : Nat) (h : M r = true) : po_H M (k + 1) r = po_F M k (r + 1) := if_pos h
theorem po_H_f {M : Nat → Bool} {r : Nat} (k : Nat) (h : M r = false) : po_H M (k + 1) r = po_H M k (r + 1) := if_neg (by rw [h]; exact Bool.false_ne_true)
theorem po_F_le (M : Nat → Bool) : ∀ k r : Nat, po_F M k r ≤ r + k := by
  intro k
  induction k with
  | zero => intro r; exact Nat.zero_le _
  | succ k ih =>
    intro r
    have h1 := ih (r + 1)
    cases h : M r with
    | true => rw [po_F_t k h]; omega
    | false => rw [po_F_f k h]; omega
theorem po_H_le (M : Nat → Bool) : ∀ k r : Nat, po_H M k r ≤ r + k := by
  intro k
  induction k with
  | zero => intro r; exact Nat.zero_le _
  | succ k ih =>
    intro r
    have h1 := ih (r + 1)
    have h2 := po_F_le M k (r + 1)
    cases h : M r with
    | true => rw [po_H_t k h]; omega
    | false => rw [po_H_f k h]; omega
theorem po_F_congr {M N : Nat → Bool} : ∀ k r : Nat, (∀ p, r ≤ p → p < r + k → M p = N p) → po_F M k r = po_F N k r := by
  intro k
  induction k with
  | zero => intro r _; rfl
  | succ k ih =>
    intro r h
    have h1 := ih (r + 1) (fun p a b => h p (by omega) (by omega))
    have h2 := h r (by omega) (by omega)
    cases e : M r with
    | true => rw [po_F_t k e, po_F_t k (h2.symm.trans e)]
    | false => rw [po_F_f k e, po_F_f k (h2.symm.trans e), h1]
theorem po_H_congr {M N : Nat → Bool} : ∀ k r : Nat, (∀ p, r ≤ p → p < r + k → M p = N p) → po_H M k r = po_H N k r := by
  intro k
  induction k with
  | zero => intro r _; rfl
  | succ k ih =>
    intro r h
    have h1 := ih (r + 1) (fun p a b => h p (by omega) (by omega))
    have h2 := h r (by omega) (by omega)
    cases e : M r with
    | true => rw [po_H_t k e, po_H_t k (h2.symm.trans e), po_F_congr k (r + 1) (fun p a b => h p (by omega) (by omega))]
    | false => rw [po_H_f k e, po_H_f k (h2.symm.trans e), h1]
theorem po_F_wo {M N : Nat → Bool} {x : Nat} (hN : ∀ p, p ≠ x → N p = M p) (hx : N x = false) : ∀ k r : Nat, po_F M k r = x + 1 → po_F N k r = po_H M k r := by
  intro k
  induction k with
  | zero => intro r _; rfl
  | succ k ih =>
    intro r h
    cases e : M r with
    | true =>
      rw [po_F_t k e] at h
      have h1 : r = x := by omega
      subst h1
      rw [po_F_f k hx, po_H_t k e]
      exact po_F_congr k (r + 1) (fun p a b => hN p (by omega))
    | false =>
      rw [po_F_f k e] at h
      have h1 : N r = false := by
        by_cases z : r = x
        · rw [z]; exact hx
        · rw [hN r z]; exact e
      rw [po_F_f k h1, po_H_f k e]
      exact ih (r + 1) h
/-! an answer as an int -/
def po_e : Nat → Int32
  | 0 => -1
  | r + 1 => nI r
theorem po_e_ne {r : Nat} (h : r < 2 ^ 31) : ¬ nI r = -1 := by
  intro e
  have h1 : (nI r).toInt = (-1 : Int32).toInt := congrArg Int32.toInt e
  rw [nI_toInt h, show (-1 : Int32).toInt = -1 from by decide] at h1
  omega
theorem po_e_eq {a b : Nat} (ha : a < 2 ^ 31) (hb : b < 2 ^ 31) : po_e a = po_e b ↔ a = b := by
  cases a with
  | zero =>
    cases b with
    | zero => exact ⟨fun _ => rfl, fun _ => rfl⟩
    | succ b => exact ⟨fun h => absurd h.symm (po_e_ne (r := b) (by omega)), fun h => by omega⟩
  | succ a =>
    cases b with
    | zero => exact ⟨fun h => absurd h (po_e_ne (r := a) (by omega)), fun h => by omega⟩
    | succ b =>
      show nI a = nI b ↔ _
      rw [nI_eq (by omega) (by omega)]
      omega
end
section
/-! a rule's match; edges; intervals -/
def po_u (S : Nat → Nat) (k x : Nat) : Nat → Nat := fun j => if j = k then x else S j
theorem po_us {S : Nat → Nat} {k x : Nat} : po_u S k x k = x := if_pos rfl
theorem po_un {S : Nat → Nat} {k x j : Nat} (h : j ≠ k) : po_u S k x j = S j := if_neg h
def po_M (S D K : Nat → Nat) (s d t p : Nat) : Bool := decide (S p / 32 ≤ s ∧ s ≤ S p % 32 ∧ D p / 32 ≤ d ∧ d ≤ D p % 32 ∧ K p / 2 ^ t % 2 = 1)
theorem po_M_iff {S D K : Nat → Nat} {s d t p : Nat} : po_M S D K s d t p = true ↔ (S p / 32 ≤ s ∧ s ≤ S p % 32 ∧ D p / 32 ≤ d ∧ d ≤ D p % 32 ∧ K p / 2 ^ t % 2 = 1) := decide_eq_true_iff
theorem po_M_f {S D K : Nat → Nat} {s d t p : Nat} : po_M S D K s d t p = false ↔ ¬ (S p / 32 ≤ s ∧ s ≤ S p % 32 ∧ D p / 32 ≤ d ∧ d ≤ D p % 32 ∧ K p / 2 ^ t % 2 = 1) := decide_eq_false_iff_not
def po_E (S : Nat → Nat) (R x : Nat) : Bool := po_any (fun p => decide (S p / 32 = x ∨ S p % 32 + 1 = x)) R
theorem po_E_t {S : Nat → Nat} {R p x : Nat} (hp : p < R) (h : S p / 32 = x ∨ S p % 32 + 1 = x) : po_E S R x = true := po_any_iff.mpr ⟨p, hp, decide_eq_true h⟩
/-- how many numbers below n begin an interval -/
def po_ct (E : Nat → Bool) (n : Nat) : Nat := po_sm (fun y => if y = 0 ∨ E y = true then 1 else 0) n
theorem po_ct_le (S : Nat → Nat) (R n : Nat) : po_ct (po_E S R) n ≤ 1 + 2 * R := by
  have h1 : po_ct (po_E S R) n ≤ po_sm (fun y => (if 0 = y then 1 else 0) + po_sm (fun p => (if S p / 32 = y then 1 else 0) + (if S p % 32 + 1 = y then 1 else 0)) R) n := by
    refine po_sm_le (fun y _ => ?_)
    by_cases h : y = 0 ∨ po_E S R y = true
    · rw [if_pos h]
      rcases h with h | h
      · rw [if_pos h.symm]; exact Nat.le_add_right _ _
      · obtain ⟨p, hp, e⟩ := po_any_iff.mp h
        have e2 := of_decide_eq_true e
        have h3 := po_sm_ge (f := fun p => (if S p / 32 = y then 1 else 0) + (if S p % 32 + 1 = y then 1 else 0)) hp
        have h4 : 1 ≤ (if S p / 32 = y then 1 else 0) + (if S p % 32 + 1 = y then 1 else 0) := by
          rcases e2 with e2 | e2
          · rw [if_pos e2]; exact Nat.le_add_right _ _
          · rw [if_pos e2]; exact Nat.le_add_left _ _
        exact Nat.le_trans h4 (Nat.le_trans h3 (Nat.le_add_left _ _))
    · rw [if_neg h]; exact Nat.zero_le _
  refine Nat.le_trans h1 ?_
  rw [po_sm_add, po_sm_swap (fun y p => (if S p / 32 = y then 1 else 0) + (if S p % 32 + 1 = y then 1 else 0))]
  have h2 : po_sm (fun p => po_sm (fun y => (if S p / 32 = y then 1 else 0) + (if S p % 32 + 1 = y then 1 else 0)) n) R ≤ po_sm (fun _ => 2) R := by
    refine po_sm_le (fun p _ => ?_)
    rw [po_sm_add, po_sm_pt, po_sm_pt]
    split <;> split <;> omega
  rw [po_sm_c] at h2
  rw [po_sm_pt]
  have h3 : (if 0 < n then 1 else 0) ≤ 1 := by split <;> omega
  omega
/-- intervals: C of them, the c-th from e c to e (c + 1), no edge inside -/
def po_G (E : Nat → Bool) (C : Nat) (e : Nat → Nat) : Prop :=
  1 ≤ C ∧ C ≤ 26 ∧ e 0 = 0 ∧ e C = 32 ∧ (∀ i, i < C → e i < e (i + 1)) ∧ (∀ i x, i < C → e i < x → x < e (i + 1) → E x = false)
/-- the same while they are found: all numbers below x are seen -/
def po_GP (E : Nat → Bool) (x C : Nat) (e : Nat → Nat) : Prop :=
  C = po_ct E x ∧ (0 < x → 1 ≤ C) ∧ (0 < C → e 0 = 0) ∧ (∀ i, i + 1 < C → e i < e (i + 1)) ∧ (∀ i y, i + 1 < C → e i < y → y < e (i + 1) → E y = false) ∧ (∀ i, i + 1 = C → e i < x) ∧ (∀ i y, i + 1 = C → e i < y → y < x → E y = false)
theorem po_GP_0 (E : Nat → Bool) (e : Nat → Nat) : po_GP E 0 0 e :=
  ⟨rfl, fun h => absurd h (by omega), fun h => absurd h (by omega), fun i h => absurd h (by omega), fun i y h => absurd h (by omega), fun i h => absurd h (by omega), fun i y h => absurd h (by omega)⟩
theorem po_GP_add {E : Nat → Bool} {x C : Nat} {e : Nat → Nat} (h : po_GP E x C e) (hx : x = 0 ∨ E x = true) : po_GP E (x + 1) (C + 1) (po_u e C x) := by
  obtain ⟨a, b, c, d, f, g, k⟩ := h
  have hC : x = 0 → C = 0 := by intro z; rw [a, z]; rfl
  refine ⟨?_, fun _ => by omega, fun _ => ?_, fun i hi => ?_, fun i y hi h1 h2 => ?_, fun i hi => ?_, fun i y hi h1 h2 => ?_⟩
  · show C + 1 = po_sm _ (x + 1)
    rw [po_sm_s, if_pos hx]
    exact congrArg (· + 1) a
  · by_cases z : C = 0
    · have : x = 0 := by
        by_cases w : x = 0
        · exact w
        · have := b (by omega); omega
      rw [z, this]; exact po_us
    · rw [po_un (by omega)]; exact c (by omega)
  · by_cases z : i + 1 = C
    · rw [z, po_us, po_un (by omega)]; exact g i z
    · rw [po_un (by omega), po_un (by omega)]; exact d i (by omega)
  · by_cases z : i + 1 = C
    · rw [po_un (by omega)] at h1
      rw [z, po_us] at h2
      exact k i y z h1 h2
    · rw [po_un (by omega)] at h1
      rw [po_un (by omega)] at h2
      exact f i y (by omega) h1 h2
  · have z : i = C := by omega
    rw [z, po_us]; omega
  · have z : i = C := by omega
    rw [z, po_us] at h1; omega
theorem po_GP_skip {E : Nat → Bool} {x C : Nat} {e : Nat → Nat} (h : po_GP E x C e) (h0 : x ≠ 0) (hx : E x = false) : po_GP E (x + 1) C e := by
  obtain ⟨a, b, c, d, f, g, k⟩ := h
  refine ⟨?_, fun _ => b (by omega), c, d, f, fun i hi => ?_, fun i y hi h1 h2 => ?_⟩
  · show C = po_sm _ (x + 1)
    rw [po_sm_s, if_neg (by rw [hx]; rintro (z | z); exact h0 z; cases z)]
    exact a
  · have := g i hi; omega
  · by_cases z : y = x
    · rw [z]; exact hx
    · exact k i y hi h1 (by omega)
theorem po_GP_end {S : Nat → Nat} {R C : Nat} {e : Nat → Nat} (hR : R ≤ 12) (h : po_GP (po_E S R) 32 C e) : po_G (po_E S R) C (po_u e C 32) := by
  obtain ⟨a, b, c, d, f, g, k⟩ := h
  have h1 := po_ct_le S R 32
  have h2 := b (by omega)
  refine ⟨h2, by omega, ?_, po_us, fun i hi => ?_, fun i y hi h1 h2 => ?_⟩
  · rw [po_un (by omega)]; exact c (by omega)
  · by_cases z : i + 1 = C
    · rw [z, po_us, po_un (by omega)]; exact g i z
    · rw [po_un (by omega), po_un (by omega)]; exact d i (by omega)
  · by_cases z : i + 1 = C
    · rw [po_un (by omega)] at h1
      rw [z, po_us] at h2
      exact k i y z h1 h2
    · rw [po_un (by omega)] at h1
      rw [po_un (by omega)] at h2
      exact f i y (by omega) h1 h2
theorem po_GP_lt {S : Nat → Nat} {R x C : Nat} {e : Nat → Nat} (hR : R ≤ 12) (h : po_GP (po_E S R) x C e) : C ≤ 25 := by
  have h1 := po_ct_le S R x
  have h2 := h.1
  omega
/-! a field is of one kind -/
theorem po_G_in {S : Nat → Nat} {R C : Nat} {e : Nat → Nat} (h : po_G (po_E S R) C e) {c x p : Nat} (hc : c < C) (h1 : e c ≤ x) (h2 : x < e (c + 1)) (hp : p < R) : (S p / 32 ≤ x ∧ x ≤ S p % 32) ↔ (S p / 32 ≤ e c ∧ e c ≤ S p % 32) := by
  obtain ⟨_, _, _, _, _, k⟩ := h
  have k1 : ¬ (e c < S p / 32 ∧ S p / 32 ≤ x) := by
    rintro ⟨a, b⟩
    have z := k c (S p / 32) hc a (by omega)
    rw [po_E_t hp (Or.inl rfl)] at z
    cases z
  have k2 : ¬ (e c ≤ S p % 32 ∧ S p % 32 < x) := by
    rintro ⟨a, b⟩
    have z := k c (S p % 32 + 1) hc (by omega) (by omega)
    rw [po_E_t hp (Or.inr rfl)] at z
    cases z
  constructor
  · rintro ⟨a, b⟩; constructor <;> omega
  · rintro ⟨a, b⟩; constructor <;> omega
theorem po_G_M {S D K : Nat → Nat} {R C W : Nat} {e g : Nat → Nat} (h : po_G (po_E S R) C e) (h' : po_G (po_E D R) W g) {c r x y t p : Nat} (hc : c < C) (h1 : e c ≤ x) (h2 : x < e (c + 1)) (hr : r < W) (h3 : g r ≤ y) (h4 : y < g (r + 1)) (hp : p < R) : po_M S D K x y t p = po_M S D K (e c) (g r) t p := by
  have a := po_G_in h hc h1 h2 hp
  have b := po_G_in h' hr h3 h4 hp
  apply Bool.eq_iff_iff.mpr
  rw [po_M_iff, po_M_iff]
  constructor
  · rintro ⟨q1, q2, q3, q4, q5⟩
    have a' := a.mp ⟨q1, q2⟩
    have b' := b.mp ⟨q3, q4⟩
    exact ⟨a'.1, a'.2, b'.1, b'.2, q5⟩
  · rintro ⟨q1, q2, q3, q4, q5⟩
    have a' := a.mpr ⟨q1, q2⟩
    have b' := b.mpr ⟨q3, q4⟩
    exact ⟨a'.1, a'.2, b'.1, b'.2, q5⟩
/-- the deciding rule (plus one) of a packet, and the next one -/
def po_fst (S D K : Nat → Nat) (R s d t : Nat) : Nat := po_F (po_M S D K s d t) R 0
def po_snd (S D K : Nat → Nat) (R s d t : Nat) : Nat := po_H (po_M S D K s d t) R 0
theorem po_fst_le (S D K : Nat → Nat) (R s d t : Nat) : po_fst S D K R s d t ≤ R := by
  have := po_F_le (po_M S D K s d t) R 0
  unfold po_fst; omega
theorem po_snd_le (S D K : Nat → Nat) (R s d t : Nat) : po_snd S D K R s d t ≤ R := by
  have := po_H_le (po_M S D K s d t) R 0
  unfold po_snd; omega
theorem po_G_f {S D K : Nat → Nat} {R C W : Nat} {e g : Nat → Nat} (h : po_G (po_E S R) C e) (h' : po_G (po_E D R) W g) {c r x y : Nat} (t : Nat) (hc : c < C) (h1 : e c ≤ x) (h2 : x < e (c + 1)) (hr : r < W) (h3 : g r ≤ y) (h4 : y < g (r + 1)) : po_fst S D K R x y t = po_fst S D K R (e c) (g r) t ∧ po_snd S D K R x y t = po_snd S D K R (e c) (g r) t :=
  ⟨po_F_congr R 0 (fun p _ hp => po_G_M h h' hc h1 h2 hr h3 h4 (by omega)), po_H_congr R 0 (fun p _ hp => po_G_M h h' hc h1 h2 hr h3 h4 (by omega))⟩
/-- each number below 32 lies in an interval -/
theorem po_G_at {E : Nat → Bool} {C : Nat} {e : Nat → Nat} (h : po_G E C e) {x : Nat} (hx : x < 32) : ∃ c, c < C ∧ e c ≤ x ∧ x < e (c + 1) := by
  obtain ⟨a, _, b, c, d, _⟩ := h
  have k : ∀ n, n ≤ C → x < e n → ∃ c, c < C ∧ e c ≤ x ∧ x < e (c + 1) := by
    intro n
    induction n with
    | zero => intro _ h; rw [b] at h; omega
    | succ n ih =>
      intro hn h
      by_cases z : x < e n
      · exact ih (by omega) z
      · exact ⟨n, by omega, by omega, h⟩
  exact k C (Nat.le_refl _) (by omega)
theorem po_G_mono {E : Nat → Bool} {C : Nat} {e : Nat → Nat} (h : po_G E C e) : ∀ d i : Nat, i + d ≤ C → e i + d ≤ e (i + d) := by
  obtain ⟨_, _, _, _, k, _⟩ := h
  intro d
  induction d with
  | zero => intro i _; exact Nat.le_refl _
  | succ d ih =>
    intro i hi
    have h1 := ih i (by omega)
    have h2 := k (i + d) (by omega)
    rw [Nat.add_assoc] at h2
    omega
theorem po_G_le {E : Nat → Bool} {C : Nat} {e : Nat → Nat} (h : po_G E C e) {i : Nat} (hi : i ≤ C) : e i ≤ 32 := by
  have h1 := po_G_mono h (C - i) i (by omega)
  have h2 : i + (C - i) = C := by omega
  rw [h2, h.2.2.2.1] at h1
  omega
theorem po_G_lt {E : Nat → Bool} {C : Nat} {e : Nat → Nat} (h : po_G E C e) {i : Nat} (hi : i < C) : e i < 32 := by
  have h1 := po_G_le h (i := i + 1) hi
  have h2 := h.2.2.2.2.1 i hi
  omega
theorem po_G_lts {E : Nat → Bool} {C : Nat} {e : Nat → Nat} (h : po_G E C e) {i j : Nat} (hij : i < j) (hj : j ≤ C) : e i < e j := by
  have h1 := po_G_mono h (j - i) i (by omega)
  have h2 : i + (j - i) = j := by omega
  rw [h2] at h1
  omega
end
section
/-! the board of fields while it is painted -/
/-- fields hold the answers of the rules from p on -/
def po_PD (R : Nat) (S D K : Nat → Nat) (C W : Nat) (gc gr : Nat → Nat) (p : Nat) (fi se : Nat → Int32) : Prop :=
  ∀ c k, c < C → k < 4 * W → fi (104 * c + k) = po_e (po_F (po_M S D K (gc c) (gr (k / 4)) (k % 4)) (R - p) p) ∧ se (104 * c + k) = po_e (po_H (po_M S D K (gc c) (gr (k / 4)) (k % 4)) (R - p) p)
/-- those below m hold rule p already -/
def po_PB (R : Nat) (S D K : Nat → Nat) (C W : Nat) (gc gr : Nat → Nat) (p m : Nat) (fi se : Nat → Int32) : Prop :=
  ∀ c k, c < C → k < 4 * W → (104 * c + k < m → fi (104 * c + k) = po_e (po_F (po_M S D K (gc c) (gr (k / 4)) (k % 4)) (R - p) p) ∧ se (104 * c + k) = po_e (po_H (po_M S D K (gc c) (gr (k / 4)) (k % 4)) (R - p) p)) ∧ (m ≤ 104 * c + k → fi (104 * c + k) = po_e (po_F (po_M S D K (gc c) (gr (k / 4)) (k % 4)) (R - (p + 1)) (p + 1)) ∧ se (104 * c + k) = po_e (po_H (po_M S D K (gc c) (gr (k / 4)) (k % 4)) (R - (p + 1)) (p + 1)))
section
variable {R C W p m : Nat} {S D K gc gr : Nat → Nat} {fi se : Nat → Int32}
theorem po_PD_R (h : ∀ f, f < 2704 → fi f = -1 ∧ se f = -1) (hC : C ≤ 26) (hW : W ≤ 26) : po_PD R S D K C W gc gr R fi se := by
  intro c k hc hk
  rw [Nat.sub_self]
  exact h (104 * c + k) (by omega)
theorem po_PB_0 (h : po_PD R S D K C W gc gr (p + 1) fi se) : po_PB R S D K C W gc gr p 0 fi se :=
  fun c k hc hk => ⟨fun z => absurd z (by omega), fun _ => h c k hc hk⟩
theorem po_PB_e (hW : W ≤ 26) (h : po_PB R S D K C W gc gr p (104 * C) fi se) : po_PD R S D K C W gc gr p fi se :=
  fun c k hc hk => (h c k hc hk).1 (by omega)
theorem po_PB_skip {m' : Nat} (hp : p < R) (h : po_PB R S D K C W gc gr p m fi se) (hf : ∀ c k, c < C → k < 4 * W → m ≤ 104 * c + k → 104 * c + k < m' → po_M S D K (gc c) (gr (k / 4)) (k % 4) p = false) (hm : m ≤ m') : po_PB R S D K C W gc gr p m' fi se := by
  intro c k hc hk
  have h1 := h c k hc hk
  refine ⟨fun z => ?_, fun z => h1.2 (by omega)⟩
  by_cases w : 104 * c + k < m
  · exact h1.1 w
  · have h2 := hf c k hc hk (by omega) z
    have h3 := h1.2 (by omega)
    have e : R - p = R - (p + 1) + 1 := by omega
    rw [e, po_F_f _ h2, po_H_f _ h2]
    exact h3
theorem po_PB_put {c k : Nat} (hW : W ≤ 26) (hp : p < R) (h : po_PB R S D K C W gc gr p (104 * c + k) fi se) (hc : c < C) (hk : k < 4 * W) (hM : po_M S D K (gc c) (gr (k / 4)) (k % 4) p = true) : po_PB R S D K C W gc gr p (104 * c + k + 1) (upd fi (104 * c + k) (nI p)) (upd se (104 * c + k) (fi (104 * c + k))) := by
  intro c' k' hc' hk'
  have h1 := h c' k' hc' hk'
  by_cases w : 104 * c' + k' = 104 * c + k
  · have e1 : c' = c := by omega
    have e2 : k' = k := by omega
    subst e1 e2
    refine ⟨fun _ => ?_, fun z => absurd z (by omega)⟩
    have e : R - p = R - (p + 1) + 1 := by omega
    rw [pk_us, pk_us, e, po_F_t _ hM, po_H_t _ hM]
    exact ⟨rfl, (h1.2 (by omega)).1⟩
  · rw [pk_un w, pk_un w]
    exact ⟨fun z => h1.1 (by omega), fun z => h1.2 (by omega)⟩
end
/-! bytes -/
theorem po_nb : ∀ x, x < 13 → vp_nar .byte (po_e x) = po_e x := by
  intro x hx
  rw [vp_nar_byte]
  exact (by decide +kernel : ∀ x, x < 13 → (po_e x).toInt8.toInt32 = po_e x) x hx
theorem po_nbp {p : Nat} (hp : p < 12) : vp_nar .byte (nI p).toInt8.toInt32 = nI p := by
  rw [pk_vb]
  exact (by decide +kernel : ∀ x, x < 12 → (nI x).toInt8.toInt32 = nI x) p hp
theorem po_nbm : vp_nar .byte (-1) = -1 := by rw [vp_nar_byte]; decide
/-! an array's first entries -/
def po_ar (a : Nat → Int32) (C : Nat) (e : Nat → Nat) : Prop := ∀ i, i < C → a i = nI (e i)
theorem po_ar_0 {a : Nat → Int32} {e : Nat → Nat} : po_ar a 0 e := fun i h => absurd h (by omega)
theorem po_ar_add {a : Nat → Int32} {C x : Nat} {e : Nat → Nat} (h : po_ar a C e) : po_ar (upd a C (nI x)) (C + 1) (po_u e C x) := by
  intro i hi
  by_cases z : i = C
  · rw [z, pk_us, po_us]
  · rw [pk_un z, po_un z]; exact h i (by omega)
end
section
/-! arrays as pictures of natural functions -/
def po_gL (n : Nat) : Int32 := nI (n / 32)
def po_gH (n : Nat) : Int32 := nI (n % 32)
def po_gB (n : Nat) : Int32 := nI (n % 16)
def po_gA (n : Nat) : Int32 := nI (n / 16)
def po_m (g : Nat → Int32) (S : Nat → Nat) : Nat → Int32 := fun p => g (S p)
theorem po_mr {g : Nat → Int32} {S : Nat → Nat} {a : Nat} {A : Int32} (ea : A = nI a) (ha : a < 12) : po_m g S A.toNatClampNeg = g (S a) := by
  rw [ea, nI_clamp (by omega)]; rfl
def po_cp (S : Nat → Nat) (a b : Nat) : Nat → Nat := po_u S b (S a)
theorem po_mw {g : Nat → Int32} {S : Nat → Nat} {b x : Nat} {B v : Int32} (eb : B = nI b) (hb : b < 12) (ev : v = g x) : upd (po_m g S) B.toNatClampNeg v = po_m g (po_u S b x) := by
  rw [eb, nI_clamp (by omega), ev]
  funext j
  show (if j = b then g x else g (S j)) = g (if j = b then x else S j)
  split <;> rfl
theorem po_mc {g : Nat → Int32} {S : Nat → Nat} {a b : Nat} {A B : Int32} (ea : A = nI a) (eb : B = nI b) (ha : a < 12) (hb : b < 12) : upd (po_m g S) B.toNatClampNeg (po_m g S A.toNatClampNeg) = po_m g (po_cp S a b) :=
  po_mw eb hb (po_mr ea ha)
theorem po_i12 {A : Int32} {a : Nat} (ea : A = nI a) (ha : a < 12) : vp_in A 12 := by rw [ea]; exact vp_in_nI ha (by omega)
def po_sw (S : Nat → Nat) (a b : Nat) : Nat → Nat := po_u (po_cp S b a) b (S a)
section
variable {R : Nat} {fb pt co ro : Int32} {S D K : Nat → Nat} {cf rf fi se : Nat → Int32}
theorem po_xcp {post : SX → Prop} {a b : Nat} {A B : Int32} (ea : A = nI a) (eb : B = nI b) (ha : a < 12) (hb : b < 12) (h : post (nI R, fb, pt, co, ro, po_m po_gL (po_cp S a b), po_m po_gH (po_cp S a b), po_m po_gL (po_cp D a b), po_m po_gH (po_cp D a b), po_m po_gB (po_cp K a b), po_m po_gA (po_cp K a b), cf, rf, fi, se)) : wpX_copyRule post (nI R, fb, pt, co, ro, po_m po_gL S, po_m po_gH S, po_m po_gL D, po_m po_gH D, po_m po_gB K, po_m po_gA K, cf, rf, fi, se) A B :=
  have ia := po_i12 ea ha
  have ib := po_i12 eb hb
  And.intro ia (And.intro ib (nm_r (po_mc ea eb ha hb) (And.intro ia (And.intro ib (nm_r (po_mc ea eb ha hb) (And.intro ia (And.intro ib (nm_r (po_mc ea eb ha hb) (And.intro ia (And.intro ib (nm_r (po_mc ea eb ha hb) (And.intro ia (And.intro ib (nm_r (po_mc ea eb ha hb) (And.intro ia (And.intro ib (nm_r (po_mc ea eb ha hb) h)))))))))))))))))
theorem po_xex {post : SX → Prop} {a b : Nat} {A B : Int32} (ea : A = nI a) (eb : B = nI b) (ha : a < 12) (hb : b < 12) (h : post (nI R, fb, pt, co, ro, po_m po_gL (po_sw S a b), po_m po_gH (po_sw S a b), po_m po_gL (po_sw D a b), po_m po_gH (po_sw D a b), po_m po_gB (po_sw K a b), po_m po_gA (po_sw K a b), cf, rf, fi, se)) : wpX_exchange post (nI R, fb, pt, co, ro, po_m po_gL S, po_m po_gH S, po_m po_gL D, po_m po_gH D, po_m po_gB K, po_m po_gA K, cf, rf, fi, se) A B := by
  have ia := po_i12 ea ha
  have ib := po_i12 eb hb
  refine And.intro ia (nm_r (po_mr ea ha) (And.intro ia (nm_r (po_mr ea ha) (And.intro ia (nm_r (po_mr ea ha) (And.intro ia (nm_r (po_mr ea ha) (And.intro ia (nm_r (po_mr ea ha) (And.intro ia (nm_r (po_mr ea ha) ?_)))))))))))
  refine po_xcp eb ea hb ha ?_
  refine And.intro ib (nm_r (po_mw eb hb rfl) (And.intro ib (nm_r (po_mw eb hb rfl) (And.intro ib (nm_r (po_mw eb hb rfl) (And.intro ib (nm_r (po_mw eb hb rfl) (And.intro ib (nm_r (po_mw eb hb rfl) (And.intro ib (nm_r (po_mw eb hb rfl) ?_)))))))))))
  exact h
end
/-! insert -/
def po_up (p : Nat) : Nat → (Nat → Nat) → Nat → Nat
  | 0, S => S
  | d + 1, S => po_up p d (po_cp S (p + d) (p + d + 1))
theorem po_sh5 {n : Nat} (h : n < 1024) : nI n >>> ((5 : Int32) &&& 31) = po_gL n := pk_shrN (by omega) _ 5 (by decide)
theorem po_sh4 {n : Nat} (h : n < 64) : nI n >>> ((4 : Int32) &&& 31) = po_gA n := pk_shrN (by omega) _ 4 (by decide)
theorem po_an5 {n : Nat} (h : n < 1024) : nI n &&& 31 = po_gH n := pk_andN (by omega) 5 (by decide)
theorem po_an4 {n : Nat} (h : n < 64) : nI n &&& 15 = po_gB n := pk_andN (by omega) 4 (by decide)
section
variable {R : Nat} {fb pt co ro : Int32} {cf rf fi se : Nat → Int32}
theorem po_xins {post : Int32 → SX → Prop} {p xs xd xk : Nat} (hs : xs < 1024) (hd : xd < 1024) (hk : xk < 64) : ∀ (d n : Nat) (S D K : Nat → Nat), d < n → p + d < 12 → post (nI (R + 1)) (nI (R + 1), fb, 0, co, ro, po_m po_gL (po_u (po_up p d S) p xs), po_m po_gH (po_u (po_up p d S) p xs), po_m po_gL (po_u (po_up p d D) p xd), po_m po_gH (po_u (po_up p d D) p xd), po_m po_gB (po_u (po_up p d K) p xk), po_m po_gA (po_u (po_up p d K) p xk), cf, rf, fi, se) → wX_insert_75 post (nI p) (nI xs) (nI xd) (nI xk) n (nI (p + d)) (nI R) fb pt co ro (po_m po_gL S) (po_m po_gH S) (po_m po_gL D) (po_m po_gH D) (po_m po_gB K) (po_m po_gA K) cf rf fi se := by
  intro d
  induction d with
  | zero =>
    intro n S D K hn hp h
    obtain ⟨m, rfl⟩ : ∃ m, n = m + 1 := ⟨n - 1, by omega⟩
    have ib : vp_in (nI p) 12 := vp_in_nI (by omega) (by omega)
    have hp' : p < 12 := by omega
    refine br_t (nI_le (by omega) (by omega)) ?_
    refine And.intro ib (nm_r (po_mw rfl hp' (po_sh5 hs)) (And.intro ib (nm_r (po_mw rfl hp' (po_an5 hs)) (And.intro ib (nm_r (po_mw rfl hp' (po_sh5 hd)) (And.intro ib (nm_r (po_mw rfl hp' (po_an5 hd)) (And.intro ib (nm_r (po_mw rfl hp' (po_an4 hk)) (And.intro ib (nm_r (po_mw rfl hp' (po_sh4 hk)) ?_)))))))))))
    exact nm_r (nI_1 R) h
  | succ d ih =>
    intro n S D K hn hp h
    obtain ⟨m, rfl⟩ : ∃ m, n = m + 1 := ⟨n - 1, by omega⟩
    refine br_f (nI_ge (by omega) (by omega)) ?_
    refine po_xcp (a := p + d) (b := p + d + 1) (nI_pred (p + d)) rfl (by omega) (by omega) ?_
    exact nm_r (pk_m1 (p + d)) (ih m _ _ _ (by omega) (by omega) h)
end
/-- the arguments of an insertion that is done -/
def po_iv (R : Nat) (v1 v2 v3 v4 : Int32) : Prop := ∃ p xs xd xk : Nat, p ≤ R ∧ R < 12 ∧ xs < 1024 ∧ xd < 1024 ∧ xk < 64 ∧ v1 = nI p ∧ v2 = nI xs ∧ v3 = nI xd ∧ v4 = nI xk
theorem po_iv_of {R : Nat} {v1 v2 v3 v4 : Int32} (hR : R ≤ 12) (h1 : ¬ v1 < 0) (h2 : ¬ nI R < v1) (h3 : ¬ 12 ≤ nI R) (h4 : ¬ v2 < 0) (h5 : ¬ 1023 < v2) (h6 : ¬ v3 < 0) (h7 : ¬ 1023 < v3) (h8 : ¬ v4 < 0) (h9 : v4 ≤ 63) : po_iv R v1 v2 v3 v4 := by
  obtain ⟨p, hp, e1⟩ := nI_of2 (nI_toInt (n := R) (by omega)) h1 (Int32.not_lt.mp h2)
  obtain ⟨xs, hs, e2⟩ := nI_of2 (M := 1023) (n := 1023) (by decide) h4 (Int32.not_lt.mp h5)
  obtain ⟨xd, hd, e3⟩ := nI_of2 (M := 1023) (n := 1023) (by decide) h6 (Int32.not_lt.mp h7)
  obtain ⟨xk, hk, e4⟩ := nI_of2 (M := 63) (n := 63) (by decide) h8 h9
  have h10 : R < 12 := by
    by_cases z : R < 12
    · exact z
    · exact absurd (nI_le (a := 12) (b := R) (by omega) (by omega)) h3
  exact ⟨p, xs, xd, xk, hp, h10, by omega, by omega, by omega, e1, e2, e3, e4⟩
section
variable {R : Nat} {fb pt co ro : Int32} {S D K : Nat → Nat} {cf rf fi se : Nat → Int32}
theorem po_x27 {post : Int32 → SX → Prop} {v1 v2 v3 v4 : Int32} (h : post (-1) (nI R, fb, pt, co, ro, po_m po_gL S, po_m po_gH S, po_m po_gL D, po_m po_gH D, po_m po_gB K, po_m po_gA K, cf, rf, fi, se)) : wX_insert_26 post v1 v2 v3 v4 (nI R) fb pt co ro (po_m po_gL S) (po_m po_gH S) (po_m po_gL D) (po_m po_gH D) (po_m po_gB K) (po_m po_gA K) cf rf fi se :=
  br_c (fun _ => h) (fun _ => br_c (fun _ => h) (fun _ => br_c (fun _ => h) (fun _ => br_t rfl h)))
theorem po_xinsert {post : Int32 → SX → Prop} {p xs xd xk : Nat} (hp : p ≤ R) (hR : R < 12) (hs : xs < 1024) (hd : xd < 1024) (hk : xk < 64) (h : post (nI (R + 1)) (nI (R + 1), fb, 0, co, ro, po_m po_gL (po_u (po_up p (R - p) S) p xs), po_m po_gH (po_u (po_up p (R - p) S) p xs), po_m po_gL (po_u (po_up p (R - p) D) p xd), po_m po_gH (po_u (po_up p (R - p) D) p xd), po_m po_gB (po_u (po_up p (R - p) K) p xk), po_m po_gA (po_u (po_up p (R - p) K) p xk), cf, rf, fi, se)) : wpX_insert post (nI R, fb, pt, co, ro, po_m po_gL S, po_m po_gH S, po_m po_gL D, po_m po_gH D, po_m po_gB K, po_m po_gA K, cf, rf, fi, se) (nI p) (nI xs) (nI xd) (nI xk) := by
  have h0 : wX_insert_27 post (nI p) (nI xs) (nI xd) (nI xk) 1 (nI R) fb pt co ro (po_m po_gL S) (po_m po_gH S) (po_m po_gL D) (po_m po_gH D) (po_m po_gB K) (po_m po_gA K) cf rf fi se := by
    refine br_f (nI_pos (by omega)) (br_f (nI_nlt hp (by omega)) (br_f (nI_ge (b := 12) hR (by omega)) (br_f (by decide) (br_f (nI_pos (by omega)) (br_t (nI_le (b := 63) (by omega) (by decide)) ?_)))))
    refine ⟨R - p + 1, ?_⟩
    have e : nI R = nI (p + (R - p)) := congrArg nI (by omega)
    have k := po_xins (R := R) (fb := fb) (pt := pt) (co := co) (ro := ro) (cf := cf) (rf := rf) (fi := fi) (se := se) (post := post) (p := p) hs hd hk (R - p) (R - p + 1) S D K (by omega) (by omega) h
    rw [← e] at k
    exact k
  exact br_f (nI_pos (by omega)) (br_f (nI_nlt (a := 1023) (by omega) (by omega)) (br_f (nI_pos (by omega)) (br_f (nI_nlt (a := 1023) (by omega) (by omega)) h0)))
theorem po_xinsert0 {post : Int32 → SX → Prop} {v1 v2 v3 v4 : Int32} (hR : R ≤ 12) (hv : ¬ po_iv R v1 v2 v3 v4) (h : post (-1) (nI R, fb, pt, co, ro, po_m po_gL S, po_m po_gH S, po_m po_gL D, po_m po_gH D, po_m po_gB K, po_m po_gA K, cf, rf, fi, se)) : wpX_insert post (nI R, fb, pt, co, ro, po_m po_gL S, po_m po_gH S, po_m po_gL D, po_m po_gH D, po_m po_gB K, po_m po_gA K, cf, rf, fi, se) v1 v2 v3 v4 :=
  br_c (fun _ => po_x27 h) (fun h4 => br_c (fun _ => po_x27 h) (fun h5 => br_c (fun _ => po_x27 h) (fun h6 => br_c (fun _ => po_x27 h) (fun h7 =>
    br_c (fun _ => h) (fun h1 => br_c (fun _ => h) (fun h2 => br_c (fun _ => h) (fun h3 => br_c (fun _ => h) (fun _ => br_c (fun _ => h) (fun h8 => br_c (fun h9 => absurd (po_iv_of hR h1 h2 h3 h4 h5 h6 h7 h8 h9) hv) (fun _ => h))))))))))
end
/-! a place of a rule -/
def po_pl (R : Nat) (v : Int32) : Prop := ∃ p, p < R ∧ v = nI p
theorem po_pl_of {R : Nat} {v : Int32} (hR : R ≤ 12) (h1 : ¬ v < 0) (h2 : ¬ nI R ≤ v) : po_pl R v := by
  obtain ⟨p, hp, e⟩ := nI_of h1
  rw [e, nI_leI (by omega) hp] at h2
  exact ⟨p, by omega, e⟩
section
variable {R : Nat} {fb pt co ro : Int32} {S D K : Nat → Nat} {cf rf fi se : Nat → Int32}
theorem po_xr1 {post : Int32 → Prop} {p : Nat} (hR : R ≤ 12) (hp : p < R) (h : post 1) : wpX_isRule post (nI R, fb, pt, co, ro, po_m po_gL S, po_m po_gH S, po_m po_gL D, po_m po_gH D, po_m po_gB K, po_m po_gA K, cf, rf, fi, se) (nI p) :=
  br_f (nI_pos (by omega)) (br_f (nI_ge hp (by omega)) h)
theorem po_xr0 {post : Int32 → Prop} {v : Int32} (hR : R ≤ 12) (hv : ¬ po_pl R v) (h : post 0) : wpX_isRule post (nI R, fb, pt, co, ro, po_m po_gL S, po_m po_gH S, po_m po_gL D, po_m po_gH D, po_m po_gB K, po_m po_gA K, cf, rf, fi, se) v :=
  br_c (fun _ => h) (fun h1 => br_c (fun _ => h) (fun h2 => absurd (po_pl_of hR h1 h2) hv))
end
/-! remove -/
def po_dn : Nat → Nat → (Nat → Nat) → Nat → Nat
  | _, 0, S => S
  | k, d + 1, S => po_dn (k + 1) d (po_cp S (k + 1) k)
section
variable {R : Nat} {fb pt co ro : Int32} {cf rf fi se : Nat → Int32}
theorem po_xrem {post : Int32 → SX → Prop} (hR : R < 12) : ∀ (d k n : Nat) (S D K : Nat → Nat), d < n → k + d = R → post (nI R) (nI R, fb, 0, co, ro, po_m po_gL (po_dn k d S), po_m po_gH (po_dn k d S), po_m po_gL (po_dn k d D), po_m po_gH (po_dn k d D), po_m po_gB (po_dn k d K), po_m po_gA (po_dn k d K), cf, rf, fi, se) → wX_remove_12 post n (nI k) (nI (R + 1)) fb pt co ro (po_m po_gL S) (po_m po_gH S) (po_m po_gL D) (po_m po_gH D) (po_m po_gB K) (po_m po_gA K) cf rf fi se := by
  intro d
  induction d with
  | zero =>
    intro k n S D K hn hk h
    obtain ⟨m, rfl⟩ : ∃ m, n = m + 1 := ⟨n - 1, by omega⟩
    refine br_t (by rw [nI_1]; exact nI_le (by omega) (by omega)) ?_
    exact nm_r (nI_pred R) h
  | succ d ih =>
    intro k n S D K hn hk h
    obtain ⟨m, rfl⟩ : ∃ m, n = m + 1 := ⟨n - 1, by omega⟩
    refine br_f (by rw [nI_1]; exact nI_ge (by omega) (by omega)) ?_
    refine po_xcp (a := k + 1) (b := k) (nI_1 k) rfl (by omega) (by omega) ?_
    exact nm_r (nI_1 k) (ih (k + 1) m _ _ _ (by omega) (by omega) h)
theorem po_xremove {post : Int32 → SX → Prop} {p : Nat} {S D K : Nat → Nat} (hR : R < 12) (hp : p ≤ R) (h : post (nI R) (nI R, fb, 0, co, ro, po_m po_gL (po_dn p (R - p) S), po_m po_gH (po_dn p (R - p) S), po_m po_gL (po_dn p (R - p) D), po_m po_gH (po_dn p (R - p) D), po_m po_gB (po_dn p (R - p) K), po_m po_gA (po_dn p (R - p) K), cf, rf, fi, se)) : wpX_remove post (nI (R + 1), fb, pt, co, ro, po_m po_gL S, po_m po_gH S, po_m po_gL D, po_m po_gH D, po_m po_gB K, po_m po_gA K, cf, rf, fi, se) (nI p) := by
  unfold wpX_remove
  refine po_xr1 (by omega) (by omega) (br_f (by decide) ?_)
  exact ⟨R - p + 1, po_xrem hR (R - p) p (R - p + 1) S D K (by omega) (by omega) h⟩
theorem po_xremove0 {post : Int32 → SX → Prop} {v : Int32} {S D K : Nat → Nat} (hR : R ≤ 12) (hv : ¬ po_pl R v) (h : post (-1) (nI R, fb, pt, co, ro, po_m po_gL S, po_m po_gH S, po_m po_gL D, po_m po_gH D, po_m po_gB K, po_m po_gA K, cf, rf, fi, se)) : wpX_remove post (nI R, fb, pt, co, ro, po_m po_gL S, po_m po_gH S, po_m po_gL D, po_m po_gH D, po_m po_gB K, po_m po_gA K, cf, rf, fi, se) v := by
  unfold wpX_remove
  exact po_xr0 hR hv (br_t rfl h)
end
/-! shift -/
def po_xu : Nat → Nat → (Nat → Nat) → Nat → Nat
  | _, 0, S => S
  | k, d + 1, S => po_xu (k + 1) d (po_sw S k (k + 1))
def po_xd (t : Nat) : Nat → (Nat → Nat) → Nat → Nat
  | 0, S => S
  | d + 1, S => po_xd t d (po_sw S (t + d + 1) (t + d))
section
variable {R : Nat} {fb pt co ro : Int32} {cf rf fi se : Nat → Int32}
theorem po_xs41 {post : Int32 → SX → Prop} {t : Nat} : ∀ (d n : Nat) (S D K : Nat → Nat), d < n → t + d < 12 → post 0 (nI R, fb, 0, co, ro, po_m po_gL (po_xd t d S), po_m po_gH (po_xd t d S), po_m po_gL (po_xd t d D), po_m po_gH (po_xd t d D), po_m po_gB (po_xd t d K), po_m po_gA (po_xd t d K), cf, rf, fi, se) → wX_shift_41 post (nI t) n (nI (t + d)) (nI R) fb pt co ro (po_m po_gL S) (po_m po_gH S) (po_m po_gL D) (po_m po_gH D) (po_m po_gB K) (po_m po_gA K) cf rf fi se := by
  intro d
  induction d with
  | zero =>
    intro n S D K hn ht h
    obtain ⟨m, rfl⟩ : ∃ m, n = m + 1 := ⟨n - 1, by omega⟩
    exact br_t (nI_le (by omega) (by omega)) h
  | succ d ih =>
    intro n S D K hn ht h
    obtain ⟨m, rfl⟩ : ∃ m, n = m + 1 := ⟨n - 1, by omega⟩
    refine br_f (nI_ge (by omega) (by omega)) ?_
    refine po_xex (a := t + d + 1) (b := t + d) rfl (nI_pred (t + d)) (by omega) (by omega) ?_
    exact nm_r (pk_m1 (t + d)) (ih m _ _ _ (by omega) (by omega) h)
theorem po_xs20 {post : Int32 → SX → Prop} {f t : Nat} (ht : t < 12) : ∀ (d k n : Nat) (S D K : Nat → Nat), d < n → k + d = t → (∃ n41, wX_shift_41 post (nI t) n41 (nI f) (nI R) fb pt co ro (po_m po_gL (po_xu k d S)) (po_m po_gH (po_xu k d S)) (po_m po_gL (po_xu k d D)) (po_m po_gH (po_xu k d D)) (po_m po_gB (po_xu k d K)) (po_m po_gA (po_xu k d K)) cf rf fi se) → wX_shift_20 post (nI f) (nI t) n (nI k) (nI R) fb pt co ro (po_m po_gL S) (po_m po_gH S) (po_m po_gL D) (po_m po_gH D) (po_m po_gB K) (po_m po_gA K) cf rf fi se := by
  intro d
  induction d with
  | zero =>
    intro k n S D K hn hk h
    obtain ⟨m, rfl⟩ : ∃ m, n = m + 1 := ⟨n - 1, by omega⟩
    exact br_t (nI_le (by omega) (by omega)) h
  | succ d ih =>
    intro k n S D K hn hk h
    obtain ⟨m, rfl⟩ : ∃ m, n = m + 1 := ⟨n - 1, by omega⟩
    refine br_f (nI_ge (by omega) (by omega)) ?_
    refine po_xex (a := k) (b := k + 1) rfl (nI_1 k) (by omega) (by omega) ?_
    exact nm_r (nI_1 k) (ih (k + 1) m _ _ _ (by omega) (by omega) h)
theorem po_xshU {post : Int32 → SX → Prop} {f d : Nat} {S D K : Nat → Nat} (hR : R ≤ 12) (ht : f + d < R) (h : post 0 (nI R, fb, 0, co, ro, po_m po_gL (po_xu f d S), po_m po_gH (po_xu f d S), po_m po_gL (po_xu f d D), po_m po_gH (po_xu f d D), po_m po_gB (po_xu f d K), po_m po_gA (po_xu f d K), cf, rf, fi, se)) : wpX_shift post (nI R, fb, pt, co, ro, po_m po_gL S, po_m po_gH S, po_m po_gL D, po_m po_gH D, po_m po_gB K, po_m po_gA K, cf, rf, fi, se) (nI f) (nI (f + d)) := by
  unfold wpX_shift
  refine po_xr1 hR (by omega) (br_f (by decide) ?_)
  refine po_xr1 hR (by omega) (br_f (by decide) ?_)
  refine ⟨d + 1, po_xs20 (f := f) (t := f + d) (by omega) d f (d + 1) S D K (by omega) rfl ⟨1, ?_⟩⟩
  exact br_t (nI_le (by omega) (by omega)) h
theorem po_xshD {post : Int32 → SX → Prop} {t d : Nat} {S D K : Nat → Nat} (hR : R ≤ 12) (ht : t + d < R) (h : post 0 (nI R, fb, 0, co, ro, po_m po_gL (po_xd t d S), po_m po_gH (po_xd t d S), po_m po_gL (po_xd t d D), po_m po_gH (po_xd t d D), po_m po_gB (po_xd t d K), po_m po_gA (po_xd t d K), cf, rf, fi, se)) : wpX_shift post (nI R, fb, pt, co, ro, po_m po_gL S, po_m po_gH S, po_m po_gL D, po_m po_gH D, po_m po_gB K, po_m po_gA K, cf, rf, fi, se) (nI (t + d)) (nI t) := by
  unfold wpX_shift
  refine po_xr1 hR (by omega) (br_f (by decide) ?_)
  refine po_xr1 hR (by omega) (br_f (by decide) ?_)
  refine ⟨1, ?_⟩
  refine br_t (nI_le (by omega) (by omega)) ?_
  exact ⟨d + 1, po_xs41 d (d + 1) S D K (by omega) (by omega) h⟩
theorem po_xshift0 {post : Int32 → SX → Prop} {v w : Int32} {S D K : Nat → Nat} (hR : R ≤ 12) (hv : ¬ (po_pl R v ∧ po_pl R w)) (h : post (-1) (nI R, fb, pt, co, ro, po_m po_gL S, po_m po_gH S, po_m po_gL D, po_m po_gH D, po_m po_gB K, po_m po_gA K, cf, rf, fi, se)) : wpX_shift post (nI R, fb, pt, co, ro, po_m po_gL S, po_m po_gH S, po_m po_gL D, po_m po_gH D, po_m po_gB K, po_m po_gA K, cf, rf, fi, se) v w := by
  unfold wpX_shift
  by_cases h1 : po_pl R v
  · obtain ⟨p, hp, rfl⟩ := h1
    refine po_xr1 hR hp (br_f (by decide) ?_)
    exact po_xr0 hR (fun z => hv ⟨⟨p, hp, rfl⟩, z⟩) (br_t rfl h)
  · exact po_xr0 hR h1 (br_t rfl h)
end
end
section
/-! the reference's stores -/
section
variable {R : Nat} {fb : Int32} {S D K : Nat → Nat}
theorem po_ycp {post : SY → Prop} {a b : Nat} {A B : Int32} (ea : A = nI a) (eb : B = nI b) (ha : a < 12) (hb : b < 12) (h : post (nI R, fb, po_m nI (po_cp S a b), po_m nI (po_cp D a b), po_m nI (po_cp K a b))) : wpY_copy post (nI R, fb, po_m nI S, po_m nI D, po_m nI K) B A :=
  have ia := po_i12 ea ha
  have ib := po_i12 eb hb
  And.intro ia (And.intro ib (nm_r (po_mc ea eb ha hb) (And.intro ia (And.intro ib (nm_r (po_mc ea eb ha hb) (And.intro ia (And.intro ib (nm_r (po_mc ea eb ha hb) h))))))))
theorem po_ywr {post : SY → Prop} {b xs xd xk : Nat} (hb : b < 12) (h : post (nI R, fb, po_m nI (po_u S b xs), po_m nI (po_u D b xd), po_m nI (po_u K b xk))) : wpY_write post (nI R, fb, po_m nI S, po_m nI D, po_m nI K) (nI b) (nI xs) (nI xd) (nI xk) :=
  have ib := po_i12 (A := nI b) rfl hb
  And.intro ib (nm_r (po_mw rfl hb rfl) (And.intro ib (nm_r (po_mw rfl hb rfl) (And.intro ib (nm_r (po_mw rfl hb rfl) h)))))
end
section
variable {R : Nat} {fb : Int32}
theorem po_yins {post : Int32 → SY → Prop} {p xs xd xk : Nat} : ∀ (d n : Nat) (S D K : Nat → Nat), d < n → p + d < 12 → post (nI (R + 1)) (nI (R + 1), fb, po_m nI (po_u (po_up p d S) p xs), po_m nI (po_u (po_up p d D) p xd), po_m nI (po_u (po_up p d K) p xk)) → wY_insert_65 post (nI p) (nI xs) (nI xd) (nI xk) n (nI (p + d)) (nI R) fb (po_m nI S) (po_m nI D) (po_m nI K) := by
  intro d
  induction d with
  | zero =>
    intro n S D K hn hp h
    obtain ⟨m, rfl⟩ : ∃ m, n = m + 1 := ⟨n - 1, by omega⟩
    refine br_t (nI_le (by omega) (by omega)) ?_
    refine po_ywr (by omega) ?_
    exact nm_r (nI_1 R) h
  | succ d ih =>
    intro n S D K hn hp h
    obtain ⟨m, rfl⟩ : ∃ m, n = m + 1 := ⟨n - 1, by omega⟩
    refine br_f (nI_ge (by omega) (by omega)) ?_
    refine po_ycp (a := p + d) (b := p + d + 1) (nI_pred (p + d)) rfl (by omega) (by omega) ?_
    exact nm_r (pk_m1 (p + d)) (ih m _ _ _ (by omega) (by omega) h)
theorem po_yinsert {post : Int32 → SY → Prop} {p xs xd xk : Nat} {S D K : Nat → Nat} (hp : p ≤ R) (hR : R < 12) (hs : xs < 1024) (hd : xd < 1024) (hk : xk < 64) (h : post (nI (R + 1)) (nI (R + 1), fb, po_m nI (po_u (po_up p (R - p) S) p xs), po_m nI (po_u (po_up p (R - p) D) p xd), po_m nI (po_u (po_up p (R - p) K) p xk))) : wpY_insert post (nI R, fb, po_m nI S, po_m nI D, po_m nI K) (nI p) (nI xs) (nI xd) (nI xk) := by
  have k := po_yins (R := R) (fb := fb) (post := post) (p := p) (R - p) (R - p + 1) S D K (by omega) (by omega) h
  have e : nI (p + (R - p)) = nI R := congrArg nI (by omega)
  rw [e] at k
  have h12 : ¬ nI R = 12 := fun z => by
    have := (nI_eq (a := R) (b := 12) (by omega) (by omega)).mp z
    omega
  exact br_f (nI_pos (by omega)) (br_f (nI_nlt hp (by omega)) (br_f h12 (br_f (nI_pos (by omega)) (br_f (nI_nlt (a := 1023) (by omega) (by omega)) (br_f (nI_pos (by omega)) (br_f (nI_nlt (a := 1023) (by omega) (by omega)) (br_f (nI_pos (by omega)) (br_t (nI_le (b := 63) (by omega) (by decide)) ⟨R - p + 1, k⟩))))))))
theorem po_yinsert0 {post : Int32 → SY → Prop} {v1 v2 v3 v4 : Int32} {S D K : Nat → Nat} (hR : R ≤ 12) (hv : ¬ po_iv R v1 v2 v3 v4) (h : post (-1) (nI R, fb, po_m nI S, po_m nI D, po_m nI K)) : wpY_insert post (nI R, fb, po_m nI S, po_m nI D, po_m nI K) v1 v2 v3 v4 :=
  br_c (fun _ => h) (fun h1 => br_c (fun _ => h) (fun h2 => br_c (fun _ => h) (fun h3 => br_c (fun _ => h) (fun h4 => br_c (fun _ => h) (fun h5 => br_c (fun _ => h) (fun h6 => br_c (fun _ => h) (fun h7 => br_c (fun _ => h) (fun h8 => br_c (fun h9 => absurd (po_iv_of hR h1 h2 (fun z => h3 (Int32.le_antisymm (nI_le (b := 12) hR (by decide)) z)) h4 h5 h6 h7 h8 h9) hv) (fun _ => h)))))))))
theorem po_ym1 {post : Int32 → Prop} {p : Nat} {S D K : Nat → Nat} (hR : R ≤ 12) (hp : p < R) (h : post 0) : wpY_missing post (nI R, fb, po_m nI S, po_m nI D, po_m nI K) (nI p) :=
  br_f (nI_pos (by omega)) (br_t (nI_lt hp (by omega)) h)
theorem po_ym0 {post : Int32 → Prop} {v : Int32} {S D K : Nat → Nat} (hR : R ≤ 12) (hv : ¬ po_pl R v) (h : post 1) : wpY_missing post (nI R, fb, po_m nI S, po_m nI D, po_m nI K) v :=
  br_c (fun _ => h) (fun h1 => br_c (fun h2 => absurd (po_pl_of hR h1 (Int32.not_le.mpr h2)) hv) (fun _ => h))
theorem po_yrem {post : Int32 → SY → Prop} (hR : R < 12) : ∀ (d k n : Nat) (S D K : Nat → Nat), d < n → k + d = R → post (nI R) (nI R, fb, po_m nI (po_dn k d S), po_m nI (po_dn k d D), po_m nI (po_dn k d K)) → wY_remove_22 post n (nI k) (nI R) fb (po_m nI S) (po_m nI D) (po_m nI K) := by
  intro d
  induction d with
  | zero =>
    intro k n S D K hn hk h
    obtain ⟨m, rfl⟩ : ∃ m, n = m + 1 := ⟨n - 1, by omega⟩
    exact br_t (nI_le (by omega) (by omega)) h
  | succ d ih =>
    intro k n S D K hn hk h
    obtain ⟨m, rfl⟩ : ∃ m, n = m + 1 := ⟨n - 1, by omega⟩
    refine br_f (nI_ge (by omega) (by omega)) ?_
    refine po_ycp (a := k + 1) (b := k) (nI_1 k) rfl (by omega) (by omega) ?_
    exact nm_r (nI_1 k) (ih (k + 1) m _ _ _ (by omega) (by omega) h)
theorem po_yremove {post : Int32 → SY → Prop} {p : Nat} {S D K : Nat → Nat} (hR : R < 12) (hp : p ≤ R) (h : post (nI R) (nI R, fb, po_m nI (po_dn p (R - p) S), po_m nI (po_dn p (R - p) D), po_m nI (po_dn p (R - p) K))) : wpY_remove post (nI (R + 1), fb, po_m nI S, po_m nI D, po_m nI K) (nI p) := by
  unfold wpY_remove
  refine po_ym1 (by omega) (by omega) (br_t rfl ?_)
  exact nm_r (nI_pred R) ⟨R - p + 1, po_yrem hR (R - p) p (R - p + 1) S D K (by omega) (by omega) h⟩
theorem po_yremove0 {post : Int32 → SY → Prop} {v : Int32} {S D K : Nat → Nat} (hR : R ≤ 12) (hv : ¬ po_pl R v) (h : post (-1) (nI R, fb, po_m nI S, po_m nI D, po_m nI K)) : wpY_remove post (nI R, fb, po_m nI S, po_m nI D, po_m nI K) v := by
  unfold wpY_remove
  exact po_ym0 hR hv (br_f (by decide) h)
/-- remove, then insert -/
def po_mv (R f t : Nat) (S : Nat → Nat) : Nat → Nat := po_u (po_up t (R - t) (po_dn f (R - f) S)) t (S f)
theorem po_yshift {post : Int32 → SY → Prop} {f t : Nat} {S D K : Nat → Nat} (hR : R < 12) (hf : f ≤ R) (ht : t ≤ R) (hS : S f < 1024) (hD : D f < 1024) (hK : K f < 64) (h : post 0 (nI (R + 1), fb, po_m nI (po_mv R f t S), po_m nI (po_mv R f t D), po_m nI (po_mv R f t K))) : wpY_shift post (nI (R + 1), fb, po_m nI S, po_m nI D, po_m nI K) (nI f) (nI t) := by
  unfold wpY_shift
  have i := po_i12 (A := nI f) rfl (show f < 12 by omega)
  refine po_ym1 (by omega) (by omega) (br_t rfl ?_)
  refine po_ym1 (by omega) (by omega) (br_t rfl ?_)
  refine And.intro i (nm_r (po_mr rfl (by omega)) (And.intro i (nm_r (po_mr rfl (by omega)) (And.intro i (nm_r (po_mr rfl (by omega)) ?_)))))
  refine po_yremove hR hf ?_
  refine po_yinsert ht hR hS hD hK ?_
  exact h
theorem po_yshift0 {post : Int32 → SY → Prop} {v w : Int32} {S D K : Nat → Nat} (hR : R ≤ 12) (hv : ¬ (po_pl R v ∧ po_pl R w)) (h : post (-1) (nI R, fb, po_m nI S, po_m nI D, po_m nI K)) : wpY_shift post (nI R, fb, po_m nI S, po_m nI D, po_m nI K) v w := by
  unfold wpY_shift
  by_cases h1 : po_pl R v
  · obtain ⟨p, hp, rfl⟩ := h1
    refine po_ym1 hR hp (br_t rfl ?_)
    exact po_ym0 hR (fun z => hv ⟨⟨p, hp, rfl⟩, z⟩) (br_f (by decide) h)
  · exact po_ym0 hR h1 (br_f (by decide) h)
end
/-! what the moves give, entry by entry -/
theorem po_up_at (p : Nat) : ∀ (d : Nat) (S : Nat → Nat) (j : Nat), po_up p d S j = if p < j ∧ j ≤ p + d then S (j - 1) else S j := by
  intro d
  induction d with
  | zero =>
    intro S j
    rw [if_neg (by omega)]
    rfl
  | succ d ih =>
    intro S j
    show po_up p d (po_cp S (p + d) (p + d + 1)) j = _
    rw [ih]
    unfold po_cp po_u
    by_cases h1 : p < j ∧ j ≤ p + d
    · rw [if_pos h1, if_neg (by omega), if_pos (by omega)]
    · rw [if_neg h1]
      by_cases h2 : j = p + d + 1
      · rw [if_pos h2, if_pos (by omega)]
        exact congrArg S (by omega)
      · rw [if_neg h2, if_neg (by omega)]
theorem po_dn_at : ∀ (d k : Nat) (S : Nat → Nat) (j : Nat), po_dn k d S j = if k ≤ j ∧ j < k + d then S (j + 1) else S j := by
  intro d
  induction d with
  | zero =>
    intro k S j
    rw [if_neg (by omega)]
    rfl
  | succ d ih =>
    intro k S j
    show po_dn (k + 1) d (po_cp S (k + 1) k) j = _
    rw [ih]
    unfold po_cp po_u
    by_cases h1 : k + 1 ≤ j ∧ j < k + 1 + d
    · rw [if_pos h1, if_neg (by omega), if_pos (by omega)]
    · rw [if_neg h1]
      by_cases h2 : j = k
      · rw [if_pos h2, if_pos (by omega), h2]
      · rw [if_neg h2, if_neg (by omega)]
theorem po_xu_at : ∀ (d k : Nat) (S : Nat → Nat) (j : Nat), po_xu k d S j = if k ≤ j ∧ j < k + d then S (j + 1) else if j = k + d then S k else S j := by
  intro d
  induction d with
  | zero =>
    intro k S j
    rw [if_neg (by omega)]
    show S j = _
    by_cases h : j = k + 0
    · rw [if_pos h, h]; rfl
    · rw [if_neg h]
  | succ d ih =>
    intro k S j
    show po_xu (k + 1) d (po_sw S k (k + 1)) j = _
    rw [ih]
    unfold po_sw po_cp po_u
    by_cases h1 : k + 1 ≤ j ∧ j < k + 1 + d
    · rw [if_pos h1, if_neg (by omega), if_neg (by omega), if_pos (by omega)]
    · rw [if_neg h1]
      by_cases h2 : j = k + 1 + d
      · rw [if_pos h2, if_pos rfl, if_neg (by omega), if_pos (by omega)]
      · rw [if_neg h2]
        by_cases h3 : j = k
        · rw [if_neg (by omega), if_pos h3, if_pos (by omega), h3]
        · rw [if_neg (by omega), if_neg h3, if_neg (by omega), if_neg (by omega)]
theorem po_xd_at (t : Nat) : ∀ (d : Nat) (S : Nat → Nat) (j : Nat), po_xd t d S j = if t < j ∧ j ≤ t + d then S (j - 1) else if j = t then S (t + d) else S j := by
  intro d
  induction d with
  | zero =>
    intro S j
    rw [if_neg (by omega)]
    show S j = _
    by_cases h : j = t
    · rw [if_pos h, h]; rfl
    · rw [if_neg h]
  | succ d ih =>
    intro S j
    show po_xd t d (po_sw S (t + d + 1) (t + d)) j = _
    rw [ih]
    unfold po_sw po_cp po_u
    by_cases h1 : t < j ∧ j ≤ t + d
    · rw [if_pos h1, if_neg (by omega), if_neg (by omega), if_pos (by omega)]
    · rw [if_neg h1]
      by_cases h2 : j = t
      · rw [if_pos h2, if_pos rfl, if_neg (by omega), if_pos h2]
        rfl
      · rw [if_neg h2, if_neg (by omega)]
        by_cases h3 : j = t + d + 1
        · rw [if_pos h3, if_pos (by omega)]
          exact congrArg S (by omega)
        · rw [if_neg h3, if_neg (by omega), if_neg h2]
theorem po_mv_u {R f d : Nat} (h : f + d ≤ R) (S : Nat → Nat) : po_mv R f (f + d) S = po_xu f d S := by
  funext j
  rw [po_xu_at]
  unfold po_mv po_u
  by_cases h1 : j = f + d
  · rw [if_pos h1, if_neg (by omega), if_pos h1]
  · rw [if_neg h1, po_up_at, po_dn_at, po_dn_at]
    by_cases h2 : f ≤ j ∧ j < f + d
    · rw [if_neg (by omega), if_pos (by omega), if_pos h2]
    · rw [if_neg h2, if_neg h1]
      by_cases h3 : f + d < j ∧ j ≤ f + d + (R - (f + d))
      · rw [if_pos h3, if_pos (by omega)]
        exact congrArg S (by omega)
      · rw [if_neg h3, if_neg (by omega)]
theorem po_mv_d {R t d : Nat} (h : t + d ≤ R) (S : Nat → Nat) : po_mv R (t + d) t S = po_xd t d S := by
  funext j
  rw [po_xd_at]
  unfold po_mv po_u
  by_cases h1 : j = t
  · rw [if_pos h1, if_neg (by omega), if_pos h1]
  · rw [if_neg h1, if_neg h1, po_up_at, po_dn_at, po_dn_at]
    by_cases h2 : t < j ∧ j ≤ t + d
    · rw [if_pos (by omega), if_neg (by omega), if_pos h2]
    · rw [if_neg h2]
      by_cases h3 : t < j ∧ j ≤ t + (R - t)
      · rw [if_pos h3, if_pos (by omega)]
        exact congrArg S (by omega)
      · rw [if_neg h3, if_neg (by omega)]
/-! bounds are kept -/
theorem po_u_b {S : Nat → Nat} {B k x : Nat} (h : ∀ p, S p < B) (hx : x < B) : ∀ p, po_u S k x p < B := by
  intro p
  unfold po_u
  split
  · exact hx
  · exact h p
theorem po_up_b {S : Nat → Nat} {B q d : Nat} (h : ∀ p, S p < B) : ∀ p, po_up q d S p < B := by
  intro p
  rw [po_up_at]
  split
  · exact h _
  · exact h _
theorem po_dn_b {S : Nat → Nat} {B q d : Nat} (h : ∀ p, S p < B) : ∀ p, po_dn q d S p < B := by
  intro p
  rw [po_dn_at]
  split
  · exact h _
  · exact h _
theorem po_mv_b {S : Nat → Nat} {B R f t : Nat} (h : ∀ p, S p < B) : ∀ p, po_mv R f t S p < B :=
  po_u_b (po_up_b (po_dn_b h)) (h f)
end
section
/-! the reference's questions -/
/-- the rule's action, by its place plus one -/
def po_ac (fb : Int32) (K : Nat → Nat) : Nat → Int32
  | 0 => fb
  | r + 1 => po_gA (K r)
def po_q (f : Nat → Nat → Nat → Nat) (q : Nat) : Nat := f (q / 128) (q / 4 % 32) (q % 4)
section
variable {R : Nat} {fb : Int32} {S D K : Nat → Nat}
theorem po_ym80 {post : Int32 → Prop} {r q : Nat} (hr : r < 12) (hq : q < 4096) (hK : K r < 64) (h1 : K r / 2 ^ (q % 4) % 2 = 1 → post 1) (h0 : ¬ K r / 2 ^ (q % 4) % 2 = 1 → post 0) : wY_matches_80 post (nI r) (nI q) 1 1 (nI R) fb (po_m nI S) (po_m nI D) (po_m nI K) := by
  have e4 : nI q - nI q / 4 * 4 = nI (q % 4) := pk_rem (d := 4) (by omega) (by omega) (by omega)
  have e : (po_m nI K (nI r).toNatClampNeg >>> ((nI q - nI q / 4 * 4) &&& 31)) &&& 1 = nI (K r / 2 ^ (q % 4) % 2) := by
    rw [po_mr rfl hr, e4, pk_shrN (by omega) _ (q % 4) (s_l _ (by omega))]
    have h2 : K r / 2 ^ (q % 4) ≤ K r := Nat.div_le_self _ _
    exact pk_andN (by omega) 1 (by decide)
  refine br_f (by decide) (br_f (by decide) (And.intro (po_i12 rfl hr) (And.intro (by decide) ?_)))
  exact pk_eq (K r / 2 ^ (q % 4) % 2) 1 h1 h0 e rfl (by omega) (by omega)
theorem po_ym45 {post : Int32 → Prop} {r q d : Nat} (hr : r < 12) (hq : q < 4096) (hd : d < 32) (hD : D r < 1024) (hK : K r < 64) (h1 : (D r / 32 ≤ d ∧ d ≤ D r % 32 ∧ K r / 2 ^ (q % 4) % 2 = 1) → post 1) (h0 : ¬ (D r / 32 ≤ d ∧ d ≤ D r % 32 ∧ K r / 2 ^ (q % 4) % 2 = 1) → post 0) : wY_matches_45 post (nI r) (nI q) (nI d) 1 (nI R) fb (po_m nI S) (po_m nI D) (po_m nI K) := by
  have ea : po_m nI D (nI r).toNatClampNeg / 32 = nI (D r / 32) := by
    rw [po_mr rfl hr]; exact pk_div (d := 32) (by omega) (by omega) (by omega)
  have eb : po_m nI D (nI r).toNatClampNeg - po_m nI D (nI r).toNatClampNeg / 32 * 32 = nI (D r % 32) := by
    rw [po_mr rfl hr]; exact pk_rem (d := 32) (by omega) (by omega) (by omega)
  have i := po_i12 (A := nI r) rfl hr
  refine And.intro i (And.intro (by decide) ?_)
  refine pk_lt d (D r / 32) (fun z => br_f (by decide) (br_t rfl (h0 (by omega)))) (fun z1 => And.intro i (And.intro (by decide) ?_)) rfl ea (by omega) (by omega)
  refine pk_lt (D r % 32) d (fun z => br_f (by decide) (br_t rfl (h0 (by omega)))) (fun z2 => ?_) eb rfl (by omega) (by omega)
  exact po_ym80 hr hq hK (fun z3 => h1 ⟨z1, z2, z3⟩) (fun z3 => h0 (fun w => z3 w.2.2))
theorem po_ym44 {post : Int32 → Prop} {r q d : Nat} (hr : r < 12) (h0 : post 0) : wY_matches_44 post (nI r) (nI q) (nI d) (nI R) fb (po_m nI S) (po_m nI D) (po_m nI K) := by
  have i := po_i12 (A := nI r) rfl hr
  refine And.intro i (And.intro (by decide) (br_c (fun _ => br_t rfl h0) (fun _ => And.intro i (And.intro (by decide) (br_c (fun _ => br_t rfl h0) (fun _ => br_t rfl h0))))))
theorem po_ymt {post : Int32 → Prop} {r q : Nat} (hr : r < 12) (hq : q < 4096) (hS : S r < 1024) (hD : D r < 1024) (hK : K r < 64) (h1 : po_M S D K (q / 128) (q / 4 % 32) (q % 4) r = true → post 1) (h0 : po_M S D K (q / 128) (q / 4 % 32) (q % 4) r = false → post 0) : wpY_matches post (nI R, fb, po_m nI S, po_m nI D, po_m nI K) (nI r) (nI q) := by
  have e1 : nI q / 128 = nI (q / 128) := pk_div (d := 128) (by omega) (by omega) (by omega)
  have e2 : nI q / 4 - nI q / 4 / 32 * 32 = nI (q / 4 % 32) := by
    rw [show nI q / 4 = nI (q / 4) from pk_div (d := 4) (by omega) (by omega) (by omega)]
    exact pk_rem (d := 32) (by omega) (by omega) (by omega)
  have ea : po_m nI S (nI r).toNatClampNeg / 32 = nI (S r / 32) := by
    rw [po_mr rfl hr]; exact pk_div (d := 32) (by omega) (by omega) (by omega)
  have eb : po_m nI S (nI r).toNatClampNeg - po_m nI S (nI r).toNatClampNeg / 32 * 32 = nI (S r % 32) := by
    rw [po_mr rfl hr]; exact pk_rem (d := 32) (by omega) (by omega) (by omega)
  have i := po_i12 (A := nI r) rfl hr
  refine And.intro (by decide) (nm_r e1 (And.intro (by decide) (And.intro (by decide) (nm_r e2 (And.intro i (And.intro (by decide) ?_))))))
  refine pk_lt (q / 128) (S r / 32) (fun z => po_ym44 hr (h0 (po_M_f.mpr (by omega)))) (fun z1 => And.intro i (And.intro (by decide) ?_)) rfl ea (by omega) (by omega)
  refine pk_lt (S r % 32) (q / 128) (fun z => po_ym44 hr (h0 (po_M_f.mpr (by omega)))) (fun z2 => ?_) eb rfl (by omega) (by omega)
  exact po_ym45 hr hq (by omega) hD hK (fun z => h1 (po_M_iff.mpr ⟨z1, z2, z⟩)) (fun z => h0 (po_M_f.mpr (fun w => z w.2.2)))
/-- a match, the rule w left out -/
def po_Mw (S D K : Nat → Nat) (w : Int32) (s d t p : Nat) : Bool := !decide (nI p = w) && po_M S D K s d t p
theorem po_Mw_t {w : Int32} {s d t p : Nat} (h : nI p = w) : po_Mw S D K w s d t p = false := by
  unfold po_Mw; rw [decide_eq_true h]; rfl
theorem po_Mw_f {w : Int32} {s d t p : Nat} (h : ¬ nI p = w) : po_Mw S D K w s d t p = po_M S D K s d t p := by
  unfold po_Mw; rw [decide_eq_false h]; rfl
theorem po_ydl {post : Int32 → Prop} {q : Nat} {w : Int32} (hR : R ≤ 12) (hq : q < 4096) (hS : ∀ p, S p < 1024) (hD : ∀ p, D p < 1024) (hK : ∀ p, K p < 64) : ∀ k n r : Nat, k < n → r + k = R → post (po_e (po_F (po_Mw S D K w (q / 128) (q / 4 % 32) (q % 4)) k r)) → wY_deciding_2 post (nI q) w (nI R) fb (po_m nI S) (po_m nI D) (po_m nI K) n (nI r) := by
  intro k
  induction k with
  | zero =>
    intro n r hn hr h
    obtain ⟨m, rfl⟩ : ∃ m, n = m + 1 := ⟨n - 1, by omega⟩
    exact br_t (nI_le (by omega) (by omega)) h
  | succ k ih =>
    intro n r hn hr h
    obtain ⟨m, rfl⟩ : ∃ m, n = m + 1 := ⟨n - 1, by omega⟩
    refine br_f (nI_ge (by omega) (by omega)) ?_
    by_cases e : nI r = w
    · rw [po_F_f k (po_Mw_t e)] at h
      exact br_t e (nm_r (nI_1 r) (ih m (r + 1) (by omega) (by omega) h))
    · refine br_f e ?_
      refine po_ymt (by omega) hq (hS r) (hD r) (hK r) (fun z => br_f (by decide) ?_) (fun z => br_t rfl ?_)
      · rw [po_F_t k ((po_Mw_f e).trans z)] at h
        exact h
      · rw [po_F_f k ((po_Mw_f e).trans z)] at h
        exact nm_r (nI_1 r) (ih m (r + 1) (by omega) (by omega) h)
theorem po_ydm {post : Int32 → Prop} {q : Nat} (hR : R ≤ 12) (hq : q < 4096) (hS : ∀ p, S p < 1024) (hD : ∀ p, D p < 1024) (hK : ∀ p, K p < 64) (h : post (po_e (po_q (po_fst S D K R) q))) : wpY_deciding post (nI R, fb, po_m nI S, po_m nI D, po_m nI K) (nI q) (-1) := by
  refine ⟨R + 1, po_ydl hR hq hS hD hK R (R + 1) 0 (by omega) (by omega) ?_⟩
  rw [po_F_congr (N := po_M S D K (q / 128) (q / 4 % 32) (q % 4)) R 0 (fun p _ hp => po_Mw_f (po_e_ne (by omega)))]
  exact h
theorem po_ydw {post : Int32 → Prop} {q x : Nat} (hR : R ≤ 12) (hq : q < 4096) (hS : ∀ p, S p < 1024) (hD : ∀ p, D p < 1024) (hK : ∀ p, K p < 64) (hx : x < R) (e : po_q (po_fst S D K R) q = x + 1) (h : post (po_e (po_q (po_snd S D K R) q))) : wpY_deciding post (nI R, fb, po_m nI S, po_m nI D, po_m nI K) (nI q) (nI x) := by
  refine ⟨R + 1, po_ydl hR hq hS hD hK R (R + 1) 0 (by omega) (by omega) ?_⟩
  have k : po_F (po_Mw S D K (nI x) (q / 128) (q / 4 % 32) (q % 4)) R 0 = po_q (po_snd S D K R) q := by
    have k1 : po_F (po_Mw S D K (nI x) (q / 128) (q / 4 % 32) (q % 4)) R 0 = po_F (fun p => !decide (p = x) && po_M S D K (q / 128) (q / 4 % 32) (q % 4) p) R 0 := by
      refine po_F_congr R 0 (fun p _ hp => ?_)
      unfold po_Mw
      by_cases z : p = x
      · rw [z, decide_eq_true rfl, decide_eq_true rfl]
      · rw [decide_eq_false z, decide_eq_false (fun w => z ((nI_eq (by omega) (by omega)).mp w))]
    rw [k1]
    refine po_F_wo (x := x) (fun p hp => ?_) ?_ R 0 e
    · show (!decide (p = x) && _) = _
      rw [decide_eq_false hp]; rfl
    · show (!decide (x = x) && _) = _
      rw [decide_eq_true rfl]; rfl
  rw [k]
  exact h
theorem po_yac {post : Int32 → Prop} {x : Nat} (hx : x ≤ 12) (hK : ∀ p, K p < 64) (h : post (po_ac fb K x)) : wpY_actionOf post (nI R, fb, po_m nI S, po_m nI D, po_m nI K) (po_e x) := by
  cases x with
  | zero => exact br_f (by decide) h
  | succ r =>
    refine br_t (nI_pos' (by omega)) (And.intro (po_i12 (a := r) rfl (by omega)) (And.intro (by decide) ?_))
    have k := hK r
    have e : po_m nI K (nI r).toNatClampNeg / 16 = po_gA (K r) := by
      rw [po_mr rfl (by omega)]; exact pk_div (d := 16) (by omega) (by omega) (by omega)
    show post (po_m nI K (nI r).toNatClampNeg / 16)
    rw [e]
    exact h
/-! packets -/
def po_pk (v1 v2 v3 : Int32) : Prop := ∃ s d t : Nat, s < 32 ∧ d < 32 ∧ t < 4 ∧ v1 = nI s ∧ v2 = nI d ∧ v3 = nI t
theorem po_pk_of {v1 v2 v3 : Int32} (h1 : ¬ v1 < 0) (h2 : ¬ 31 < v1) (h3 : ¬ v2 < 0) (h4 : ¬ 31 < v2) (h5 : ¬ v3 < 0) (h6 : ¬ 3 < v3) : po_pk v1 v2 v3 := by
  obtain ⟨s, hs, e1⟩ := nI_of2 (M := 31) (n := 31) (by decide) h1 (Int32.not_lt.mp h2)
  obtain ⟨d, hd, e2⟩ := nI_of2 (M := 31) (n := 31) (by decide) h3 (Int32.not_lt.mp h4)
  obtain ⟨t, ht, e3⟩ := nI_of2 (M := 3) (n := 3) (by decide) h5 (Int32.not_lt.mp h6)
  exact ⟨s, d, t, by omega, by omega, by omega, e1, e2, e3⟩
theorem po_xp1 {post : Int32 → Prop} {s d t : Nat} (hs : s < 32) (hd : d < 32) (ht : t < 4) (h : post 1) : wpX_isPacket post (nI s) (nI d) (nI t) :=
  br_f (nI_pos (by omega)) (br_f (nI_nlt (a := 31) (by omega) (by omega)) (br_f (nI_pos (by omega)) (br_f (nI_nlt (a := 31) (by omega) (by omega)) (br_f (nI_pos (by omega)) (br_f (nI_nlt (a := 3) (by omega) (by omega)) h)))))
theorem po_xp0 {post : Int32 → Prop} {v1 v2 v3 : Int32} (hv : ¬ po_pk v1 v2 v3) (h : post 0) : wpX_isPacket post v1 v2 v3 :=
  br_c (fun _ => h) (fun h1 => br_c (fun _ => h) (fun h2 => br_c (fun _ => h) (fun h3 => br_c (fun _ => h) (fun h4 => br_c (fun _ => h) (fun h5 => br_c (fun _ => h) (fun h6 => absurd (po_pk_of h1 h2 h3 h4 h5 h6) hv))))))
theorem po_yp1 {post : Int32 → Prop} {s d t : Nat} (hs : s < 32) (hd : d < 32) (ht : t < 4) (h : post 0) : wpY_noPacket post (nI s) (nI d) (nI t) :=
  br_f (nI_pos (by omega)) (br_f (nI_nlt (a := 31) (by omega) (by omega)) (br_f (nI_pos (by omega)) (br_f (nI_nlt (a := 31) (by omega) (by omega)) (br_f (nI_pos (by omega)) (br_t (nI_le (b := 3) (by omega) (by omega)) h)))))
theorem po_yp0 {post : Int32 → Prop} {v1 v2 v3 : Int32} (hv : ¬ po_pk v1 v2 v3) (h : post 1) : wpY_noPacket post v1 v2 v3 :=
  br_c (fun _ => h) (fun h1 => br_c (fun _ => h) (fun h2 => br_c (fun _ => h) (fun h3 => br_c (fun _ => h) (fun h4 => br_c (fun _ => h) (fun h5 => br_c (fun h6 => absurd (po_pk_of h1 h2 h3 h4 h5 (Int32.not_lt.mpr h6)) hv) (fun _ => h))))))
theorem po_ydecide {post : Int32 → Prop} {s d t : Nat} (hR : R ≤ 12) (hS : ∀ p, S p < 1024) (hD : ∀ p, D p < 1024) (hK : ∀ p, K p < 64) (hs : s < 32) (hd : d < 32) (ht : t < 4) (h : post (po_e (po_fst S D K R s d t))) : wpY_decide post (nI R, fb, po_m nI S, po_m nI D, po_m nI K) (nI s) (nI d) (nI t) := by
  unfold wpY_decide
  refine po_yp1 hs hd ht (br_t rfl ?_)
  have e : 128 * nI s + 4 * nI d + nI t = nI (128 * s + 4 * d + t) := by
    rw [show (128 : Int32) * nI s = nI (128 * s) from pk_mul 128 s, show (4 : Int32) * nI d = nI (4 * d) from pk_mul 4 d, nI_add, nI_add]
  rw [e]
  refine po_ydm hR (by omega) hS hD hK ?_
  unfold po_q
  rw [show (128 * s + 4 * d + t) / 128 = s by omega, show (128 * s + 4 * d + t) / 4 % 32 = d by omega, show (128 * s + 4 * d + t) % 4 = t by omega]
  exact h
theorem po_ydecide0 {post : Int32 → Prop} {v1 v2 v3 : Int32} (hv : ¬ po_pk v1 v2 v3) (h : post (-2)) : wpY_decide post (nI R, fb, po_m nI S, po_m nI D, po_m nI K) v1 v2 v3 := by
  unfold wpY_decide
  exact po_yp0 hv (br_f (by decide) h)
theorem po_e_2 : ∀ x, x < 13 → ¬ po_e x = -2 := by decide +kernel
theorem po_yaction {post : Int32 → Prop} {s d t : Nat} (hR : R ≤ 12) (hS : ∀ p, S p < 1024) (hD : ∀ p, D p < 1024) (hK : ∀ p, K p < 64) (hs : s < 32) (hd : d < 32) (ht : t < 4) (h : post (po_ac fb K (po_fst S D K R s d t))) : wpY_action post (nI R, fb, po_m nI S, po_m nI D, po_m nI K) (nI s) (nI d) (nI t) := by
  unfold wpY_action
  have k := po_fst_le S D K R s d t
  refine po_ydecide hR hS hD hK hs hd ht (br_f (po_e_2 _ (by omega)) ?_)
  exact po_yac (by omega) hK h
theorem po_yaction0 {post : Int32 → Prop} {v1 v2 v3 : Int32} (hv : ¬ po_pk v1 v2 v3) (h : post (-2)) : wpY_action post (nI R, fb, po_m nI S, po_m nI D, po_m nI K) v1 v2 v3 := by
  unfold wpY_action
  exact po_ydecide0 hv (br_t rfl h)
/-! counts over all packets -/
def po_cn (S D K : Nat → Nat) (R x : Nat) : Nat := po_sm (fun q => if po_q (po_fst S D K R) q = x then 1 else 0) 4096
def po_hv (S D K : Nat → Nat) (R : Nat) (fb a : Int32) : Nat := po_sm (fun q => if po_ac fb K (po_q (po_fst S D K R) q) = a then 1 else 0) 4096
theorem po_q_le (q : Nat) : po_q (po_fst S D K R) q ≤ R := po_fst_le S D K R _ _ _
theorem po_yd20 {post : Int32 → Prop} {x : Nat} (hR : R ≤ 12) (hS : ∀ p, S p < 1024) (hD : ∀ p, D p < 1024) (hK : ∀ p, K p < 64) (hx : x ≤ R) (h : post (nI (po_cn S D K R x))) : ∀ k n q : Nat, k < n → q + k = 4096 → wY_decided_20 post (po_e x) (nI R) fb (po_m nI S) (po_m nI D) (po_m nI K) n (nI (po_sm (fun q => if po_q (po_fst S D K R) q = x then 1 else 0) q)) (nI q) := by
  intro k
  induction k with
  | zero =>
    intro n q hn hq
    obtain ⟨m, rfl⟩ : ∃ m, n = m + 1 := ⟨n - 1, by omega⟩
    have hq' : q = 4096 := by omega
    subst hq'
    exact br_t (nI_le (a := 4096) (by omega) (by omega)) h
  | succ k ih =>
    intro n q hn hq
    obtain ⟨m, rfl⟩ : ∃ m, n = m + 1 := ⟨n - 1, by omega⟩
    refine br_f (nI_ge (b := 4096) (by omega) (by omega)) ?_
    refine po_ydm hR (by omega) hS hD hK ?_
    have k1 := po_q_le (S := S) (D := D) (K := K) (R := R) q
    have k2 := ih m (q + 1) (by omega) (by omega)
    rw [po_sm_s] at k2
    by_cases e : po_q (po_fst S D K R) q = x
    · rw [if_pos e] at k2
      exact br_t ((po_e_eq (by omega) (by omega)).mpr e) (nm_r (nI_1 _) (nm_r (nI_1 q) k2))
    · rw [if_neg e] at k2
      exact br_f (fun z => e ((po_e_eq (by omega) (by omega)).mp z)) (nm_r (nI_1 q) k2)
/-- a place of a rule or none -/
def po_pe (R : Nat) (v : Int32) : Prop := ∃ x, x ≤ R ∧ v = po_e x
theorem po_pe_of {v : Int32} (h1 : ¬ v = -1) (hv : ¬ po_pe R v) : ¬ po_pl R v := by
  rintro ⟨p, hp, e⟩
  exact hv ⟨p + 1, hp, e⟩
theorem po_pe_m {v : Int32} (hv : ¬ po_pe R v) : ¬ v = -1 := fun e => hv ⟨0, Nat.zero_le _, e⟩
theorem po_ydecided {post : Int32 → Prop} {x : Nat} (hR : R ≤ 12) (hS : ∀ p, S p < 1024) (hD : ∀ p, D p < 1024) (hK : ∀ p, K p < 64) (hx : x ≤ R) (h : post (nI (po_cn S D K R x))) : wpY_decided post (nI R, fb, po_m nI S, po_m nI D, po_m nI K) (po_e x) := by
  have k : ∃ n20 : Nat, wY_decided_20 post (po_e x) (nI R) fb (po_m nI S) (po_m nI D) (po_m nI K) n20 0 0 := ⟨4097, po_yd20 hR hS hD hK hx h 4096 4097 0 (by omega) (by omega)⟩
  unfold wpY_decided
  cases x with
  | zero => exact br_t rfl k
  | succ r => exact br_f (po_e_ne (by omega)) (po_ym1 hR (by omega) (br_t rfl k))
theorem po_ydecided0 {post : Int32 → Prop} {v : Int32} (hR : R ≤ 12) (hv : ¬ po_pe R v) (h : post (-2)) : wpY_decided post (nI R, fb, po_m nI S, po_m nI D, po_m nI K) v := by
  unfold wpY_decided
  exact br_f (po_pe_m hv) (po_ym0 hR (po_pe_of (po_pe_m hv) hv) (br_f (by decide) h))
theorem po_yh4 {post : Int32 → Prop} {a : Int32} (hR : R ≤ 12) (hS : ∀ p, S p < 1024) (hD : ∀ p, D p < 1024) (hK : ∀ p, K p < 64) (h : post (nI (po_hv S D K R fb (a &&& 3)))) : ∀ k n q : Nat, k < n → q + k = 4096 → wY_having_4 post a (nI R) fb (po_m nI S) (po_m nI D) (po_m nI K) n (nI (po_sm (fun q => if po_ac fb K (po_q (po_fst S D K R) q) = a &&& 3 then 1 else 0) q)) (nI q) := by
  intro k
  induction k with
  | zero =>
    intro n q hn hq
    obtain ⟨m, rfl⟩ : ∃ m, n = m + 1 := ⟨n - 1, by omega⟩
    have hq' : q = 4096 := by omega
    subst hq'
    exact br_t (nI_le (a := 4096) (by omega) (by omega)) h
  | succ k ih =>
    intro n q hn hq
    obtain ⟨m, rfl⟩ : ∃ m, n = m + 1 := ⟨n - 1, by omega⟩
    have k1 := po_q_le (S := S) (D := D) (K := K) (R := R) q
    refine br_f (nI_ge (b := 4096) (by omega) (by omega)) ?_
    refine po_ydm hR (by omega) hS hD hK ?_
    refine po_yac (by omega) hK ?_
    have k2 := ih m (q + 1) (by omega) (by omega)
    rw [po_sm_s] at k2
    by_cases e : po_ac fb K (po_q (po_fst S D K R) q) = a &&& 3
    · rw [if_pos e] at k2
      exact br_t e (nm_r (nI_1 _) (nm_r (nI_1 q) k2))
    · rw [if_neg e] at k2
      exact br_f e (nm_r (nI_1 q) k2)
theorem po_yhaving {post : Int32 → Prop} {a : Int32} (hR : R ≤ 12) (hS : ∀ p, S p < 1024) (hD : ∀ p, D p < 1024) (hK : ∀ p, K p < 64) (h : post (nI (po_hv S D K R fb (a &&& 3)))) : wpY_having post (nI R, fb, po_m nI S, po_m nI D, po_m nI K) a :=
  ⟨4097, po_yh4 hR hS hD hK h 4096 4097 0 (by omega) (by omega)⟩
/-! use -/
def po_us1 (S D K : Nat → Nat) (R x : Nat) : Nat → Bool := fun q => decide (po_q (po_fst S D K R) q = x)
def po_us2 (S D K : Nat → Nat) (R : Nat) (fb : Int32) (x : Nat) : Nat → Bool := fun q => decide (po_q (po_fst S D K R) q = x ∧ ¬ po_ac fb K (po_q (po_snd S D K R) q) = po_ac fb K x)
def po_ur (some matters : Bool) : Int32 := if some = false then 1 else if matters = true then 0 else 2
theorem po_yu15 {post : Int32 → Prop} {x : Nat} (hR : R ≤ 12) (hS : ∀ p, S p < 1024) (hD : ∀ p, D p < 1024) (hK : ∀ p, K p < 64) (hx : x < R) (h : post (po_ur (po_any (po_us1 S D K R (x + 1)) 4096) (po_any (po_us2 S D K R fb (x + 1)) 4096))) : ∀ k n q : Nat, k < n → q + k = 4096 → po_any (po_us2 S D K R fb (x + 1)) q = false → wY_use_15 post (nI x) (nI R) fb (po_m nI S) (po_m nI D) (po_m nI K) n (if po_any (po_us1 S D K R (x + 1)) q = true then 0 else 1) (nI q) := by
  intro k
  induction k with
  | zero =>
    intro n q hn hq h2
    obtain ⟨m, rfl⟩ : ∃ m, n = m + 1 := ⟨n - 1, by omega⟩
    have hq' : q = 4096 := by omega
    subst hq'
    refine br_t (nI_le (a := 4096) (by omega) (by omega)) ?_
    rw [h2] at h
    cases e : po_any (po_us1 S D K R (x + 1)) 4096 with
    | true => rw [e] at h; rw [if_pos rfl]; exact br_t rfl h
    | false => rw [e] at h; rw [if_neg (by decide)]; exact br_f (by decide) h
  | succ k ih =>
    intro n q hn hq h2
    obtain ⟨m, rfl⟩ : ∃ m, n = m + 1 := ⟨n - 1, by omega⟩
    have k1 := po_q_le (S := S) (D := D) (K := K) (R := R) q
    have k3 : po_q (po_snd S D K R) q ≤ R := po_snd_le S D K R _ _ _
    refine br_f (nI_ge (b := 4096) (by omega) (by omega)) ?_
    refine po_ydm hR (by omega) hS hD hK ?_
    have k2 := ih m (q + 1) (by omega) (by omega)
    rw [po_any_s, po_any_s, h2] at k2
    by_cases e : po_q (po_fst S D K R) q = x + 1
    · have e1 : po_us1 S D K R (x + 1) q = true := decide_eq_true e
      refine br_t (by rw [e]; rfl) ?_
      refine po_ydw hR (by omega) hS hD hK hx e ?_
      refine po_yac (by omega) hK ?_
      refine po_yac (x := x + 1) (by omega) hK ?_
      by_cases e2 : po_ac fb K (po_q (po_snd S D K R) q) = po_ac fb K (x + 1)
      · have e3 : po_us2 S D K R fb (x + 1) q = false := decide_eq_false (fun z => z.2 e2)
        have k4 := k2 (by rw [e3]; rfl)
        rw [e1, Bool.or_true, if_pos rfl] at k4
        exact br_t e2 (nm_r (nI_1 q) k4)
      · have e3 : po_us2 S D K R fb (x + 1) q = true := decide_eq_true ⟨e, e2⟩
        have e4 : po_any (po_us2 S D K R fb (x + 1)) 4096 = true := po_any_iff.mpr ⟨q, by omega, e3⟩
        have e5 : po_any (po_us1 S D K R (x + 1)) 4096 = true := po_any_iff.mpr ⟨q, by omega, e1⟩
        rw [e4, e5] at h
        exact br_f e2 h
    · have e1 : po_us1 S D K R (x + 1) q = false := decide_eq_false e
      have e3 : po_us2 S D K R fb (x + 1) q = false := decide_eq_false (fun z => e z.1)
      have k4 := k2 (by rw [e3]; rfl)
      rw [e1, Bool.or_false] at k4
      exact br_f (fun z => e ((po_e_eq (b := x + 1) (by omega) (by omega)).mp z)) (nm_r (nI_1 q) k4)
theorem po_yuse {post : Int32 → Prop} {x : Nat} (hR : R ≤ 12) (hS : ∀ p, S p < 1024) (hD : ∀ p, D p < 1024) (hK : ∀ p, K p < 64) (hx : x < R) (h : post (po_ur (po_any (po_us1 S D K R (x + 1)) 4096) (po_any (po_us2 S D K R fb (x + 1)) 4096))) : wpY_use post (nI R, fb, po_m nI S, po_m nI D, po_m nI K) (nI x) := by
  unfold wpY_use
  exact po_ym1 hR hx (br_t rfl ⟨4097, po_yu15 hR hS hD hK hx h 4096 4097 0 (by omega) (by omega) rfl⟩)
theorem po_yuse0 {post : Int32 → Prop} {v : Int32} (hR : R ≤ 12) (hv : ¬ po_pl R v) (h : post (-2)) : wpY_use post (nI R, fb, po_m nI S, po_m nI D, po_m nI K) v := by
  unfold wpY_use
  exact po_ym0 hR hv (br_f (by decide) h)
/-! witness -/
def po_wi (S D K : Nat → Nat) (R x : Nat) (r : Int32) : Prop := (r = -1 ∧ ∀ q, q < 4096 → ¬ po_q (po_fst S D K R) q = x) ∨ (∃ q, q < 4096 ∧ r = nI q ∧ po_q (po_fst S D K R) q = x ∧ ∀ q', q' < q → ¬ po_q (po_fst S D K R) q' = x)
theorem po_yw18 {post : Int32 → Prop} {x : Nat} {r : Int32} (hR : R ≤ 12) (hS : ∀ p, S p < 1024) (hD : ∀ p, D p < 1024) (hK : ∀ p, K p < 64) (hx : x ≤ R) (hw : po_wi S D K R x r) (h : post r) : ∀ k n q : Nat, k < n → q + k = 4096 → (∀ q', q' < q → ¬ po_q (po_fst S D K R) q' = x) → wY_witness_18 post (po_e x) (nI R) fb (po_m nI S) (po_m nI D) (po_m nI K) n (nI q) := by
  intro k
  induction k with
  | zero =>
    intro n q hn hq h2
    obtain ⟨m, rfl⟩ : ∃ m, n = m + 1 := ⟨n - 1, by omega⟩
    refine br_t (nI_le (a := 4096) (by omega) (by omega)) ?_
    rcases hw with ⟨e, _⟩ | ⟨q0, h0, _, e, _⟩
    · rw [← e]; exact h
    · exact absurd e (h2 q0 (by omega))
  | succ k ih =>
    intro n q hn hq h2
    obtain ⟨m, rfl⟩ : ∃ m, n = m + 1 := ⟨n - 1, by omega⟩
    have k1 := po_q_le (S := S) (D := D) (K := K) (R := R) q
    refine br_f (nI_ge (b := 4096) (by omega) (by omega)) ?_
    refine po_ydm hR (by omega) hS hD hK ?_
    by_cases e : po_q (po_fst S D K R) q = x
    · refine br_t (by rw [e]) ?_
      rcases hw with ⟨_, e2⟩ | ⟨q0, h0, er, e2, e3⟩
      · exact absurd e (e2 q (by omega))
      · have h5 : q0 = q := by
          rcases Nat.lt_trichotomy q0 q with z | z | z
          · exact absurd e2 (h2 q0 z)
          · exact z
          · exact absurd e (e3 q z)
        rw [← h5, ← er]
        exact h
    · refine br_f (fun z => e ((po_e_eq (by omega) (by omega)).mp z)) (nm_r (nI_1 q) (ih m (q + 1) (by omega) (by omega) (fun q' hq' => ?_)))
      by_cases z : q' = q
      · rw [z]; exact e
      · exact h2 q' (by omega)
theorem po_ywitness {post : Int32 → Prop} {x : Nat} {r : Int32} (hR : R ≤ 12) (hS : ∀ p, S p < 1024) (hD : ∀ p, D p < 1024) (hK : ∀ p, K p < 64) (hx : x ≤ R) (hw : po_wi S D K R x r) (h : post r) : wpY_witness post (nI R, fb, po_m nI S, po_m nI D, po_m nI K) (po_e x) := by
  have k : ∃ n18 : Nat, wY_witness_18 post (po_e x) (nI R) fb (po_m nI S) (po_m nI D) (po_m nI K) n18 0 := ⟨4097, po_yw18 hR hS hD hK hx hw h 4096 4097 0 (by omega) (by omega) (fun q' z => absurd z (by omega))⟩
  unfold wpY_witness
  cases x with
  | zero => exact br_t rfl k
  | succ r => exact br_f (po_e_ne (by omega)) (po_ym1 hR (by omega) (br_t rfl k))
theorem po_ywitness0 {post : Int32 → Prop} {v : Int32} (hR : R ≤ 12) (hv : ¬ po_pe R v) (h : post (-2)) : wpY_witness post (nI R, fb, po_m nI S, po_m nI D, po_m nI K) v := by
  unfold wpY_witness
  exact br_f (po_pe_m hv) (po_ym0 hR (po_pe_of (po_pe_m hv) hv) (br_f (by decide) h))
end
end
section
/-! edges -/
section
variable {R : Nat} {fb pt co ro : Int32} {S D K : Nat → Nat} {cf rf fi se : Nat → Int32}
theorem po_xe3S {post : Int32 → Prop} {x : Nat} (hR : R ≤ 12) (hS : ∀ p, S p < 1024) (hx : x < 32) (h1 : po_E S R x = true → post 1) (h0 : po_E S R x = false → post 0) : ∀ k n p : Nat, k < n → p + k = R → (∀ i, i < p → ¬ (S i / 32 = x ∨ S i % 32 + 1 = x)) → wX_isEdge__sourceLow_sourceHigh_3 post (nI x) (nI R) fb pt co ro (po_m po_gL S) (po_m po_gH S) (po_m po_gL D) (po_m po_gH D) (po_m po_gB K) (po_m po_gA K) cf rf fi se n (nI p) := by
  intro k
  induction k with
  | zero =>
    intro n p hn hp hi
    obtain ⟨m, rfl⟩ : ∃ m, n = m + 1 := ⟨n - 1, by omega⟩
    refine br_t (nI_le (by omega) (by omega)) (h0 ?_)
    exact po_any_f.mpr (fun i hi' => decide_eq_false (hi i (by omega)))
  | succ k ih =>
    intro n p hn hp hi
    obtain ⟨m, rfl⟩ : ∃ m, n = m + 1 := ⟨n - 1, by omega⟩
    have i12 := po_i12 (A := nI p) rfl (show p < 12 by omega)
    have hs := hS p
    refine br_f (nI_ge (by omega) (by omega)) (And.intro i12 ?_)
    refine pk_eq (S p / 32) x (fun z => h1 (po_E_t (p := p) (by omega) (Or.inl z))) (fun z => And.intro i12 ?_) (po_mr rfl (by omega)) rfl (by omega) (by omega)
    refine pk_eq (S p % 32 + 1) x (fun z => h1 (po_E_t (p := p) (by omega) (Or.inr z))) (fun z2 => ?_) (by rw [po_mr rfl (by omega)]; exact nI_1 _) rfl (by omega) (by omega)
    refine nm_r (nI_1 p) (ih m (p + 1) (by omega) (by omega) (fun i hi' => ?_))
    by_cases w : i = p
    · rw [w]; omega
    · exact hi i (by omega)
theorem po_xeS {post : Int32 → Prop} {x : Nat} (hR : R ≤ 12) (hS : ∀ p, S p < 1024) (hx : x < 32) (h1 : po_E S R x = true → post 1) (h0 : po_E S R x = false → post 0) : wpX_isEdge__sourceLow_sourceHigh post (nI R, fb, pt, co, ro, po_m po_gL S, po_m po_gH S, po_m po_gL D, po_m po_gH D, po_m po_gB K, po_m po_gA K, cf, rf, fi, se) (nI x) :=
  ⟨R + 1, po_xe3S hR hS hx h1 h0 R (R + 1) 0 (by omega) (by omega) (fun i hi => absurd hi (by omega))⟩
theorem po_xe3D {post : Int32 → Prop} {x : Nat} (hR : R ≤ 12) (hS : ∀ p, D p < 1024) (hx : x < 32) (h1 : po_E D R x = true → post 1) (h0 : po_E D R x = false → post 0) : ∀ k n p : Nat, k < n → p + k = R → (∀ i, i < p → ¬ (D i / 32 = x ∨ D i % 32 + 1 = x)) → wX_isEdge__destLow_destHigh_3 post (nI x) (nI R) fb pt co ro (po_m po_gL S) (po_m po_gH S) (po_m po_gL D) (po_m po_gH D) (po_m po_gB K) (po_m po_gA K) cf rf fi se n (nI p) := by
  intro k
  induction k with
  | zero =>
    intro n p hn hp hi
    obtain ⟨m, rfl⟩ : ∃ m, n = m + 1 := ⟨n - 1, by omega⟩
    refine br_t (nI_le (by omega) (by omega)) (h0 ?_)
    exact po_any_f.mpr (fun i hi' => decide_eq_false (hi i (by omega)))
  | succ k ih =>
    intro n p hn hp hi
    obtain ⟨m, rfl⟩ : ∃ m, n = m + 1 := ⟨n - 1, by omega⟩
    have i12 := po_i12 (A := nI p) rfl (show p < 12 by omega)
    have hs := hS p
    refine br_f (nI_ge (by omega) (by omega)) (And.intro i12 ?_)
    refine pk_eq (D p / 32) x (fun z => h1 (po_E_t (p := p) (by omega) (Or.inl z))) (fun z => And.intro i12 ?_) (po_mr rfl (by omega)) rfl (by omega) (by omega)
    refine pk_eq (D p % 32 + 1) x (fun z => h1 (po_E_t (p := p) (by omega) (Or.inr z))) (fun z2 => ?_) (by rw [po_mr rfl (by omega)]; exact nI_1 _) rfl (by omega) (by omega)
    refine nm_r (nI_1 p) (ih m (p + 1) (by omega) (by omega) (fun i hi' => ?_))
    by_cases w : i = p
    · rw [w]; omega
    · exact hi i (by omega)
theorem po_xeD {post : Int32 → Prop} {x : Nat} (hR : R ≤ 12) (hS : ∀ p, D p < 1024) (hx : x < 32) (h1 : po_E D R x = true → post 1) (h0 : po_E D R x = false → post 0) : wpX_isEdge__destLow_destHigh post (nI R, fb, pt, co, ro, po_m po_gL S, po_m po_gH S, po_m po_gL D, po_m po_gH D, po_m po_gB K, po_m po_gA K, cf, rf, fi, se) (nI x) :=
  ⟨R + 1, po_xe3D hR hS hx h1 h0 R (R + 1) 0 (by omega) (by omega) (fun i hi => absurd hi (by omega))⟩
theorem po_x78 {post : SX → Prop} {J : Int32 → Int32 → Int32 → (Nat → Int32) → (Nat → Int32) → (Nat → Int32) → (Nat → Int32) → (Nat → Int32) → (Nat → Int32) → (Nat → Int32) → (Nat → Int32) → (Nat → Int32) → (Nat → Int32) → Prop} {x W : Nat} (hW : W ≤ 25) (h : J (nI (x + 1)) co (nI (W + 1)) (po_m po_gL S) (po_m po_gH S) (po_m po_gL D) (po_m po_gH D) (po_m po_gB K) (po_m po_gA K) cf (upd rf W (nI x)) fi se) : wX_findEdges_78 post J (nI x) (nI R) fb pt co (nI W) (po_m po_gL S) (po_m po_gH S) (po_m po_gL D) (po_m po_gH D) (po_m po_gB K) (po_m po_gA K) cf rf fi se :=
  And.intro (vp_in_nI (by omega) (by omega)) (nm_r (by rw [nI_clamp (by omega)]) (nm_r (nI_1 W) (nm_r (nI_1 x) h)))
theorem po_x58 {post : SX → Prop} {J : Int32 → Int32 → Int32 → (Nat → Int32) → (Nat → Int32) → (Nat → Int32) → (Nat → Int32) → (Nat → Int32) → (Nat → Int32) → (Nat → Int32) → (Nat → Int32) → (Nat → Int32) → (Nat → Int32) → Prop} {x W : Nat} (hR : R ≤ 12) (hD : ∀ p, D p < 1024) (hx : x < 32) (hW : W ≤ 25) (h1 : (x = 0 ∨ po_E D R x = true) → J (nI (x + 1)) co (nI (W + 1)) (po_m po_gL S) (po_m po_gH S) (po_m po_gL D) (po_m po_gH D) (po_m po_gB K) (po_m po_gA K) cf (upd rf W (nI x)) fi se) (h0 : x ≠ 0 → po_E D R x = false → J (nI (x + 1)) co (nI W) (po_m po_gL S) (po_m po_gH S) (po_m po_gL D) (po_m po_gH D) (po_m po_gB K) (po_m po_gA K) cf rf fi se) : wX_findEdges_58 post J (nI x) (nI R) fb pt co (nI W) (po_m po_gL S) (po_m po_gH S) (po_m po_gL D) (po_m po_gH D) (po_m po_gB K) (po_m po_gA K) cf rf fi se := by
  by_cases z : x = 0
  · exact br_t (by rw [z]; rfl) (po_x78 hW (h1 (Or.inl z)))
  · refine br_f (nI_ne0 (by omega) (by omega)) ?_
    refine po_xeD hR hD hx (fun e => br_f (by decide) (po_x78 hW (h1 (Or.inr e)))) (fun e => br_t rfl ?_)
    exact nm_r (nI_1 x) (h0 z e)
theorem po_x38 {post : SX → Prop} {J : Int32 → Int32 → Int32 → (Nat → Int32) → (Nat → Int32) → (Nat → Int32) → (Nat → Int32) → (Nat → Int32) → (Nat → Int32) → (Nat → Int32) → (Nat → Int32) → (Nat → Int32) → (Nat → Int32) → Prop} {x C : Nat} (hC : C ≤ 25) (h : wX_findEdges_58 post J (nI x) (nI R) fb pt (nI (C + 1)) ro (po_m po_gL S) (po_m po_gH S) (po_m po_gL D) (po_m po_gH D) (po_m po_gB K) (po_m po_gA K) (upd cf C (nI x)) rf fi se) : wX_findEdges_38 post J (nI x) (nI R) fb pt (nI C) ro (po_m po_gL S) (po_m po_gH S) (po_m po_gL D) (po_m po_gH D) (po_m po_gB K) (po_m po_gA K) cf rf fi se :=
  And.intro (vp_in_nI (by omega) (by omega)) (nm_r (by rw [nI_clamp (by omega)]) (nm_r (nI_1 C) h))
end
section
variable {R : Nat} {fb pt : Int32} {S D K : Nat → Nat} {fi se : Nat → Int32}
theorem po_x12 {post : SX → Prop} (hR : R ≤ 12) (hS : ∀ p, S p < 1024) (hD : ∀ p, D p < 1024) (h : ∀ (C W : Nat) (gc gr : Nat → Nat) (cf rf : Nat → Int32), po_G (po_E S R) C gc → po_G (po_E D R) W gr → po_ar cf (C + 1) gc → po_ar rf (W + 1) gr → post (nI R, fb, pt, nI C, nI W, po_m po_gL S, po_m po_gH S, po_m po_gL D, po_m po_gH D, po_m po_gB K, po_m po_gA K, cf, rf, fi, se)) : ∀ (k n x C W : Nat) (gc gr : Nat → Nat) (cf rf : Nat → Int32), k < n → x + k = 32 → po_GP (po_E S R) x C gc → po_GP (po_E D R) x W gr → po_ar cf C gc → po_ar rf W gr → wX_findEdges_12 post (nI R) fb pt n (nI x) (nI C) (nI W) (po_m po_gL S) (po_m po_gH S) (po_m po_gL D) (po_m po_gH D) (po_m po_gB K) (po_m po_gA K) cf rf fi se := by
  intro k
  induction k with
  | zero =>
    intro n x C W gc gr cf rf hn hx g1 g2 a1 a2
    obtain ⟨m, rfl⟩ : ∃ m, n = m + 1 := ⟨n - 1, by omega⟩
    have hx' : x = 32 := by omega
    subst hx'
    have c1 := po_GP_lt hR g1
    have c2 := po_GP_lt hR g2
    refine br_t (nI_le (a := 32) (by omega) (by omega)) ?_
    refine And.intro (vp_in_nI (by omega) (by omega)) (nm_r (e' := upd cf C (nI 32)) (by rw [nI_clamp (by omega)]; rfl) ?_)
    refine And.intro (vp_in_nI (by omega) (by omega)) (nm_r (e' := upd rf W (nI 32)) (by rw [nI_clamp (by omega)]; rfl) ?_)
    exact h C W (po_u gc C 32) (po_u gr W 32) _ _ (po_GP_end hR g1) (po_GP_end hR g2) (po_ar_add a1) (po_ar_add a2)
  | succ k ih =>
    intro n x C W gc gr cf rf hn hx g1 g2 a1 a2
    obtain ⟨m, rfl⟩ : ∃ m, n = m + 1 := ⟨n - 1, by omega⟩
    have c1 := po_GP_lt hR g1
    have c2 := po_GP_lt hR g2
    have key : ∀ (C : Nat) (gc : Nat → Nat) (cf : Nat → Int32), po_GP (po_E S R) (x + 1) C gc → po_ar cf C gc → wX_findEdges_58 post (wX_findEdges_12 post (nI R) fb pt m) (nI x) (nI R) fb pt (nI C) (nI W) (po_m po_gL S) (po_m po_gH S) (po_m po_gL D) (po_m po_gH D) (po_m po_gB K) (po_m po_gA K) cf rf fi se := by
      intro C gc cf g1 a1
      refine po_x58 hR hD (by omega) c2 (fun e => ?_) (fun z e => ?_)
      · exact ih m (x + 1) C (W + 1) gc (po_u gr W x) cf _ (by omega) (by omega) g1 (po_GP_add g2 e) a1 (po_ar_add a2)
      · exact ih m (x + 1) C W gc gr cf rf (by omega) (by omega) g1 (po_GP_skip g2 z e) a1 a2
    have put : (x = 0 ∨ po_E S R x = true) → wX_findEdges_38 post (wX_findEdges_12 post (nI R) fb pt m) (nI x) (nI R) fb pt (nI C) (nI W) (po_m po_gL S) (po_m po_gH S) (po_m po_gL D) (po_m po_gH D) (po_m po_gB K) (po_m po_gA K) cf rf fi se := fun e => po_x38 c1 (key (C + 1) (po_u gc C x) _ (po_GP_add g1 e) (po_ar_add a1))
    refine br_f (nI_ge (b := 32) (by omega) (by omega)) ?_
    by_cases z : x = 0
    · exact br_t (by rw [z]; rfl) (put (Or.inl z))
    · refine br_f (nI_ne0 (by omega) (by omega)) ?_
      exact po_xeS hR hS (by omega) (fun e => br_f (by decide) (put (Or.inr e))) (fun e => br_t rfl (key C gc cf (po_GP_skip g1 z e) a1))
theorem po_xfe {post : SX → Prop} {co ro : Int32} {cf rf : Nat → Int32} (hR : R ≤ 12) (hS : ∀ p, S p < 1024) (hD : ∀ p, D p < 1024) (h : ∀ (C W : Nat) (gc gr : Nat → Nat) (cf rf : Nat → Int32), po_G (po_E S R) C gc → po_G (po_E D R) W gr → po_ar cf (C + 1) gc → po_ar rf (W + 1) gr → post (nI R, fb, pt, nI C, nI W, po_m po_gL S, po_m po_gH S, po_m po_gL D, po_m po_gH D, po_m po_gB K, po_m po_gA K, cf, rf, fi, se)) : wpX_findEdges post (nI R, fb, pt, co, ro, po_m po_gL S, po_m po_gH S, po_m po_gL D, po_m po_gH D, po_m po_gB K, po_m po_gA K, cf, rf, fi, se) :=
  ⟨33, po_x12 hR hS hD h 32 33 0 0 0 (fun _ => 0) (fun _ => 0) cf rf (by omega) (by omega) (po_GP_0 _ _) (po_GP_0 _ _) po_ar_0 po_ar_0⟩
end
/-! painting -/
theorem po_bit {n t : Nat} (h : t < 4) : n % 16 / 2 ^ t % 2 = n / 2 ^ t % 2 := by
  have h1 : t = 0 ∨ t = 1 ∨ t = 2 ∨ t = 3 := by omega
  rcases h1 with rfl | rfl | rfl | rfl <;> omega
theorem po_bx {K : Nat → Nat} {p k : Nat} (hp : p < 12) (hK : K p < 64) (hk : k < 2 ^ 31) : ((((po_m po_gB K (nI p).toNatClampNeg).toUInt32 >>> ((nI k &&& 3).toUInt32 &&& Int32.toUInt32 31)).toInt32) &&& 1) = nI (K p / 2 ^ (k % 4) % 2) := by
  have e3 : nI k &&& 3 = nI (k % 4) := pk_andN (by omega) 2 (by decide)
  have e1 : po_m po_gB K (nI p).toNatClampNeg = nI (K p % 16) := po_mr rfl hp
  rw [e1, e3, pk_ushrN (by omega) _ (k % 4) (s_u _ (by omega))]
  have h2 : K p % 16 / 2 ^ (k % 4) ≤ K p % 16 := Nat.div_le_self _ _
  rw [← po_bit (n := K p) (t := k % 4) (by omega)]
  exact pk_andN (by omega) 1 (by decide)
section
variable {R C W : Nat} {fb pt : Int32} {S D K gc gr : Nat → Nat} {cf rf : Nat → Int32}
theorem po_x49 {post : SX → Prop} {J : Int32 → (Nat → Int32) → (Nat → Int32) → (Nat → Int32) → (Nat → Int32) → (Nat → Int32) → (Nat → Int32) → (Nat → Int32) → (Nat → Int32) → (Nat → Int32) → (Nat → Int32) → Prop} {p c k : Nat} {fi se : Nat → Int32} (hR : R ≤ 12) (hp : p < R) (hC : C ≤ 26) (hW : W ≤ 26) (hc : c < C) (hk : k < 4 * W) (hK : K p < 64) (hb : po_PB R S D K C W gc gr p (104 * c + k) fi se) (hi : S p / 32 ≤ gc c ∧ gc c ≤ S p % 32 ∧ D p / 32 ≤ gr (k / 4) ∧ gr (k / 4) ≤ D p % 32) (h : ∀ fi se, po_PB R S D K C W gc gr p (104 * c + k + 1) fi se → J (nI (k + 1)) (po_m po_gL S) (po_m po_gH S) (po_m po_gL D) (po_m po_gH D) (po_m po_gB K) (po_m po_gA K) cf rf fi se) : wX_paintColumn_49 post J (nI p) (nI c) (nI k) 1 (nI R) fb pt (nI C) (nI W) (po_m po_gL S) (po_m po_gH S) (po_m po_gL D) (po_m po_gH D) (po_m po_gB K) (po_m po_gA K) cf rf fi se := by
  refine br_f (by decide) (And.intro (po_i12 rfl (by omega)) ?_)
  refine pk_eq (K p / 2 ^ (k % 4) % 2) 0 (fun z => ?_) (fun z => ?_) (po_bx (by omega) hK (by omega)) rfl (by omega) (by omega)
  · refine nm_r (nI_1 k) (h fi se (po_PB_skip hp hb (fun c' k' hc' hk' h1 h2 => ?_) (by omega)))
    have e1 : c' = c := by omega
    have e2 : k' = k := by omega
    rw [e1, e2]
    exact po_M_f.mpr (fun w => by omega)
  · have e : 104 * nI c + nI k = nI (104 * c + k) := by
      rw [show (104 : Int32) * nI c = nI (104 * c) from pk_mul 104 c, nI_add]
    have hM : po_M S D K (gc c) (gr (k / 4)) (k % 4) p = true := po_M_iff.mpr ⟨hi.1, hi.2.1, hi.2.2.1, hi.2.2.2, by omega⟩
    have iv : vp_in (nI (104 * c + k)) 2704 := vp_in_nI (by omega) (by omega)
    have hf := ((hb c k hc hk).2 (by omega)).1
    have hle := po_F_le (po_M S D K (gc c) (gr (k / 4)) (k % 4)) (R - (p + 1)) (p + 1)
    have e1 : upd se (nI (104 * c + k)).toNatClampNeg (vp_nar .byte (fi (nI (104 * c + k)).toNatClampNeg)) = upd se (104 * c + k) (fi (104 * c + k)) := by
      rw [nI_clamp (by omega), hf, po_nb _ (by omega)]
    have e2 : upd fi (nI (104 * c + k)).toNatClampNeg (vp_nar .byte (nI p).toInt8.toInt32) = upd fi (104 * c + k) (nI p) := by
      rw [nI_clamp (by omega), po_nbp (by omega)]
    refine nm_r e (And.intro iv (And.intro iv (nm_r e1 (And.intro iv (nm_r e2 (nm_r (nI_1 k) ?_))))))
    exact h _ _ (po_PB_put hW hp hb hc hk hM)
theorem po_x48 {post : SX → Prop} {J : Int32 → (Nat → Int32) → (Nat → Int32) → (Nat → Int32) → (Nat → Int32) → (Nat → Int32) → (Nat → Int32) → (Nat → Int32) → (Nat → Int32) → (Nat → Int32) → (Nat → Int32) → Prop} {p c k : Nat} {fi se : Nat → Int32} (hp : p < R) (hW : W ≤ 26) (hk : k < 4 * W) (hb : po_PB R S D K C W gc gr p (104 * c + k) fi se) (hi : ¬ (D p / 32 ≤ gr (k / 4) ∧ gr (k / 4) ≤ D p % 32)) (h : ∀ fi se, po_PB R S D K C W gc gr p (104 * c + k + 1) fi se → J (nI (k + 1)) (po_m po_gL S) (po_m po_gH S) (po_m po_gL D) (po_m po_gH D) (po_m po_gB K) (po_m po_gA K) cf rf fi se) : wX_paintColumn_48 post J (nI p) (nI c) (nI k) (nI R) fb pt (nI C) (nI W) (po_m po_gL S) (po_m po_gH S) (po_m po_gL D) (po_m po_gH D) (po_m po_gB K) (po_m po_gA K) cf rf fi se := by
  refine br_t rfl (nm_r (nI_1 k) (h fi se (po_PB_skip hp hb (fun c' k' hc' hk' h1 h2 => ?_) (by omega))))
  have e1 : c' = c := by omega
  have e2 : k' = k := by omega
  rw [e1, e2]
  exact po_M_f.mpr (fun w => hi ⟨w.2.2.1, w.2.2.2.1⟩)
theorem po_xpc {post : SX → Prop} {p c : Nat} (hR : R ≤ 12) (hp : p < R) (hC : C ≤ 26) (hc : c < C) (hD : D p < 1024) (hK : K p < 64) (hG : po_G (po_E D R) W gr) (ha : po_ar rf (W + 1) gr) (hi : S p / 32 ≤ gc c ∧ gc c ≤ S p % 32) (h : ∀ fi se, po_PB R S D K C W gc gr p (104 * c + 4 * W) fi se → post (nI R, fb, pt, nI C, nI W, po_m po_gL S, po_m po_gH S, po_m po_gL D, po_m po_gH D, po_m po_gB K, po_m po_gA K, cf, rf, fi, se)) : ∀ (j n k : Nat) (fi se : Nat → Int32), j < n → k + j = 4 * W → po_PB R S D K C W gc gr p (104 * c + k) fi se → wX_paintColumn_2 post (nI p) (nI c) (nI R) fb pt (nI C) (nI W) n (nI k) (po_m po_gL S) (po_m po_gH S) (po_m po_gL D) (po_m po_gH D) (po_m po_gB K) (po_m po_gA K) cf rf fi se := by
  intro j
  have hW := hG.2.1
  have e4 : (4 : Int32) * nI W = nI (4 * W) := pk_mul 4 W
  induction j with
  | zero =>
    intro n k fi se hn hk hb
    obtain ⟨m, rfl⟩ : ∃ m, n = m + 1 := ⟨n - 1, by omega⟩
    have hk' : k = 4 * W := by omega
    subst hk'
    exact br_t (by rw [e4]; exact nI_le (by omega) (by omega)) (h fi se hb)
  | succ j ih =>
    intro n k fi se hn hk hb
    obtain ⟨m, rfl⟩ : ∃ m, n = m + 1 := ⟨n - 1, by omega⟩
    have er : nI k >>> ((2 : Int32) &&& 31) = nI (k / 4) := pk_shrN (by omega) _ 2 (by decide)
    have ev : rf (nI k >>> ((2 : Int32) &&& 31)).toNatClampNeg = nI (gr (k / 4)) := by
      rw [er, nI_clamp (by omega)]; exact ha _ (by omega)
    have iv : vp_in (nI k >>> ((2 : Int32) &&& 31)) 27 := by rw [er]; exact vp_in_nI (by omega) (by omega)
    have i12 := po_i12 (A := nI p) rfl (show p < 12 by omega)
    have hg := po_G_lt hG (i := k / 4) (by omega)
    have nx : ∀ fi se, po_PB R S D K C W gc gr p (104 * c + k + 1) fi se → wX_paintColumn_2 post (nI p) (nI c) (nI R) fb pt (nI C) (nI W) m (nI (k + 1)) (po_m po_gL S) (po_m po_gH S) (po_m po_gL D) (po_m po_gH D) (po_m po_gB K) (po_m po_gA K) cf rf fi se := fun fi se hb' => ih m (k + 1) fi se (by omega) (by omega) hb'
    refine br_f (by rw [e4]; exact nI_ge (by omega) (by omega)) (And.intro iv (nm_r ev (And.intro i12 ?_)))
    refine pk_lt (gr (k / 4)) (D p / 32) (fun z => po_x48 hp hW (by omega) hb (by omega) nx) (fun z1 => And.intro i12 ?_) rfl (po_mr rfl (by omega)) (by omega) (by omega)
    refine pk_lt (D p % 32) (gr (k / 4)) (fun z => po_x48 hp hW (by omega) hb (by omega) nx) (fun z2 => ?_) (po_mr rfl (by omega)) rfl (by omega) (by omega)
    exact po_x49 hR hp hC hW hc (by omega) hK hb ⟨hi.1, hi.2, z1, z2⟩ nx
theorem po_xpr {post : SX → Prop} {p : Nat} (hR : R ≤ 12) (hp : p < R) (hS : S p < 1024) (hD : D p < 1024) (hK : K p < 64) (hG : po_G (po_E S R) C gc) (hG' : po_G (po_E D R) W gr) (ha : po_ar cf (C + 1) gc) (ha' : po_ar rf (W + 1) gr) (h : ∀ fi se, po_PD R S D K C W gc gr p fi se → post (nI R, fb, pt, nI C, nI W, po_m po_gL S, po_m po_gH S, po_m po_gL D, po_m po_gH D, po_m po_gB K, po_m po_gA K, cf, rf, fi, se)) : ∀ (j n c : Nat) (fi se : Nat → Int32), j < n → c + j = C → po_PB R S D K C W gc gr p (104 * c) fi se → wX_paintRule_2 post (nI p) n (nI c) (nI R) fb pt (nI C) (nI W) (po_m po_gL S) (po_m po_gH S) (po_m po_gL D) (po_m po_gH D) (po_m po_gB K) (po_m po_gA K) cf rf fi se := by
  intro j
  have hW := hG'.2.1
  have hC := hG.2.1
  induction j with
  | zero =>
    intro n c fi se hn hc hb
    obtain ⟨m, rfl⟩ : ∃ m, n = m + 1 := ⟨n - 1, by omega⟩
    have hc' : c = C := by omega
    subst hc'
    exact br_t (nI_le (by omega) (by omega)) (h fi se (po_PB_e hW hb))
  | succ j ih =>
    intro n c fi se hn hc hb
    obtain ⟨m, rfl⟩ : ∃ m, n = m + 1 := ⟨n - 1, by omega⟩
    have ev : cf (nI c).toNatClampNeg = nI (gc c) := by
      rw [nI_clamp (by omega)]; exact ha _ (by omega)
    have iv : vp_in (nI c) 27 := vp_in_nI (by omega) (by omega)
    have i12 := po_i12 (A := nI p) rfl (show p < 12 by omega)
    have hg := po_G_lt hG (i := c) (by omega)
    have sk : ¬ (S p / 32 ≤ gc c ∧ gc c ≤ S p % 32) → ∀ x, x = nI c + 1 → wX_paintRule_2 post (nI p) m x (nI R) fb pt (nI C) (nI W) (po_m po_gL S) (po_m po_gH S) (po_m po_gL D) (po_m po_gH D) (po_m po_gB K) (po_m po_gA K) cf rf fi se := by
      intro z
      refine nm_r (nI_1 c) (ih m (c + 1) fi se (by omega) (by omega) (po_PB_skip hp hb (fun c' k' hc' hk' h1 h2 => ?_) (by omega)))
      have e1 : c' = c := by omega
      rw [e1]
      exact po_M_f.mpr (fun w => z ⟨w.1, w.2.1⟩)
    refine br_f (nI_ge (by omega) (by omega)) (And.intro i12 (And.intro iv ?_))
    refine pk_lt (gc c) (S p / 32) (fun z => sk (by omega)) (fun z1 => And.intro iv (And.intro i12 ?_)) ev (po_mr rfl (by omega)) (by omega) (by omega)
    refine pk_lt (S p % 32) (gc c) (fun z => sk (by omega)) (fun z2 => ?_) (po_mr rfl (by omega)) ev (by omega) (by omega)
    refine ⟨4 * W + 1, po_xpc hR hp hC (by omega) hD hK hG' ha' ⟨z1, z2⟩ (fun fi se hb' => ?_) (4 * W) (4 * W + 1) 0 fi se (by omega) (by omega) hb⟩
    exact nm_r (nI_1 c) (ih m (c + 1) fi se (by omega) (by omega) (po_PB_skip hp hb' (fun c' k' hc' hk' h1 h2 => absurd h2 (by omega)) (by omega)))
theorem po_x53 {post : SX → Prop} (hR : R ≤ 12) (hS : ∀ p, S p < 1024) (hD : ∀ p, D p < 1024) (hK : ∀ p, K p < 64) (hG : po_G (po_E S R) C gc) (hG' : po_G (po_E D R) W gr) (ha : po_ar cf (C + 1) gc) (ha' : po_ar rf (W + 1) gr) (h : ∀ fi se, po_PD R S D K C W gc gr 0 fi se → post (nI R, fb, pt, nI C, nI W, po_m po_gL S, po_m po_gH S, po_m po_gL D, po_m po_gH D, po_m po_gB K, po_m po_gA K, cf, rf, fi, se)) : ∀ (p n : Nat) (fi se : Nat → Int32), p < n → p ≤ R → po_PD R S D K C W gc gr p fi se → wX_paint_53 post n (po_e p) (nI R) fb pt (nI C) (nI W) (po_m po_gL S) (po_m po_gH S) (po_m po_gL D) (po_m po_gH D) (po_m po_gB K) (po_m po_gA K) cf rf fi se := by
  intro p
  induction p with
  | zero =>
    intro n fi se hn hp hd
    obtain ⟨m, rfl⟩ : ∃ m, n = m + 1 := ⟨n - 1, by omega⟩
    exact br_t (by decide) (h fi se hd)
  | succ p ih =>
    intro n fi se hn hp hd
    obtain ⟨m, rfl⟩ : ∃ m, n = m + 1 := ⟨n - 1, by omega⟩
    refine br_f (nI_pos (n := p) (by omega)) ?_
    refine ⟨C + 1, po_xpr hR (by omega) (hS p) (hD p) (hK p) hG hG' ha ha' (fun fi se hd' => ?_) C (C + 1) 0 fi se (by omega) (by omega) (po_PB_0 hd)⟩
    have e : po_e (p + 1) + (-1) = po_e p := by
      cases p with
      | zero => rfl
      | succ p => exact pk_m1 p
    exact nm_r e (ih m fi se (by omega) (by omega) hd')
theorem po_x19 {post : SX → Prop} {co ro : Int32} (h : ∀ fi se : Nat → Int32, (∀ j, j < 2704 → fi j = -1 ∧ se j = -1) → ∃ n53, wX_paint_53 post n53 (po_e R) (nI R) fb pt co ro (po_m po_gL S) (po_m po_gH S) (po_m po_gL D) (po_m po_gH D) (po_m po_gB K) (po_m po_gA K) cf rf fi se) : ∀ (k n f : Nat) (fi se : Nat → Int32), k < n → f + k = 2704 → (∀ j, j < f → fi j = -1 ∧ se j = -1) → wX_paint_19 post (nI R) fb pt co ro n (nI f) (po_m po_gL S) (po_m po_gH S) (po_m po_gL D) (po_m po_gH D) (po_m po_gB K) (po_m po_gA K) cf rf fi se := by
  intro k
  induction k with
  | zero =>
    intro n f fi se hn hf hj
    obtain ⟨m, rfl⟩ : ∃ m, n = m + 1 := ⟨n - 1, by omega⟩
    have hf' : f = 2704 := by omega
    subst hf'
    have e : nI R - 1 = po_e R := by
      cases R with
      | zero => rfl
      | succ R => exact nI_pred R
    exact br_t (nI_le (a := 2704) (by omega) (by omega)) (nm_r e (h fi se hj))
  | succ k ih =>
    intro n f fi se hn hf hj
    obtain ⟨m, rfl⟩ : ∃ m, n = m + 1 := ⟨n - 1, by omega⟩
    have iv : vp_in (nI f) 2704 := vp_in_nI (by omega) (by omega)
    have eu : ∀ a : Nat → Int32, upd a (nI f).toNatClampNeg (vp_nar .byte (-1)) = upd a f (-1) := by
      intro a
      rw [nI_clamp (by omega), po_nbm]
    refine br_f (nI_ge (b := 2704) (by omega) (by omega)) ?_
    refine And.intro iv (nm_r (eu fi) (And.intro iv (nm_r (eu se) (nm_r (nI_1 f) (ih m (f + 1) _ _ (by omega) (by omega) (fun j hj' => ?_))))))
    by_cases z : j = f
    · rw [z, pk_us, pk_us]; exact ⟨rfl, rfl⟩
    · rw [pk_un z, pk_un z]; exact hj j (by omega)
end
/-- the painted board -/
def po_PT (R : Nat) (S D K : Nat → Nat) (co ro : Int32) (cf rf fi se : Nat → Int32) : Prop :=
  ∃ (C W : Nat) (gc gr : Nat → Nat), co = nI C ∧ ro = nI W ∧ po_G (po_E S R) C gc ∧ po_G (po_E D R) W gr ∧ po_ar cf (C + 1) gc ∧ po_ar rf (W + 1) gr ∧ po_PD R S D K C W gc gr 0 fi se
/-- what is known of the bounds -/
def po_ok (R : Nat) (S D K : Nat → Nat) : Prop := R ≤ 12 ∧ (∀ p, S p < 1024) ∧ (∀ p, D p < 1024) ∧ (∀ p, K p < 64)
section
variable {R : Nat} {fb pt co ro : Int32} {S D K : Nat → Nat} {cf rf fi se : Nat → Int32}
theorem po_xpaint {post : SX → Prop} (hok : po_ok R S D K) (hp : pt = 0 ∨ po_PT R S D K co ro cf rf fi se) (h : ∀ (pt : Int32) (C W : Nat) (gc gr : Nat → Nat) (cf rf fi se : Nat → Int32), po_G (po_E S R) C gc → po_G (po_E D R) W gr → po_ar cf (C + 1) gc → po_ar rf (W + 1) gr → po_PD R S D K C W gc gr 0 fi se → post (nI R, fb, pt, nI C, nI W, po_m po_gL S, po_m po_gH S, po_m po_gL D, po_m po_gH D, po_m po_gB K, po_m po_gA K, cf, rf, fi, se)) : wpX_paint post (nI R, fb, pt, co, ro, po_m po_gL S, po_m po_gH S, po_m po_gL D, po_m po_gH D, po_m po_gB K, po_m po_gA K, cf, rf, fi, se) := by
  obtain ⟨hR, hS, hD, hK⟩ := hok
  by_cases z : pt = 0
  · refine br_t z (po_xfe hR hS hD (fun C W gc gr cf rf g1 g2 a1 a2 => ?_))
    refine ⟨2705, po_x19 (fun fi se hm => ?_) 2704 2705 0 fi se (by omega) (by omega) (fun j hj => absurd hj (by omega))⟩
    exact ⟨R + 1, po_x53 hR hS hD hK g1 g2 a1 a2 (fun fi se hd => h 1 C W gc gr cf rf fi se g1 g2 a1 a2 hd) R (R + 1) fi se (by omega) (by omega) (po_PD_R hm g1.2.1 g2.2.1)⟩
  · rcases hp with hp | ⟨C, W, gc, gr, rfl, rfl, g1, g2, a1, a2, hd⟩
    · exact absurd hp z
    · exact br_f z (h pt C W gc gr cf rf fi se g1 g2 a1 a2 hd)
end
end
section
/-! the component's questions over a painted board -/
section
variable {R C W : Nat} {fb pt : Int32} {S D K gc gr : Nat → Nat} {cf rf fi se : Nat → Int32}
theorem po_xi_columnFrom {post : Int32 → Prop} {x : Nat} (hx : x < 32) (hG : po_G (po_E S R) C gc) (ha : po_ar cf (C + 1) gc) (h : ∀ c, c < C → gc c ≤ x → x < gc (c + 1) → post (nI c)) : ∀ (i n lo hi : Nat), i < n → i ≤ 5 → lo ≤ hi → hi < C → hi < lo + 2 ^ i → gc lo ≤ x → x < gc (hi + 1) → wX_intervalOf__columnFrom_10 post (nI x) (nI R) fb pt (nI C) (nI W) (po_m po_gL S) (po_m po_gH S) (po_m po_gL D) (po_m po_gH D) (po_m po_gB K) (po_m po_gA K) cf rf fi se n (nI lo) (nI hi) (nI (5 - i)) := by
  intro i
  have hC := hG.2.1
  induction i with
  | zero =>
    intro n lo hi hn _ h1 h2 h3 h4 h5
    obtain ⟨m, rfl⟩ : ∃ m, n = m + 1 := ⟨n - 1, by omega⟩
    have e : hi = lo := by omega
    subst e
    exact br_f (nI_ge (b := 6) (by omega) (by omega)) (br_t (nI_le (by omega) (by omega)) (h hi h2 h4 h5))
  | succ i ih =>
    intro n lo hi hn hi5 h1 h2 h3 h4 h5
    obtain ⟨m, rfl⟩ : ∃ m, n = m + 1 := ⟨n - 1, by omega⟩
    refine br_f (nI_ge (b := 6) (by omega) (by omega)) ?_
    refine pk_le hi lo (fun z => ?_) (fun z => ?_) rfl rfl (by omega) (by omega)
    · have e : hi = lo := by omega
      subst e
      exact h hi h2 h4 h5
    · have e : (nI lo + nI hi + 1) / 2 = nI ((lo + hi + 1) / 2) := by
        rw [nI_add, nI_1]; exact pk_div (d := 2) (by omega) (by omega) (by omega)
      have hs : 2 ^ (i + 1) = 2 * 2 ^ i := by rw [Nat.pow_succ]; omega
      have hm1 : (lo + hi + 1) / 2 ≤ hi := by omega
      have hm2 : lo < (lo + hi + 1) / 2 := by omega
      have hm3 : hi < (lo + hi + 1) / 2 + 2 ^ i := by omega
      have hm4 : (lo + hi + 1) / 2 - 1 < lo + 2 ^ i := by omega
      generalize (lo + hi + 1) / 2 = mid at e hm1 hm2 hm3 hm4
      have ev : cf (nI mid).toNatClampNeg = nI (gc mid) := by
        rw [nI_clamp (by omega)]; exact ha _ (by omega)
      have hg := po_G_le hG (i := mid) (by omega)
      have e5 : nI (5 - (i + 1)) + 1 = nI (5 - i) := by
        rw [nI_1]; exact congrArg nI (by omega)
      refine And.intro (by decide) (nm_r e (And.intro (vp_in_nI (by omega) (by omega)) ?_))
      refine pk_lt x (gc mid) (fun w => ?_) (fun w => ?_) rfl ev (by omega) (by omega)
      · have em : nI mid - 1 = nI (mid - 1) := pk_sub (b := 1) (by omega)
        have e6 : mid - 1 + 1 = mid := by omega
        exact nm_r em (nm_r e5 (ih m lo (mid - 1) (by omega) (by omega) (by omega) (by omega) hm4 h4 (by rw [e6]; exact w)))
      · exact nm_r e5 (ih m mid hi (by omega) (by omega) hm1 h2 hm3 w h5)
theorem po_xiv_columnFrom {post : Int32 → Prop} {x : Nat} (hx : x < 32) (hG : po_G (po_E S R) C gc) (ha : po_ar cf (C + 1) gc) (h : ∀ c, c < C → gc c ≤ x → x < gc (c + 1) → post (nI c)) : wpX_intervalOf__columnFrom post (nI R, fb, pt, nI C, nI W, po_m po_gL S, po_m po_gH S, po_m po_gL D, po_m po_gH D, po_m po_gB K, po_m po_gA K, cf, rf, fi, se) (nI C) (nI x) := by
  have h1 := hG.1
  have h2 := hG.2.1
  have h3 := hG.2.2.1
  have h4 := hG.2.2.2.1
  have e : nI C - 1 = nI (C - 1) := pk_sub (b := 1) h1
  have e2 : C - 1 + 1 = C := by omega
  exact nm_r e ⟨6, po_xi_columnFrom hx hG ha h 5 6 0 (C - 1) (by omega) (by omega) (by omega) (by omega) (by omega) (by omega) (by rw [e2]; omega)⟩
theorem po_xi_rowFrom {post : Int32 → Prop} {x : Nat} (hx : x < 32) (hG : po_G (po_E D R) W gr) (ha : po_ar rf (W + 1) gr) (h : ∀ c, c < W → gr c ≤ x → x < gr (c + 1) → post (nI c)) : ∀ (i n lo hi : Nat), i < n → i ≤ 5 → lo ≤ hi → hi < W → hi < lo + 2 ^ i → gr lo ≤ x → x < gr (hi + 1) → wX_intervalOf__rowFrom_10 post (nI x) (nI R) fb pt (nI C) (nI W) (po_m po_gL S) (po_m po_gH S) (po_m po_gL D) (po_m po_gH D) (po_m po_gB K) (po_m po_gA K) cf rf fi se n (nI lo) (nI hi) (nI (5 - i)) := by
  intro i
  have hC := hG.2.1
  induction i with
  | zero =>
    intro n lo hi hn _ h1 h2 h3 h4 h5
    obtain ⟨m, rfl⟩ : ∃ m, n = m + 1 := ⟨n - 1, by omega⟩
    have e : hi = lo := by omega
    subst e
    exact br_f (nI_ge (b := 6) (by omega) (by omega)) (br_t (nI_le (by omega) (by omega)) (h hi h2 h4 h5))
  | succ i ih =>
    intro n lo hi hn hi5 h1 h2 h3 h4 h5
    obtain ⟨m, rfl⟩ : ∃ m, n = m + 1 := ⟨n - 1, by omega⟩
    refine br_f (nI_ge (b := 6) (by omega) (by omega)) ?_
    refine pk_le hi lo (fun z => ?_) (fun z => ?_) rfl rfl (by omega) (by omega)
    · have e : hi = lo := by omega
      subst e
      exact h hi h2 h4 h5
    · have e : (nI lo + nI hi + 1) / 2 = nI ((lo + hi + 1) / 2) := by
        rw [nI_add, nI_1]; exact pk_div (d := 2) (by omega) (by omega) (by omega)
      have hs : 2 ^ (i + 1) = 2 * 2 ^ i := by rw [Nat.pow_succ]; omega
      have hm1 : (lo + hi + 1) / 2 ≤ hi := by omega
      have hm2 : lo < (lo + hi + 1) / 2 := by omega
      have hm3 : hi < (lo + hi + 1) / 2 + 2 ^ i := by omega
      have hm4 : (lo + hi + 1) / 2 - 1 < lo + 2 ^ i := by omega
      generalize (lo + hi + 1) / 2 = mid at e hm1 hm2 hm3 hm4
      have ev : rf (nI mid).toNatClampNeg = nI (gr mid) := by
        rw [nI_clamp (by omega)]; exact ha _ (by omega)
      have hg := po_G_le hG (i := mid) (by omega)
      have e5 : nI (5 - (i + 1)) + 1 = nI (5 - i) := by
        rw [nI_1]; exact congrArg nI (by omega)
      refine And.intro (by decide) (nm_r e (And.intro (vp_in_nI (by omega) (by omega)) ?_))
      refine pk_lt x (gr mid) (fun w => ?_) (fun w => ?_) rfl ev (by omega) (by omega)
      · have em : nI mid - 1 = nI (mid - 1) := pk_sub (b := 1) (by omega)
        have e6 : mid - 1 + 1 = mid := by omega
        exact nm_r em (nm_r e5 (ih m lo (mid - 1) (by omega) (by omega) (by omega) (by omega) hm4 h4 (by rw [e6]; exact w)))
      · exact nm_r e5 (ih m mid hi (by omega) (by omega) hm1 h2 hm3 w h5)
theorem po_xiv_rowFrom {post : Int32 → Prop} {x : Nat} (hx : x < 32) (hG : po_G (po_E D R) W gr) (ha : po_ar rf (W + 1) gr) (h : ∀ c, c < W → gr c ≤ x → x < gr (c + 1) → post (nI c)) : wpX_intervalOf__rowFrom post (nI R, fb, pt, nI C, nI W, po_m po_gL S, po_m po_gH S, po_m po_gL D, po_m po_gH D, po_m po_gB K, po_m po_gA K, cf, rf, fi, se) (nI W) (nI x) := by
  have h1 := hG.1
  have h2 := hG.2.1
  have h3 := hG.2.2.1
  have h4 := hG.2.2.2.1
  have e : nI W - 1 = nI (W - 1) := pk_sub (b := 1) h1
  have e2 : W - 1 + 1 = W := by omega
  exact nm_r e ⟨6, po_xi_rowFrom hx hG ha h 5 6 0 (W - 1) (by omega) (by omega) (by omega) (by omega) (by omega) (by omega) (by rw [e2]; omega)⟩
theorem po_fi (hd : po_PD R S D K C W gc gr 0 fi se) {c r t : Nat} (hc : c < C) (hr : r < W) (ht : t < 4) : fi (104 * c + 4 * r + t) = po_e (po_fst S D K R (gc c) (gr r) t) := by
  have h := (hd c (4 * r + t) hc (by omega)).1
  rw [show (4 * r + t) / 4 = r by omega, show (4 * r + t) % 4 = t by omega, ← Nat.add_assoc] at h
  exact h
theorem po_fk (hd : po_PD R S D K C W gc gr 0 fi se) {c k : Nat} (hc : c < C) (hk : k < 4 * W) : fi (104 * c + k) = po_e (po_fst S D K R (gc c) (gr (k / 4)) (k % 4)) ∧ se (104 * c + k) = po_e (po_snd S D K R (gc c) (gr (k / 4)) (k % 4)) := hd c k hc hk
theorem po_ix (c r t : Nat) : 104 * nI c + 4 * nI r + nI t = nI (104 * c + 4 * r + t) := by
  rw [show (104 : Int32) * nI c = nI (104 * c) from pk_mul 104 c, show (4 : Int32) * nI r = nI (4 * r) from pk_mul 4 r, nI_add, nI_add]
theorem po_ik (c k : Nat) : 104 * nI c + nI k = nI (104 * c + k) := by
  rw [show (104 : Int32) * nI c = nI (104 * c) from pk_mul 104 c, nI_add]
/-! fieldsOf, packetsOf -/
def po_fc (S D K : Nat → Nat) (R x s d : Nat) : Nat := po_sm (fun t => if po_fst S D K R s d t = x then 1 else 0) 4
theorem po_xf6 {post : Int32 → Prop} {c r x : Nat} (hR : R ≤ 12) (hC : C ≤ 26) (hW : W ≤ 26) (hd : po_PD R S D K C W gc gr 0 fi se) (hc : c < C) (hr : r < W) (hx : x ≤ R) (h : post (nI (po_fc S D K R x (gc c) (gr r)))) : ∀ k n t : Nat, k < n → t + k = 4 → wX_fieldsOf_6 post (nI c) (nI r) (po_e x) (nI R) fb pt (nI C) (nI W) (po_m po_gL S) (po_m po_gH S) (po_m po_gL D) (po_m po_gH D) (po_m po_gB K) (po_m po_gA K) cf rf fi se n (nI (po_sm (fun t => if po_fst S D K R (gc c) (gr r) t = x then 1 else 0) t)) (nI t) := by
  intro k
  induction k with
  | zero =>
    intro n t hn ht
    obtain ⟨m, rfl⟩ : ∃ m, n = m + 1 := ⟨n - 1, by omega⟩
    have ht' : t = 4 := by omega
    subst ht'
    exact br_t (nI_le (a := 4) (by omega) (by omega)) h
  | succ k ih =>
    intro n t hn ht
    obtain ⟨m, rfl⟩ : ∃ m, n = m + 1 := ⟨n - 1, by omega⟩
    have e := po_ix c r t
    have hf : fi (104 * nI c + 4 * nI r + nI t).toNatClampNeg = po_e (po_fst S D K R (gc c) (gr r) t) := by
      rw [e, nI_clamp (by omega)]; exact po_fi hd hc hr (by omega)
    have k1 := po_fst_le S D K R (gc c) (gr r) t
    have k2 := ih m (t + 1) (by omega) (by omega)
    rw [po_sm_s] at k2
    refine br_f (nI_ge (b := 4) (by omega) (by omega)) (And.intro (by rw [e]; exact vp_in_nI (by omega) (by omega)) ?_)
    by_cases z : po_fst S D K R (gc c) (gr r) t = x
    · rw [if_pos z] at k2
      exact br_t (by rw [hf, z]) (nm_r (nI_1 _) (nm_r (nI_1 t) k2))
    · rw [if_neg z] at k2
      refine br_f (fun w => z ((po_e_eq (by omega) (by omega)).mp (hf.symm.trans w))) (nm_r (Int32.add_zero _) (nm_r (nI_1 t) k2))
theorem po_xfo {post : Int32 → Prop} {c r x : Nat} (hR : R ≤ 12) (hC : C ≤ 26) (hW : W ≤ 26) (hd : po_PD R S D K C W gc gr 0 fi se) (hc : c < C) (hr : r < W) (hx : x ≤ R) (h : post (nI (po_fc S D K R x (gc c) (gr r)))) : wpX_fieldsOf post (nI R, fb, pt, nI C, nI W, po_m po_gL S, po_m po_gH S, po_m po_gL D, po_m po_gH D, po_m po_gB K, po_m po_gA K, cf, rf, fi, se) (nI c) (nI r) (po_e x) :=
  ⟨5, po_xf6 hR hC hW hd hc hr hx h 4 5 0 (by omega) (by omega)⟩
theorem po_xpk {post : Int32 → Prop} {c r : Nat} (hG : po_G (po_E S R) C gc) (hG' : po_G (po_E D R) W gr) (ha : po_ar cf (C + 1) gc) (ha' : po_ar rf (W + 1) gr) (hc : c < C) (hr : r < W) (h : post (nI ((gc (c + 1) - gc c) * (gr (r + 1) - gr r)))) : wpX_packetsOf post (nI R, fb, pt, nI C, nI W, po_m po_gL S, po_m po_gH S, po_m po_gL D, po_m po_gH D, po_m po_gB K, po_m po_gA K, cf, rf, fi, se) (nI c) (nI r) := by
  have hC := hG.2.1
  have hW := hG'.2.1
  have l1 := hG.2.2.2.2.1 c hc
  have l2 := hG'.2.2.2.2.1 r hr
  have e1 : cf (nI c + 1).toNatClampNeg = nI (gc (c + 1)) := by rw [nI_1, nI_clamp (by omega)]; exact ha _ (by omega)
  have e2 : cf (nI c).toNatClampNeg = nI (gc c) := by rw [nI_clamp (by omega)]; exact ha _ (by omega)
  have e3 : rf (nI r + 1).toNatClampNeg = nI (gr (r + 1)) := by rw [nI_1, nI_clamp (by omega)]; exact ha' _ (by omega)
  have e4 : rf (nI r).toNatClampNeg = nI (gr r) := by rw [nI_clamp (by omega)]; exact ha' _ (by omega)
  refine And.intro (by rw [nI_1]; exact vp_in_nI (by omega) (by omega)) (And.intro (vp_in_nI (by omega) (by omega)) (And.intro (by rw [nI_1]; exact vp_in_nI (by omega) (by omega)) (And.intro (vp_in_nI (by omega) (by omega)) ?_)))
  show post ((cf (nI c + 1).toNatClampNeg - cf (nI c).toNatClampNeg) * (rf (nI r + 1).toNatClampNeg - rf (nI r).toNatClampNeg))
  rw [e1, e2, e3, e4, pk_sub (by omega), pk_sub (by omega), pk_mul]
  exact h
/-! decided -/
def po_di (S D K : Nat → Nat) (R x : Nat) (gc gr : Nat → Nat) (c : Nat) : Nat → Nat := fun r => po_fc S D K R x (gc c) (gr r) * ((gc (c + 1) - gc c) * (gr (r + 1) - gr r))
def po_do (S D K : Nat → Nat) (R x W : Nat) (gc gr : Nat → Nat) : Nat → Nat := fun c => po_sm (po_di S D K R x gc gr c) W
theorem po_xd35 {post : Int32 → SX → Prop} {J : Int32 → Int32 → Prop} {c x A : Nat} (hR : R ≤ 12) (hG : po_G (po_E S R) C gc) (hG' : po_G (po_E D R) W gr) (ha : po_ar cf (C + 1) gc) (ha' : po_ar rf (W + 1) gr) (hd : po_PD R S D K C W gc gr 0 fi se) (hc : c < C) (hx : x ≤ R) (h : J (nI (A + po_do S D K R x W gc gr c)) (nI (c + 1))) : ∀ k n r : Nat, k < n → r + k = W → wX_decided_35 post J (po_e x) (nI c) (nI R) fb pt (nI C) (nI W) (po_m po_gL S) (po_m po_gH S) (po_m po_gL D) (po_m po_gH D) (po_m po_gB K) (po_m po_gA K) cf rf fi se n (nI (A + po_sm (po_di S D K R x gc gr c) r)) (nI r) := by
  intro k
  have hC := hG.2.1
  have hW := hG'.2.1
  induction k with
  | zero =>
    intro n r hn hr
    obtain ⟨m, rfl⟩ : ∃ m, n = m + 1 := ⟨n - 1, by omega⟩
    have hr' : r = W := by omega
    subst hr'
    exact br_t (nI_le (by omega) (by omega)) (nm_r (nI_1 c) h)
  | succ k ih =>
    intro n r hn hr
    obtain ⟨m, rfl⟩ : ∃ m, n = m + 1 := ⟨n - 1, by omega⟩
    have k2 := ih m (r + 1) (by omega) (by omega)
    refine br_f (nI_ge (by omega) (by omega)) ?_
    refine po_xfo hR hC hW hd hc (by omega) hx ?_
    refine po_xpk hG hG' ha ha' hc (by omega) ?_
    have e : nI (A + po_sm (po_di S D K R x gc gr c) r) + nI (po_fc S D K R x (gc c) (gr r)) * nI ((gc (c + 1) - gc c) * (gr (r + 1) - gr r)) = nI (A + po_sm (po_di S D K R x gc gr c) (r + 1)) := by
      rw [pk_mul, nI_add, po_sm_s, Nat.add_assoc]
      rfl
    exact nm_r e (nm_r (nI_1 r) k2)
theorem po_xd24 {post : Int32 → SX → Prop} {x : Nat} (hR : R ≤ 12) (hG : po_G (po_E S R) C gc) (hG' : po_G (po_E D R) W gr) (ha : po_ar cf (C + 1) gc) (ha' : po_ar rf (W + 1) gr) (hd : po_PD R S D K C W gc gr 0 fi se) (hx : x ≤ R) (h : post (nI (po_sm (po_do S D K R x W gc gr) C)) (nI R, fb, pt, nI C, nI W, po_m po_gL S, po_m po_gH S, po_m po_gL D, po_m po_gH D, po_m po_gB K, po_m po_gA K, cf, rf, fi, se)) : ∀ k n c : Nat, k < n → c + k = C → wX_decided_24 post (po_e x) (nI R) fb pt (nI C) (nI W) (po_m po_gL S) (po_m po_gH S) (po_m po_gL D) (po_m po_gH D) (po_m po_gB K) (po_m po_gA K) cf rf fi se n (nI (po_sm (po_do S D K R x W gc gr) c)) (nI c) := by
  intro k
  have hC := hG.2.1
  have hW := hG'.2.1
  induction k with
  | zero =>
    intro n c hn hc
    obtain ⟨m, rfl⟩ : ∃ m, n = m + 1 := ⟨n - 1, by omega⟩
    have hc' : c = C := by omega
    subst hc'
    exact br_t (nI_le (by omega) (by omega)) h
  | succ k ih =>
    intro n c hn hc
    obtain ⟨m, rfl⟩ : ∃ m, n = m + 1 := ⟨n - 1, by omega⟩
    have k2 := ih m (c + 1) (by omega) (by omega)
    rw [po_sm_s] at k2
    refine br_f (nI_ge (by omega) (by omega)) ?_
    exact ⟨W + 1, po_xd35 (A := po_sm (po_do S D K R x W gc gr) c) hR hG hG' ha ha' hd (by omega) hx k2 W (W + 1) 0 (by omega) (by omega)⟩
/-- the fields' sum is the packets' count -/
theorem po_cn_eq {x : Nat} (hG : po_G (po_E S R) C gc) (hG' : po_G (po_E D R) W gr) : po_sm (po_do S D K R x W gc gr) C = po_cn S D K R x := by
  have e1 : po_cn S D K R x = po_sm (fun s => po_sm (fun d => po_fc S D K R x s d) 32) 32 := by
    show po_sm _ (128 * 32) = _
    rw [po_sm_blk]
    refine po_sm_congr (fun s _ => ?_)
    show po_sm _ (4 * 32) = _
    rw [po_sm_blk]
    refine po_sm_congr (fun d hd => ?_)
    refine po_sm_congr (fun t ht => ?_)
    unfold po_q
    rw [show (128 * s + (4 * d + t)) / 128 = s by omega, show (128 * s + (4 * d + t)) / 4 % 32 = d by omega, show (128 * s + (4 * d + t)) % 4 = t by omega]
  have f1 : ∀ c s d, c < C → gc c ≤ s → s < gc (c + 1) → d < 32 → po_fc S D K R x s d = po_fc S D K R x (gc c) d := by
    intro c s d hc h1 h2 hd
    obtain ⟨r, hr, h3, h4⟩ := po_G_at hG' hd
    have l1 := hG.2.2.2.2.1 c hc
    refine po_sm_congr (fun t _ => ?_)
    rw [(po_G_f (K := K) hG hG' t hc h1 h2 hr h3 h4).1, (po_G_f (K := K) hG hG' t hc (Nat.le_refl _) l1 hr h3 h4).1]
  have f2 : ∀ c r d, c < C → r < W → gr r ≤ d → d < gr (r + 1) → po_fc S D K R x (gc c) d = po_fc S D K R x (gc c) (gr r) := by
    intro c r d hc hr h3 h4
    have l1 := hG.2.2.2.2.1 c hc
    refine po_sm_congr (fun t _ => ?_)
    rw [(po_G_f (K := K) hG hG' t hc (Nat.le_refl _) l1 hr h3 h4).1]
  have e2 : po_sm (fun s => po_sm (fun d => po_fc S D K R x s d) 32) 32 = po_sm (fun c => po_sm (fun d => po_fc S D K R x (gc c) d) 32 * (gc (c + 1) - gc c)) C := by
    have k := po_sm_grp (fun s => po_sm (fun d => po_fc S D K R x s d) 32) gc hG.2.2.1 C (fun c hc => Nat.le_of_lt (hG.2.2.2.2.1 c hc)) (fun c s hc h1 h2 => po_sm_congr (fun d hd => f1 c s d hc h1 h2 hd))
    rw [hG.2.2.2.1] at k
    exact k
  rw [e1, e2]
  refine po_sm_congr (fun c hc => ?_)
  have e3 : po_sm (fun d => po_fc S D K R x (gc c) d) 32 = po_sm (fun r => po_fc S D K R x (gc c) (gr r) * (gr (r + 1) - gr r)) W := by
    have k := po_sm_grp (fun d => po_fc S D K R x (gc c) d) gr hG'.2.2.1 W (fun r hr => Nat.le_of_lt (hG'.2.2.2.2.1 r hr)) (fun r d hr h1 h2 => f2 c r d hc hr h1 h2)
    rw [hG'.2.2.2.1] at k
    exact k
  rw [e3, ← po_sm_mul]
  refine po_sm_congr (fun r _ => ?_)
  show po_fc S D K R x (gc c) (gr r) * ((gc (c + 1) - gc c) * (gr (r + 1) - gr r)) = _
  rw [Nat.mul_comm (gc (c + 1) - gc c), Nat.mul_assoc]
end
/-- P of every state that shows R, fb, S, D, K -/
def po_KX (R : Nat) (fb : Int32) (S D K : Nat → Nat) (P : SX → Prop) : Prop := ∀ (pt co ro : Int32) (cf rf fi se : Nat → Int32), (pt = 0 ∨ po_PT R S D K co ro cf rf fi se) → P (nI R, fb, pt, co, ro, po_m po_gL S, po_m po_gH S, po_m po_gL D, po_m po_gH D, po_m po_gB K, po_m po_gA K, cf, rf, fi, se)
section
variable {R : Nat} {fb pt co ro : Int32} {S D K : Nat → Nat} {cf rf fi se : Nat → Int32}
theorem po_xdecide {post : Int32 → SX → Prop} {s d t : Nat} (hok : po_ok R S D K) (hp : pt = 0 ∨ po_PT R S D K co ro cf rf fi se) (hs : s < 32) (hd : d < 32) (ht : t < 4) (h : po_KX R fb S D K (post (po_e (po_fst S D K R s d t)))) : wpX_decide post (nI R, fb, pt, co, ro, po_m po_gL S, po_m po_gH S, po_m po_gL D, po_m po_gH D, po_m po_gB K, po_m po_gA K, cf, rf, fi, se) (nI s) (nI d) (nI t) := by
  unfold wpX_decide
  refine po_xp1 hs hd ht (br_f (by decide) ?_)
  refine po_xpaint hok hp (fun pt C W gc gr cf rf fi se g1 g2 a1 a2 pd => ?_)
  refine po_xiv_columnFrom hs g1 a1 (fun c hc h1 h2 => ?_)
  refine po_xiv_rowFrom hd g2 a2 (fun r hr h3 h4 => ?_)
  have c1 := g1.2.1
  have c2 := g2.2.1
  have e := po_ix c r t
  have hf : fi (104 * nI c + 4 * nI r + nI t).toNatClampNeg = po_e (po_fst S D K R s d t) := by
    rw [e, nI_clamp (by omega), po_fi pd hc hr ht, (po_G_f (K := K) g1 g2 t hc h1 h2 hr h3 h4).1]
  refine And.intro (by rw [e]; exact vp_in_nI (by omega) (by omega)) ?_
  show post (fi (104 * nI c + 4 * nI r + nI t).toNatClampNeg) _
  rw [hf]
  exact h pt _ _ cf rf fi se (Or.inr ⟨C, W, gc, gr, rfl, rfl, g1, g2, a1, a2, pd⟩)
theorem po_xdecide0 {post : Int32 → SX → Prop} {v1 v2 v3 : Int32} (hv : ¬ po_pk v1 v2 v3) (h : post (-2) (nI R, fb, pt, co, ro, po_m po_gL S, po_m po_gH S, po_m po_gL D, po_m po_gH D, po_m po_gB K, po_m po_gA K, cf, rf, fi, se)) : wpX_decide post (nI R, fb, pt, co, ro, po_m po_gL S, po_m po_gH S, po_m po_gL D, po_m po_gH D, po_m po_gB K, po_m po_gA K, cf, rf, fi, se) v1 v2 v3 := by
  unfold wpX_decide
  exact po_xp0 hv (br_t rfl h)
theorem po_xaction {post : Int32 → SX → Prop} {s d t : Nat} (hok : po_ok R S D K) (hp : pt = 0 ∨ po_PT R S D K co ro cf rf fi se) (hs : s < 32) (hd : d < 32) (ht : t < 4) (h : po_KX R fb S D K (post (po_ac fb K (po_fst S D K R s d t)))) : wpX_action post (nI R, fb, pt, co, ro, po_m po_gL S, po_m po_gH S, po_m po_gL D, po_m po_gH D, po_m po_gB K, po_m po_gA K, cf, rf, fi, se) (nI s) (nI d) (nI t) := by
  unfold wpX_action
  have k := po_fst_le S D K R s d t
  have hR := hok.1
  refine po_xp1 hs hd ht (br_f (by decide) ?_)
  refine po_xdecide hok hp hs hd ht (fun pt co ro cf rf fi se hp' => ?_)
  have h' := h pt co ro cf rf fi se hp'
  generalize po_fst S D K R s d t = x at k h'
  cases x with
  | zero => exact br_f (by decide) h'
  | succ r =>
    refine br_t (nI_pos' (n := r) (by omega)) (And.intro (po_i12 (a := r) rfl (by omega)) ?_)
    show post (po_m po_gA K (nI r).toNatClampNeg) _
    rw [po_mr rfl (by omega)]
    exact h'
theorem po_xaction0 {post : Int32 → SX → Prop} {v1 v2 v3 : Int32} (hv : ¬ po_pk v1 v2 v3) (h : post (-2) (nI R, fb, pt, co, ro, po_m po_gL S, po_m po_gH S, po_m po_gL D, po_m po_gH D, po_m po_gB K, po_m po_gA K, cf, rf, fi, se)) : wpX_action post (nI R, fb, pt, co, ro, po_m po_gL S, po_m po_gH S, po_m po_gL D, po_m po_gH D, po_m po_gB K, po_m po_gA K, cf, rf, fi, se) v1 v2 v3 := by
  unfold wpX_action
  exact po_xp0 hv (br_t rfl h)
theorem po_xd16 {post : Int32 → SX → Prop} {x : Nat} (hok : po_ok R S D K) (hp : pt = 0 ∨ po_PT R S D K co ro cf rf fi se) (hx : x ≤ R) (h : po_KX R fb S D K (post (nI (po_cn S D K R x)))) : wX_decided_16 post (po_e x) (nI R) fb pt co ro (po_m po_gL S) (po_m po_gH S) (po_m po_gL D) (po_m po_gH D) (po_m po_gB K) (po_m po_gA K) cf rf fi se := by
  unfold wX_decided_16
  refine po_xpaint hok hp (fun pt C W gc gr cf rf fi se g1 g2 a1 a2 pd => ?_)
  refine ⟨C + 1, po_xd24 hok.1 g1 g2 a1 a2 pd hx ?_ C (C + 1) 0 (by omega) (by omega)⟩
  rw [po_cn_eq g1 g2]
  exact h pt _ _ cf rf fi se (Or.inr ⟨C, W, gc, gr, rfl, rfl, g1, g2, a1, a2, pd⟩)
theorem po_xdecided {post : Int32 → SX → Prop} {x : Nat} (hok : po_ok R S D K) (hp : pt = 0 ∨ po_PT R S D K co ro cf rf fi se) (hx : x ≤ R) (h : po_KX R fb S D K (post (nI (po_cn S D K R x)))) : wpX_decided post (nI R, fb, pt, co, ro, po_m po_gL S, po_m po_gH S, po_m po_gL D, po_m po_gH D, po_m po_gB K, po_m po_gA K, cf, rf, fi, se) (po_e x) := by
  have k := po_xd16 hok hp hx h
  have hR := hok.1
  unfold wpX_decided
  cases x with
  | zero => exact br_t rfl k
  | succ r => exact br_f (po_e_ne (by omega)) (po_xr1 hR (by omega) (br_f (by decide) k))
theorem po_xdecided0 {post : Int32 → SX → Prop} {v : Int32} (hR : R ≤ 12) (hv : ¬ po_pe R v) (h : post (-2) (nI R, fb, pt, co, ro, po_m po_gL S, po_m po_gH S, po_m po_gL D, po_m po_gH D, po_m po_gB K, po_m po_gA K, cf, rf, fi, se)) : wpX_decided post (nI R, fb, pt, co, ro, po_m po_gL S, po_m po_gH S, po_m po_gL D, po_m po_gH D, po_m po_gB K, po_m po_gA K, cf, rf, fi, se) v := by
  unfold wpX_decided
  exact br_f (po_pe_m hv) (po_xr0 hR (po_pe_of (po_pe_m hv) hv) (br_t rfl h))
end
end
section
/-! having -/
def po_hx (S D K : Nat → Nat) (R : Nat) (fb a : Int32) : Nat → Nat := fun x => if po_ac fb K x = a then po_cn S D K R x else 0
theorem po_hv_eq (S D K : Nat → Nat) (R : Nat) (fb a : Int32) : po_sm (po_hx S D K R fb a) (R + 1) = po_hv S D K R fb a := by
  have e1 : po_sm (po_hx S D K R fb a) (R + 1) = po_sm (fun x => po_sm (fun q => (if po_q (po_fst S D K R) q = x then 1 else 0) * (if po_ac fb K (po_q (po_fst S D K R) q) = a then 1 else 0)) 4096) (R + 1) := by
    refine po_sm_congr (fun x _ => ?_)
    show (if po_ac fb K x = a then po_cn S D K R x else 0) = _
    by_cases z : po_ac fb K x = a
    · rw [if_pos z]
      refine po_sm_congr (fun q _ => ?_)
      by_cases w : po_q (po_fst S D K R) q = x
      · rw [if_pos w, w, if_pos z]
      · rw [if_neg w, Nat.zero_mul]
    · rw [if_neg z]
      refine ((po_sm_congr (fun q _ => ?_)).trans (po_sm_0 4096)).symm
      by_cases w : po_q (po_fst S D K R) q = x
      · rw [if_pos w, w, if_neg z]
      · rw [if_neg w, Nat.zero_mul]
  rw [e1, po_sm_swap]
  refine po_sm_congr (fun q _ => ?_)
  rw [po_sm_mul (fun x => if po_q (po_fst S D K R) q = x then 1 else 0), po_sm_pt]
  have h := po_q_le (S := S) (D := D) (K := K) (R := R) q
  rw [if_pos (by omega), Nat.one_mul]
section
variable {R : Nat} {fb : Int32} {S D K : Nat → Nat}
theorem po_xh29 {post : Int32 → SX → Prop} {J : Int32 → Int32 → Int32 → Int32 → Int32 → Int32 → Int32 → (Nat → Int32) → (Nat → Int32) → (Nat → Int32) → (Nat → Int32) → (Nat → Int32) → (Nat → Int32) → (Nat → Int32) → (Nat → Int32) → (Nat → Int32) → (Nat → Int32) → Prop} {a pt co ro : Int32} {cf rf fi se : Nat → Int32} {x : Nat} (hok : po_ok R S D K) (hp : pt = 0 ∨ po_PT R S D K co ro cf rf fi se) (hx : x ≤ R) (h : ∀ (pt co ro : Int32) (cf rf fi se : Nat → Int32), (pt = 0 ∨ po_PT R S D K co ro cf rf fi se) → J (nI (po_sm (po_hx S D K R fb (a &&& 3)) (x + 1))) (nI x) (nI R) fb pt co ro (po_m po_gL S) (po_m po_gH S) (po_m po_gL D) (po_m po_gH D) (po_m po_gB K) (po_m po_gA K) cf rf fi se) : wX_having_29 post J a (nI (po_sm (po_hx S D K R fb (a &&& 3)) x)) (po_e x) (po_ac fb K x) (nI R) fb pt co ro (po_m po_gL S) (po_m po_gH S) (po_m po_gL D) (po_m po_gH D) (po_m po_gB K) (po_m po_gA K) cf rf fi se := by
  have e1 : po_e x + 1 = nI x := by
    cases x with
    | zero => rfl
    | succ r => exact nI_1 r
  rw [po_sm_s] at h
  by_cases z : po_ac fb K x = a &&& 3
  · have e2 : po_hx S D K R fb (a &&& 3) x = po_cn S D K R x := if_pos z
    rw [e2] at h
    refine br_t z ?_
    refine po_xdecided hok hp hx (fun pt co ro cf rf fi se hp' => ?_)
    exact nm_r (nI_add _ _) (nm_r e1 (h pt co ro cf rf fi se hp'))
  · have e2 : po_hx S D K R fb (a &&& 3) x = 0 := if_neg z
    rw [e2] at h
    exact br_f z (nm_r e1 (h pt co ro cf rf fi se hp))
theorem po_xh4 {post : Int32 → SX → Prop} {a : Int32} (hok : po_ok R S D K) (h : po_KX R fb S D K (post (nI (po_hv S D K R fb (a &&& 3))))) : ∀ (k n x : Nat) (pt co ro : Int32) (cf rf fi se : Nat → Int32), k < n → x + k = R + 1 → (pt = 0 ∨ po_PT R S D K co ro cf rf fi se) → wX_having_4 post a n (nI (po_sm (po_hx S D K R fb (a &&& 3)) x)) (po_e x) (nI R) fb pt co ro (po_m po_gL S) (po_m po_gH S) (po_m po_gL D) (po_m po_gH D) (po_m po_gB K) (po_m po_gA K) cf rf fi se := by
  intro k
  have hR := hok.1
  induction k with
  | zero =>
    intro n x pt co ro cf rf fi se hn hx hp
    obtain ⟨m, rfl⟩ : ∃ m, n = m + 1 := ⟨n - 1, by omega⟩
    have hx' : x = R + 1 := by omega
    subst hx'
    rw [po_hv_eq]
    exact br_t (nI_le (a := R) (b := R) (by omega) (by omega)) (h pt co ro cf rf fi se hp)
  | succ k ih =>
    intro n x pt co ro cf rf fi se hn hx hp
    obtain ⟨m, rfl⟩ : ∃ m, n = m + 1 := ⟨n - 1, by omega⟩
    have k2 : ∀ (pt co ro : Int32) (cf rf fi se : Nat → Int32), (pt = 0 ∨ po_PT R S D K co ro cf rf fi se) → wX_having_4 post a m (nI (po_sm (po_hx S D K R fb (a &&& 3)) (x + 1))) (nI x) (nI R) fb pt co ro (po_m po_gL S) (po_m po_gH S) (po_m po_gL D) (po_m po_gH D) (po_m po_gB K) (po_m po_gA K) cf rf fi se := fun pt co ro cf rf fi se hp' => ih m (x + 1) pt co ro cf rf fi se (by omega) (by omega) hp'
    have k3 := po_xh29 (post := post) (J := wX_having_4 post a m) (a := a) hok hp (show x ≤ R by omega) k2
    cases x with
    | zero =>
      refine br_f (show ¬ nI R ≤ -1 from ?_) (br_f (by decide) k3)
      rw [Int32.le_iff_toInt_le, nI_toInt (by omega), show (-1 : Int32).toInt = -1 from by decide]
      omega
    | succ r =>
      refine br_f (nI_ge (a := r) (by omega) (by omega)) (br_t (nI_pos' (n := r) (by omega)) (And.intro (po_i12 (a := r) rfl (by omega)) ?_))
      show wX_having_29 post (wX_having_4 post a m) a _ (nI r) (po_m po_gA K (nI r).toNatClampNeg) _ _ _ _ _ _ _ _ _ _ _ _ _ _ _
      rw [po_mr rfl (by omega)]
      exact k3
theorem po_xhaving {post : Int32 → SX → Prop} {a pt co ro : Int32} {cf rf fi se : Nat → Int32} (hok : po_ok R S D K) (hp : pt = 0 ∨ po_PT R S D K co ro cf rf fi se) (h : po_KX R fb S D K (post (nI (po_hv S D K R fb (a &&& 3))))) : wpX_having post (nI R, fb, pt, co, ro, po_m po_gL S, po_m po_gH S, po_m po_gL D, po_m po_gH D, po_m po_gB K, po_m po_gA K, cf, rf, fi, se) a :=
  ⟨R + 2, po_xh4 hok h (R + 1) (R + 2) 0 pt co ro cf rf fi se (by omega) (by omega) hp⟩
end
/-! use -/
def po_ub (b : Bool) : Int32 := if b = true then 1 else 0
section
variable {R C W : Nat} {fb pt : Int32} {S D K gc gr : Nat → Nat} {cf rf fi se : Nat → Int32}
def po_u1 (S D K : Nat → Nat) (R W : Nat) (gc gr : Nat → Nat) (x : Nat) : Nat → Bool := fun f => decide (f % 104 < 4 * W ∧ po_fst S D K R (gc (f / 104)) (gr (f % 104 / 4)) (f % 104 % 4) = x)
def po_u2 (S D K : Nat → Nat) (R W : Nat) (gc gr : Nat → Nat) (fb : Int32) (x : Nat) : Nat → Bool := fun f => decide (f % 104 < 4 * W ∧ po_fst S D K R (gc (f / 104)) (gr (f % 104 / 4)) (f % 104 % 4) = x ∧ ¬ po_ac fb K (po_snd S D K R (gc (f / 104)) (gr (f % 104 / 4)) (f % 104 % 4)) = po_ac fb K x)
theorem po_x88 {post : Int32 → SX → Prop} {J : Int32 → Int32 → Int32 → Prop} {x f : Nat} {b b' : Bool} {z : Int32} (hx : x < 12) (he : b' = (b || decide (¬ z = po_ac fb K (x + 1)))) (h : J 1 (po_ub b') (nI (f + 1))) : wX_use_88 post J (nI x) (po_ub b) (nI f) z (nI R) fb pt (nI C) (nI W) (po_m po_gL S) (po_m po_gH S) (po_m po_gL D) (po_m po_gH D) (po_m po_gB K) (po_m po_gA K) cf rf fi se := by
  have e : po_m po_gA K (nI x).toNatClampNeg = po_ac fb K (x + 1) := po_mr rfl hx
  cases b with
  | true =>
    have e2 : b' = true := he
    rw [e2] at h
    exact br_f (by decide) (nm_r (nI_1 f) h)
  | false =>
    rw [Bool.false_or] at he
    refine br_t rfl (And.intro (po_i12 rfl hx) ?_)
    by_cases w : z = po_ac fb K (x + 1)
    · rw [decide_eq_false (fun n => n w)] at he
      rw [he] at h
      exact br_t (w.trans e.symm) (nm_r (nI_1 f) h)
    · rw [decide_eq_true w] at he
      rw [he] at h
      exact br_f (fun n => w (n.trans e)) (nm_r (nI_1 f) h)
theorem po_xu22 {post : Int32 → SX → Prop} {x : Nat} (hR : R ≤ 12) (hC : C ≤ 26) (hW : W ≤ 26) (hd : po_PD R S D K C W gc gr 0 fi se) (hx : x < R) (h : post (po_ur (po_any (po_u1 S D K R W gc gr (x + 1)) (104 * C)) (po_any (po_u2 S D K R W gc gr fb (x + 1)) (104 * C))) (nI R, fb, pt, nI C, nI W, po_m po_gL S, po_m po_gH S, po_m po_gL D, po_m po_gH D, po_m po_gB K, po_m po_gA K, cf, rf, fi, se)) : ∀ k n f : Nat, k < n → f + k = 104 * C → wX_use_22 post (nI x) (nI R) fb pt (nI C) (nI W) (po_m po_gL S) (po_m po_gH S) (po_m po_gL D) (po_m po_gH D) (po_m po_gB K) (po_m po_gA K) cf rf fi se n (po_ub (po_any (po_u1 S D K R W gc gr (x + 1)) f)) (po_ub (po_any (po_u2 S D K R W gc gr fb (x + 1)) f)) (nI f) := by
  intro k
  have e1 : (104 : Int32) * nI C = nI (104 * C) := pk_mul 104 C
  have e4 : (4 : Int32) * nI W = nI (4 * W) := pk_mul 4 W
  induction k with
  | zero =>
    intro n f hn hf
    obtain ⟨m, rfl⟩ : ∃ m, n = m + 1 := ⟨n - 1, by omega⟩
    have hf' : f = 104 * C := by omega
    subst hf'
    refine br_t (by rw [e1]; exact nI_le (by omega) (by omega)) ?_
    generalize po_any (po_u1 S D K R W gc gr (x + 1)) (104 * C) = b1 at h
    generalize po_any (po_u2 S D K R W gc gr fb (x + 1)) (104 * C) = b2 at h
    cases b1 with
    | false => exact br_t rfl h
    | true =>
      refine br_f (by decide) ?_
      cases b2 with
      | false => exact br_t rfl h
      | true => exact br_f (by decide) h
  | succ k ih =>
    intro n f hn hf
    obtain ⟨m, rfl⟩ : ∃ m, n = m + 1 := ⟨n - 1, by omega⟩
    have k2 := ih m (f + 1) (by omega) (by omega)
    rw [po_any_s, po_any_s] at k2
    have er : nI f - nI f / 104 * 104 = nI (f % 104) := pk_rem (d := 104) (by omega) (by omega) (by omega)
    refine br_f (by rw [e1]; exact nI_ge (by omega) (by omega)) (And.intro (by decide) ?_)
    refine pk_le (4 * W) (f % 104) (fun z => ?_) (fun z => ?_) e4 er (by omega) (by omega)
    · have u1 : po_u1 S D K R W gc gr (x + 1) f = false := decide_eq_false (fun w => by omega)
      have u2 : po_u2 S D K R W gc gr fb (x + 1) f = false := decide_eq_false (fun w => by omega)
      rw [u1, u2, Bool.or_false, Bool.or_false] at k2
      exact nm_r (nI_1 f) k2
    · have iv : vp_in (nI f) 2704 := vp_in_nI (by omega) (by omega)
      obtain ⟨d1, d2⟩ := po_fk hd (c := f / 104) (k := f % 104) (by omega) z
      have ef : 104 * (f / 104) + f % 104 = f := by omega
      rw [ef] at d1 d2
      have v1 : fi (nI f).toNatClampNeg = po_e (po_fst S D K R (gc (f / 104)) (gr (f % 104 / 4)) (f % 104 % 4)) := by rw [nI_clamp (by omega)]; exact d1
      have v2 : se (nI f).toNatClampNeg = po_e (po_snd S D K R (gc (f / 104)) (gr (f % 104 / 4)) (f % 104 % 4)) := by rw [nI_clamp (by omega)]; exact d2
      have l1 := po_fst_le S D K R (gc (f / 104)) (gr (f % 104 / 4)) (f % 104 % 4)
      have l2 := po_snd_le S D K R (gc (f / 104)) (gr (f % 104 / 4)) (f % 104 % 4)
      have u1 : po_u1 S D K R W gc gr (x + 1) f = decide (po_fst S D K R (gc (f / 104)) (gr (f % 104 / 4)) (f % 104 % 4) = x + 1) := by
        refine decide_eq_decide.mpr ⟨fun w => w.2, fun w => ⟨z, w⟩⟩
      have u2 : po_u2 S D K R W gc gr fb (x + 1) f = decide (po_fst S D K R (gc (f / 104)) (gr (f % 104 / 4)) (f % 104 % 4) = x + 1 ∧ ¬ po_ac fb K (po_snd S D K R (gc (f / 104)) (gr (f % 104 / 4)) (f % 104 % 4)) = po_ac fb K (x + 1)) := by
        refine decide_eq_decide.mpr ⟨fun w => w.2, fun w => ⟨z, w⟩⟩
      rw [u1, u2] at k2
      generalize po_fst S D K R (gc (f / 104)) (gr (f % 104 / 4)) (f % 104 % 4) = y1 at v1 l1 k2
      generalize po_snd S D K R (gc (f / 104)) (gr (f % 104 / 4)) (f % 104 % 4) = y2 at v2 l2 k2
      refine And.intro iv ?_
      by_cases w : y1 = x + 1
      · refine br_t (by rw [v1, w]; rfl) (And.intro iv ?_)
        have u3 : decide (y1 = x + 1 ∧ ¬ po_ac fb K y2 = po_ac fb K (x + 1)) = decide (¬ po_ac fb K y2 = po_ac fb K (x + 1)) := decide_eq_decide.mpr ⟨fun n => n.2, fun n => ⟨w, n⟩⟩
        rw [decide_eq_true w, Bool.or_true, u3] at k2
        cases y2 with
        | zero =>
          refine br_f (by rw [v2]; decide) ?_
          exact po_x88 (by omega) rfl k2
        | succ r =>
          refine br_t (by rw [v2]; exact nI_pos' (n := r) (by omega)) (And.intro iv (And.intro (po_i12 (a := r) v2 (by omega)) ?_))
          rw [po_mr (a := r) v2 (by omega)]
          exact po_x88 (by omega) rfl k2
      · refine br_f (fun n => w ((po_e_eq (b := x + 1) (by omega) (by omega)).mp (v1.symm.trans n))) ?_
        rw [decide_eq_false w, decide_eq_false (fun n => w n.1), Bool.or_false, Bool.or_false] at k2
        exact nm_r (nI_1 f) k2
/-- packets and fields -/
theorem po_all (hG : po_G (po_E S R) C gc) (hG' : po_G (po_E D R) W gr) (P : Nat → Nat → Prop) : (∃ q, q < 4096 ∧ P (po_q (po_fst S D K R) q) (po_q (po_snd S D K R) q)) ↔ (∃ f, f < 104 * C ∧ f % 104 < 4 * W ∧ P (po_fst S D K R (gc (f / 104)) (gr (f % 104 / 4)) (f % 104 % 4)) (po_snd S D K R (gc (f / 104)) (gr (f % 104 / 4)) (f % 104 % 4))) := by
  have hW := hG'.2.1
  constructor
  · rintro ⟨q, hq, h⟩
    obtain ⟨c, hc, h1, h2⟩ := po_G_at hG (x := q / 128) (by omega)
    obtain ⟨r, hr, h3, h4⟩ := po_G_at hG' (x := q / 4 % 32) (by omega)
    have k := po_G_f (K := K) hG hG' (q % 4) hc h1 h2 hr h3 h4
    refine ⟨104 * c + (4 * r + q % 4), by omega, by omega, ?_⟩
    rw [show (104 * c + (4 * r + q % 4)) / 104 = c by omega, show (104 * c + (4 * r + q % 4)) % 104 / 4 = r by omega, show (104 * c + (4 * r + q % 4)) % 104 % 4 = q % 4 by omega, ← k.1, ← k.2]
    exact h
  · rintro ⟨f, hf, hk, h⟩
    have l1 := po_G_lt hG (i := f / 104) (by omega)
    have l2 := po_G_lt hG' (i := f % 104 / 4) (by omega)
    refine ⟨128 * gc (f / 104) + (4 * gr (f % 104 / 4) + f % 104 % 4), by omega, ?_⟩
    unfold po_q
    rw [show (128 * gc (f / 104) + (4 * gr (f % 104 / 4) + f % 104 % 4)) / 128 = gc (f / 104) by omega, show (128 * gc (f / 104) + (4 * gr (f % 104 / 4) + f % 104 % 4)) / 4 % 32 = gr (f % 104 / 4) by omega, show (128 * gc (f / 104) + (4 * gr (f % 104 / 4) + f % 104 % 4)) % 4 = f % 104 % 4 by omega]
    exact h
theorem po_any1 {x : Nat} (hG : po_G (po_E S R) C gc) (hG' : po_G (po_E D R) W gr) : po_any (po_u1 S D K R W gc gr x) (104 * C) = po_any (po_us1 S D K R x) 4096 := by
  apply Bool.eq_iff_iff.mpr
  rw [po_any_iff, po_any_iff]
  have k := po_all (K := K) hG hG' (fun a _ => a = x)
  constructor
  · rintro ⟨f, hf, e⟩
    have e' := of_decide_eq_true e
    obtain ⟨q, hq, e2⟩ := k.mpr ⟨f, hf, e'.1, e'.2⟩
    exact ⟨q, hq, decide_eq_true e2⟩
  · rintro ⟨q, hq, e⟩
    obtain ⟨f, hf, e1, e2⟩ := k.mp ⟨q, hq, of_decide_eq_true e⟩
    exact ⟨f, hf, decide_eq_true ⟨e1, e2⟩⟩
theorem po_any2 {x : Nat} (hG : po_G (po_E S R) C gc) (hG' : po_G (po_E D R) W gr) : po_any (po_u2 S D K R W gc gr fb x) (104 * C) = po_any (po_us2 S D K R fb x) 4096 := by
  apply Bool.eq_iff_iff.mpr
  rw [po_any_iff, po_any_iff]
  have k := po_all (K := K) hG hG' (fun a b => a = x ∧ ¬ po_ac fb K b = po_ac fb K x)
  constructor
  · rintro ⟨f, hf, e⟩
    have e' := of_decide_eq_true e
    obtain ⟨q, hq, e2⟩ := k.mpr ⟨f, hf, e'.1, e'.2⟩
    exact ⟨q, hq, decide_eq_true e2⟩
  · rintro ⟨q, hq, e⟩
    obtain ⟨f, hf, e1, e2⟩ := k.mp ⟨q, hq, of_decide_eq_true e⟩
    exact ⟨f, hf, decide_eq_true ⟨e1, e2⟩⟩
/-! witness -/
/-- a corner is the least packet -/
theorem po_wi_t {x c k : Nat} (hG : po_G (po_E S R) C gc) (hG' : po_G (po_E D R) W gr) (hc : c < C) (hk : k < 4 * W) (e : po_fst S D K R (gc c) (gr (k / 4)) (k % 4) = x) (hm : ∀ c' k', c' < C → k' < 4 * W → 104 * c' + k' < 104 * c + k → ¬ po_fst S D K R (gc c') (gr (k' / 4)) (k' % 4) = x) : po_wi S D K R x (nI (128 * gc c + 4 * gr (k / 4) + k % 4)) := by
  have hW := hG'.2.1
  have l1 := po_G_lt hG hc
  have l2 := po_G_lt hG' (i := k / 4) (by omega)
  refine Or.inr ⟨128 * gc c + 4 * gr (k / 4) + k % 4, by omega, rfl, ?_, fun q hq e2 => ?_⟩
  · unfold po_q
    rw [show (128 * gc c + 4 * gr (k / 4) + k % 4) / 128 = gc c by omega, show (128 * gc c + 4 * gr (k / 4) + k % 4) / 4 % 32 = gr (k / 4) by omega, show (128 * gc c + 4 * gr (k / 4) + k % 4) % 4 = k % 4 by omega]
    exact e
  · obtain ⟨c', hc', h1, h2⟩ := po_G_at hG (x := q / 128) (by omega)
    obtain ⟨r', hr', h3, h4⟩ := po_G_at hG' (x := q / 4 % 32) (by omega)
    have kk := (po_G_f (K := K) hG hG' (q % 4) hc' h1 h2 hr' h3 h4).1
    have z := hm c' (4 * r' + q % 4) hc' (by omega)
    rw [show (4 * r' + q % 4) / 4 = r' by omega, show (4 * r' + q % 4) % 4 = q % 4 by omega, ← kk] at z
    have z2 : ¬ (104 * c' + (4 * r' + q % 4) < 104 * c + k) := fun w => z w e2
    have hcc : c ≤ c' := by omega
    have g1 : c < c' → gc c < gc c' := fun w => po_G_lts hG w (by omega)
    have g2 : k / 4 < r' → gr (k / 4) < gr r' := fun w => po_G_lts hG' w (by omega)
    by_cases w : c < c'
    · have := g1 w; omega
    · have ec : c' = c := by omega
      subst ec
      by_cases w2 : k / 4 < r'
      · have := g2 w2; omega
      · have er : r' = k / 4 := by omega
        subst er
        omega
theorem po_wi_f {x : Nat} (hG : po_G (po_E S R) C gc) (hG' : po_G (po_E D R) W gr) (hm : ∀ c' k', c' < C → k' < 4 * W → ¬ po_fst S D K R (gc c') (gr (k' / 4)) (k' % 4) = x) : po_wi S D K R x (-1) := by
  refine Or.inl ⟨rfl, fun q hq e2 => ?_⟩
  obtain ⟨c', hc', h1, h2⟩ := po_G_at hG (x := q / 128) (by omega)
  obtain ⟨r', hr', h3, h4⟩ := po_G_at hG' (x := q / 4 % 32) (by omega)
  have kk := (po_G_f (K := K) hG hG' (q % 4) hc' h1 h2 hr' h3 h4).1
  have z := hm c' (4 * r' + q % 4) hc' (by omega)
  rw [show (4 * r' + q % 4) / 4 = r' by omega, show (4 * r' + q % 4) % 4 = q % 4 by omega, ← kk] at z
  exact z e2
theorem po_xw32 {post : Int32 → SX → Prop} {J : Int32 → Prop} {x c : Nat} (hR : R ≤ 12) (hG : po_G (po_E S R) C gc) (hG' : po_G (po_E D R) W gr) (ha : po_ar cf (C + 1) gc) (ha' : po_ar rf (W + 1) gr) (hd : po_PD R S D K C W gc gr 0 fi se) (hx : x ≤ R) (hc : c < C) (h : ∀ r, po_wi S D K R x r → post r (nI R, fb, pt, nI C, nI W, po_m po_gL S, po_m po_gH S, po_m po_gL D, po_m po_gH D, po_m po_gB K, po_m po_gA K, cf, rf, fi, se)) (hJ : (∀ c' k', c' < C → k' < 4 * W → 104 * c' + k' < 104 * (c + 1) → ¬ po_fst S D K R (gc c') (gr (k' / 4)) (k' % 4) = x) → J (nI (c + 1))) : ∀ j n k : Nat, j < n → k + j = 4 * W → (∀ c' k', c' < C → k' < 4 * W → 104 * c' + k' < 104 * c + k → ¬ po_fst S D K R (gc c') (gr (k' / 4)) (k' % 4) = x) → wX_witness_32 post J (po_e x) (nI c) (nI R) fb pt (nI C) (nI W) (po_m po_gL S) (po_m po_gH S) (po_m po_gL D) (po_m po_gH D) (po_m po_gB K) (po_m po_gA K) cf rf fi se n (nI k) := by
  intro j
  have hC := hG.2.1
  have hW := hG'.2.1
  have e4 : (4 : Int32) * nI W = nI (4 * W) := pk_mul 4 W
  induction j with
  | zero =>
    intro n k hn hk hm
    obtain ⟨m, rfl⟩ : ∃ m, n = m + 1 := ⟨n - 1, by omega⟩
    have hk' : k = 4 * W := by omega
    subst hk'
    exact br_t (by rw [e4]; exact nI_le (by omega) (by omega)) (nm_r (nI_1 c) (hJ (fun c' k' h1 h2 h3 => hm c' k' h1 h2 (by omega))))
  | succ j ih =>
    intro n k hn hk hm
    obtain ⟨m, rfl⟩ : ∃ m, n = m + 1 := ⟨n - 1, by omega⟩
    have ei := po_ik c k
    have ef : fi (104 * nI c + nI k).toNatClampNeg = po_e (po_fst S D K R (gc c) (gr (k / 4)) (k % 4)) := by
      rw [ei, nI_clamp (by omega)]; exact (po_fk hd hc (by omega)).1
    have er : nI k >>> ((2 : Int32) &&& 31) = nI (k / 4) := pk_shrN (by omega) _ 2 (by decide)
    have ev : rf (nI k >>> ((2 : Int32) &&& 31)).toNatClampNeg = nI (gr (k / 4)) := by
      rw [er, nI_clamp (by omega)]; exact ha' _ (by omega)
    have ec : cf (nI c).toNatClampNeg = nI (gc c) := by
      rw [nI_clamp (by omega)]; exact ha _ (by omega)
    have ek : nI k &&& 3 = nI (k % 4) := pk_andN (by omega) 2 (by decide)
    have l1 := po_fst_le S D K R (gc c) (gr (k / 4)) (k % 4)
    refine br_f (by rw [e4]; exact nI_ge (by omega) (by omega)) (And.intro (by rw [ei]; exact vp_in_nI (by omega) (by omega)) ?_)
    by_cases z : po_fst S D K R (gc c) (gr (k / 4)) (k % 4) = x
    · refine br_t (by rw [ef, z]) (And.intro (vp_in_nI (by omega) (by omega)) (And.intro (by rw [er]; exact vp_in_nI (by omega) (by omega)) ?_))
      have e : 128 * cf (nI c).toNatClampNeg + 4 * rf (nI k >>> ((2 : Int32) &&& 31)).toNatClampNeg + (nI k &&& 3) = nI (128 * gc c + 4 * gr (k / 4) + k % 4) := by
        rw [ev, ec, ek, show (128 : Int32) * nI (gc c) = nI (128 * gc c) from pk_mul 128 _, show (4 : Int32) * nI (gr (k / 4)) = nI (4 * gr (k / 4)) from pk_mul 4 _, nI_add, nI_add]
      rw [e]
      exact h _ (po_wi_t hG hG' hc (by omega) z hm)
    · refine br_f (fun w => z ((po_e_eq (by omega) (by omega)).mp (ef.symm.trans w))) (nm_r (nI_1 k) (ih m (k + 1) (by omega) (by omega) (fun c' k' h1 h2 h3 => ?_)))
      by_cases w : 104 * c' + k' = 104 * c + k
      · have e1 : c' = c := by omega
        have e2 : k' = k := by omega
        rw [e1, e2]; exact z
      · exact hm c' k' h1 h2 (by omega)
theorem po_xw22 {post : Int32 → SX → Prop} {x : Nat} (hR : R ≤ 12) (hG : po_G (po_E S R) C gc) (hG' : po_G (po_E D R) W gr) (ha : po_ar cf (C + 1) gc) (ha' : po_ar rf (W + 1) gr) (hd : po_PD R S D K C W gc gr 0 fi se) (hx : x ≤ R) (h : ∀ r, po_wi S D K R x r → post r (nI R, fb, pt, nI C, nI W, po_m po_gL S, po_m po_gH S, po_m po_gL D, po_m po_gH D, po_m po_gB K, po_m po_gA K, cf, rf, fi, se)) : ∀ j n c : Nat, j < n → c + j = C → (∀ c' k', c' < C → k' < 4 * W → 104 * c' + k' < 104 * c → ¬ po_fst S D K R (gc c') (gr (k' / 4)) (k' % 4) = x) → wX_witness_22 post (po_e x) (nI R) fb pt (nI C) (nI W) (po_m po_gL S) (po_m po_gH S) (po_m po_gL D) (po_m po_gH D) (po_m po_gB K) (po_m po_gA K) cf rf fi se n (nI c) := by
  intro j
  have hC := hG.2.1
  have hW := hG'.2.1
  induction j with
  | zero =>
    intro n c hn hc hm
    obtain ⟨m, rfl⟩ : ∃ m, n = m + 1 := ⟨n - 1, by omega⟩
    exact br_t (nI_le (by omega) (by omega)) (h _ (po_wi_f hG hG' (fun c' k' h1 h2 => hm c' k' h1 h2 (by omega))))
  | succ j ih =>
    intro n c hn hc hm
    obtain ⟨m, rfl⟩ : ∃ m, n = m + 1 := ⟨n - 1, by omega⟩
    refine br_f (nI_ge (by omega) (by omega)) ?_
    exact ⟨4 * W + 1, po_xw32 hR hG hG' ha ha' hd hx (by omega) h (fun hm' => ih m (c + 1) (by omega) (by omega) hm') (4 * W) (4 * W + 1) 0 (by omega) (by omega) hm⟩
end
section
variable {R : Nat} {fb pt co ro : Int32} {S D K : Nat → Nat} {cf rf fi se : Nat → Int32}
theorem po_xuse {post : Int32 → SX → Prop} {x : Nat} (hok : po_ok R S D K) (hp : pt = 0 ∨ po_PT R S D K co ro cf rf fi se) (hx : x < R) (h : po_KX R fb S D K (post (po_ur (po_any (po_us1 S D K R (x + 1)) 4096) (po_any (po_us2 S D K R fb (x + 1)) 4096)))) : wpX_use post (nI R, fb, pt, co, ro, po_m po_gL S, po_m po_gH S, po_m po_gL D, po_m po_gH D, po_m po_gB K, po_m po_gA K, cf, rf, fi, se) (nI x) := by
  unfold wpX_use
  refine po_xr1 hok.1 hx (br_f (by decide) ?_)
  refine po_xpaint hok hp (fun pt C W gc gr cf rf fi se g1 g2 a1 a2 pd => ?_)
  refine ⟨104 * C + 1, po_xu22 hok.1 g1.2.1 g2.2.1 pd hx ?_ (104 * C) (104 * C + 1) 0 (by omega) (by omega)⟩
  rw [po_any1 g1 g2, po_any2 g1 g2]
  exact h pt _ _ cf rf fi se (Or.inr ⟨C, W, gc, gr, rfl, rfl, g1, g2, a1, a2, pd⟩)
theorem po_xuse0 {post : Int32 → SX → Prop} {v : Int32} (hR : R ≤ 12) (hv : ¬ po_pl R v) (h : post (-2) (nI R, fb, pt, co, ro, po_m po_gL S, po_m po_gH S, po_m po_gL D, po_m po_gH D, po_m po_gB K, po_m po_gA K, cf, rf, fi, se)) : wpX_use post (nI R, fb, pt, co, ro, po_m po_gL S, po_m po_gH S, po_m po_gL D, po_m po_gH D, po_m po_gB K, po_m po_gA K, cf, rf, fi, se) v := by
  unfold wpX_use
  exact po_xr0 hR hv (br_t rfl h)
theorem po_xw16 {post : Int32 → SX → Prop} {x : Nat} (hok : po_ok R S D K) (hp : pt = 0 ∨ po_PT R S D K co ro cf rf fi se) (hx : x ≤ R) (h : ∀ r, po_wi S D K R x r → po_KX R fb S D K (post r)) : wX_witness_16 post (po_e x) (nI R) fb pt co ro (po_m po_gL S) (po_m po_gH S) (po_m po_gL D) (po_m po_gH D) (po_m po_gB K) (po_m po_gA K) cf rf fi se := by
  unfold wX_witness_16
  refine po_xpaint hok hp (fun pt C W gc gr cf rf fi se g1 g2 a1 a2 pd => ?_)
  refine ⟨C + 1, po_xw22 hok.1 g1 g2 a1 a2 pd hx (fun r hr => ?_) C (C + 1) 0 (by omega) (by omega) (fun c' k' _ _ h3 => absurd h3 (by omega))⟩
  exact h r hr pt _ _ cf rf fi se (Or.inr ⟨C, W, gc, gr, rfl, rfl, g1, g2, a1, a2, pd⟩)
theorem po_xwitness {post : Int32 → SX → Prop} {x : Nat} (hok : po_ok R S D K) (hp : pt = 0 ∨ po_PT R S D K co ro cf rf fi se) (hx : x ≤ R) (h : ∀ r, po_wi S D K R x r → po_KX R fb S D K (post r)) : wpX_witness post (nI R, fb, pt, co, ro, po_m po_gL S, po_m po_gH S, po_m po_gL D, po_m po_gH D, po_m po_gB K, po_m po_gA K, cf, rf, fi, se) (po_e x) := by
  have k := po_xw16 hok hp hx h
  have hR := hok.1
  unfold wpX_witness
  cases x with
  | zero => exact br_t rfl k
  | succ r => exact br_f (po_e_ne (by omega)) (po_xr1 hR (by omega) (br_f (by decide) k))
theorem po_xwitness0 {post : Int32 → SX → Prop} {v : Int32} (hR : R ≤ 12) (hv : ¬ po_pe R v) (h : post (-2) (nI R, fb, pt, co, ro, po_m po_gL S, po_m po_gH S, po_m po_gL D, po_m po_gH D, po_m po_gB K, po_m po_gA K, cf, rf, fi, se)) : wpX_witness post (nI R, fb, pt, co, ro, po_m po_gL S, po_m po_gH S, po_m po_gL D, po_m po_gH D, po_m po_gB K, po_m po_gA K, cf, rf, fi, se) v := by
  unfold wpX_witness
  exact br_f (po_pe_m hv) (po_xr0 hR (po_pe_of (po_pe_m hv) hv) (br_t rfl h))
end
end
section
/-! what is owed -/
/-- both show R rules with fallback fb, sources S, destinations D, kinds K; the component's board is stale or painted by them -/
def i_Rel (_ : Nat) (u : SX) (v : SY) : Prop := ∃ (R : Nat) (fb : Int32) (S D K : Nat → Nat) (pt co ro : Int32) (cf rf fi se : Nat → Int32), po_ok R S D K ∧ (pt = 0 ∨ po_PT R S D K co ro cf rf fi se) ∧ u = (nI R, fb, pt, co, ro, po_m po_gL S, po_m po_gH S, po_m po_gL D, po_m po_gH D, po_m po_gB K, po_m po_gA K, cf, rf, fi, se) ∧ v = (nI R, fb, po_m nI S, po_m nI D, po_m nI K)
theorem i_up {k : Nat} {u : SX} {v : SY} (h : i_Rel k u v) : i_Rel (k + 5) u v := h
theorem po_rel {k R : Nat} {fb : Int32} {S D K : Nat → Nat} {pt co ro : Int32} {cf rf fi se : Nat → Int32} (hok : po_ok R S D K) (hp : pt = 0 ∨ po_PT R S D K co ro cf rf fi se) : i_Rel k (nI R, fb, pt, co, ro, po_m po_gL S, po_m po_gH S, po_m po_gL D, po_m po_gH D, po_m po_gB K, po_m po_gA K, cf, rf, fi, se) (nI R, fb, po_m nI S, po_m nI D, po_m nI K) := ⟨R, fb, S, D, K, pt, co, ro, cf, rf, fi, se, hok, hp, rfl, rfl⟩
theorem po_el {k : Nat} {P : SX → SY → Prop} (h : ∀ (R : Nat) (fb : Int32) (S D K : Nat → Nat) (pt co ro : Int32) (cf rf fi se : Nat → Int32), po_ok R S D K → (pt = 0 ∨ po_PT R S D K co ro cf rf fi se) → P (nI R, fb, pt, co, ro, po_m po_gL S, po_m po_gH S, po_m po_gL D, po_m po_gH D, po_m po_gB K, po_m po_gA K, cf, rf, fi, se) (nI R, fb, po_m nI S, po_m nI D, po_m nI K)) {u : SX} {v : SY} (I : i_Rel k u v) : P u v := by
  obtain ⟨R, fb, S, D, K, pt, co, ro, cf, rf, fi, se, hok, hp, eu, ev⟩ := I
  rw [eu, ev]
  exact h R fb S D K pt co ro cf rf fi se hok hp
theorem po_ok0 : po_ok 0 (fun _ => 0) (fun _ => 0) (fun _ => 0) := ⟨by decide, fun _ => (by decide : 0 < 1024), fun _ => (by decide : 0 < 1024), fun _ => (by decide : 0 < 64)⟩
theorem po_m0 {g : Nat → Int32} (h : g 0 = 0) : (fun _ : Nat => (0 : Int32)) = po_m g (fun _ => 0) := funext (fun _ => h.symm)
theorem i_vc0 : wpX_init (fun u => wpY_init (fun v => i_Rel 0 u v)) := by
  unfold wpX_init wpY_init
  refine ⟨0, 0, fun _ => 0, fun _ => 0, fun _ => 0, 0, 0, 0, fun _ => 0, fun _ => 0, fun _ => 0, fun _ => 0, po_ok0, Or.inl rfl, ?_, ?_⟩
  · rw [← po_m0 (g := po_gL) (by decide), ← po_m0 (g := po_gH) (by decide), ← po_m0 (g := po_gB) (by decide), ← po_m0 (g := po_gA) (by decide)]
    exact rfl
  · rw [← po_m0 (g := nI) (by decide)]
    exact rfl
theorem i_vc_insert {k : Nat} {u : SX} {v : SY} (I : i_Rel k u v) (hk : k + 5 ≤ 2560) (v1 : Int32) (v2 : Int32) (v3 : Int32) (v4 : Int32) : wpX_insert (fun r u' => wpY_insert (fun r' v' => r' = r ∧ i_Rel (k + 5) u' v') v v1 v2 v3 v4) u v1 v2 v3 v4 := by
  refine po_el (P := fun u v => wpX_insert (fun r u' => wpY_insert (fun r' v' => r' = r ∧ i_Rel (k + 5) u' v') v v1 v2 v3 v4) u v1 v2 v3 v4) ?_ I
  intro R fb S D K pt co ro cf rf fi se hok hp
  by_cases hv : po_iv R v1 v2 v3 v4
  · obtain ⟨p, xs, xd, xk, h1, h2, h3, h4, h5, rfl, rfl, rfl, rfl⟩ := hv
    obtain ⟨_, hS, hD, hK⟩ := hok
    refine po_xinsert h1 h2 h3 h4 h5 ?_
    refine po_yinsert h1 h2 h3 h4 h5 ⟨rfl, po_rel ⟨h2, po_u_b (po_up_b hS) h3, po_u_b (po_up_b hD) h4, po_u_b (po_up_b hK) h5⟩ (Or.inl rfl)⟩
  · exact po_xinsert0 hok.1 hv (po_yinsert0 hok.1 hv ⟨rfl, po_rel hok hp⟩)
theorem i_vc_remove {k : Nat} {u : SX} {v : SY} (I : i_Rel k u v) (hk : k + 5 ≤ 2560) (v1 : Int32) : wpX_remove (fun r u' => wpY_remove (fun r' v' => r' = r ∧ i_Rel (k + 5) u' v') v v1) u v1 := by
  refine po_el (P := fun u v => wpX_remove (fun r u' => wpY_remove (fun r' v' => r' = r ∧ i_Rel (k + 5) u' v') v v1) u v1) ?_ I
  intro R fb S D K pt co ro cf rf fi se hok hp
  by_cases hv : po_pl R v1
  · obtain ⟨p, h1, rfl⟩ := hv
    obtain ⟨hR, hS, hD, hK⟩ := hok
    cases R with
    | zero => exact absurd h1 (by omega)
    | succ R =>
      refine po_xremove (by omega) (by omega) ?_
      refine po_yremove (by omega) (by omega) ⟨rfl, po_rel ⟨by omega, po_dn_b hS, po_dn_b hD, po_dn_b hK⟩ (Or.inl rfl)⟩
  · exact po_xremove0 hok.1 hv (po_yremove0 hok.1 hv ⟨rfl, po_rel hok hp⟩)
theorem i_vc_shift {k : Nat} {u : SX} {v : SY} (I : i_Rel k u v) (hk : k + 5 ≤ 2560) (v1 : Int32) (v2 : Int32) : wpX_shift (fun r u' => wpY_shift (fun r' v' => r' = r ∧ i_Rel (k + 5) u' v') v v1 v2) u v1 v2 := by
  refine po_el (P := fun u v => wpX_shift (fun r u' => wpY_shift (fun r' v' => r' = r ∧ i_Rel (k + 5) u' v') v v1 v2) u v1 v2) ?_ I
  intro R fb S D K pt co ro cf rf fi se hok hp
  by_cases hv : po_pl R v1 ∧ po_pl R v2
  · obtain ⟨⟨f, h1, rfl⟩, ⟨t, h2, rfl⟩⟩ := hv
    obtain ⟨hR, hS, hD, hK⟩ := hok
    cases R with
    | zero => exact absurd h1 (by omega)
    | succ R =>
      by_cases w : f ≤ t
      · obtain ⟨d, rfl⟩ : ∃ d, t = f + d := ⟨t - f, by omega⟩
        refine po_xshU hR h2 ?_
        refine po_yshift (by omega) (by omega) (by omega) (hS f) (hD f) (hK f) ⟨rfl, ?_⟩
        rw [← po_mv_u (R := R) (by omega) S, ← po_mv_u (R := R) (by omega) D, ← po_mv_u (R := R) (by omega) K]
        exact po_rel ⟨hR, po_mv_b hS, po_mv_b hD, po_mv_b hK⟩ (Or.inl rfl)
      · obtain ⟨d, rfl⟩ : ∃ d, f = t + d := ⟨f - t, by omega⟩
        refine po_xshD hR h1 ?_
        refine po_yshift (by omega) (by omega) (by omega) (hS _) (hD _) (hK _) ⟨rfl, ?_⟩
        rw [← po_mv_d (R := R) (by omega) S, ← po_mv_d (R := R) (by omega) D, ← po_mv_d (R := R) (by omega) K]
        exact po_rel ⟨hR, po_mv_b hS, po_mv_b hD, po_mv_b hK⟩ (Or.inl rfl)
  · exact po_xshift0 hok.1 hv (po_yshift0 hok.1 hv ⟨rfl, po_rel hok hp⟩)
theorem i_vc_otherwise {k : Nat} {u : SX} {v : SY} (I : i_Rel k u v) (hk : k + 5 ≤ 2560) (v1 : Int32) : wpX_otherwise (fun r u' => wpY_otherwise (fun r' v' => r' = r ∧ i_Rel (k + 5) u' v') v v1) u v1 := by
  refine po_el (P := fun u v => wpX_otherwise (fun r u' => wpY_otherwise (fun r' v' => r' = r ∧ i_Rel (k + 5) u' v') v v1) u v1) ?_ I
  intro R fb S D K pt co ro cf rf fi se hok hp
  exact nm_e (nm_e ⟨rfl, po_rel hok hp⟩)
theorem i_vc_decide {k : Nat} {u : SX} {v : SY} (I : i_Rel k u v) (hk : k + 5 ≤ 2560) (v1 : Int32) (v2 : Int32) (v3 : Int32) : wpX_decide (fun r u' => wpY_decide (fun r' => r' = r ∧ i_Rel (k + 5) u' v) v v1 v2 v3) u v1 v2 v3 := by
  refine po_el (P := fun u v => wpX_decide (fun r u' => wpY_decide (fun r' => r' = r ∧ i_Rel (k + 5) u' v) v v1 v2 v3) u v1 v2 v3) ?_ I
  intro R fb S D K pt co ro cf rf fi se hok hp
  by_cases hv : po_pk v1 v2 v3
  · obtain ⟨s, d, t, hs, hd, ht, rfl, rfl, rfl⟩ := hv
    refine po_xdecide hok hp hs hd ht (fun pt co ro cf rf fi se hp' => ?_)
    exact po_ydecide hok.1 hok.2.1 hok.2.2.1 hok.2.2.2 hs hd ht ⟨rfl, po_rel hok hp'⟩
  · exact po_xdecide0 hv (po_ydecide0 hv ⟨rfl, po_rel hok hp⟩)
theorem i_vc_action {k : Nat} {u : SX} {v : SY} (I : i_Rel k u v) (hk : k + 5 ≤ 2560) (v1 : Int32) (v2 : Int32) (v3 : Int32) : wpX_action (fun r u' => wpY_action (fun r' => r' = r ∧ i_Rel (k + 5) u' v) v v1 v2 v3) u v1 v2 v3 := by
  refine po_el (P := fun u v => wpX_action (fun r u' => wpY_action (fun r' => r' = r ∧ i_Rel (k + 5) u' v) v v1 v2 v3) u v1 v2 v3) ?_ I
  intro R fb S D K pt co ro cf rf fi se hok hp
  by_cases hv : po_pk v1 v2 v3
  · obtain ⟨s, d, t, hs, hd, ht, rfl, rfl, rfl⟩ := hv
    refine po_xaction hok hp hs hd ht (fun pt co ro cf rf fi se hp' => ?_)
    exact po_yaction hok.1 hok.2.1 hok.2.2.1 hok.2.2.2 hs hd ht ⟨rfl, po_rel hok hp'⟩
  · exact po_xaction0 hv (po_yaction0 hv ⟨rfl, po_rel hok hp⟩)
theorem i_vc_decided {k : Nat} {u : SX} {v : SY} (I : i_Rel k u v) (hk : k + 5 ≤ 2560) (v1 : Int32) : wpX_decided (fun r u' => wpY_decided (fun r' => r' = r ∧ i_Rel (k + 5) u' v) v v1) u v1 := by
  refine po_el (P := fun u v => wpX_decided (fun r u' => wpY_decided (fun r' => r' = r ∧ i_Rel (k + 5) u' v) v v1) u v1) ?_ I
  intro R fb S D K pt co ro cf rf fi se hok hp
  by_cases hv : po_pe R v1
  · obtain ⟨x, hx, rfl⟩ := hv
    refine po_xdecided hok hp hx (fun pt co ro cf rf fi se hp' => ?_)
    exact po_ydecided hok.1 hok.2.1 hok.2.2.1 hok.2.2.2 hx ⟨rfl, po_rel hok hp'⟩
  · exact po_xdecided0 hok.1 hv (po_ydecided0 hok.1 hv ⟨rfl, po_rel hok hp⟩)
theorem i_vc_having {k : Nat} {u : SX} {v : SY} (I : i_Rel k u v) (hk : k + 5 ≤ 2560) (v1 : Int32) : wpX_having (fun r u' => wpY_having (fun r' => r' = r ∧ i_Rel (k + 5) u' v) v v1) u v1 := by
  refine po_el (P := fun u v => wpX_having (fun r u' => wpY_having (fun r' => r' = r ∧ i_Rel (k + 5) u' v) v v1) u v1) ?_ I
  intro R fb S D K pt co ro cf rf fi se hok hp
  refine po_xhaving hok hp (fun pt co ro cf rf fi se hp' => ?_)
  exact po_yhaving hok.1 hok.2.1 hok.2.2.1 hok.2.2.2 ⟨rfl, po_rel hok hp'⟩
theorem i_vc_use {k : Nat} {u : SX} {v : SY} (I : i_Rel k u v) (hk : k + 5 ≤ 2560) (v1 : Int32) : wpX_use (fun r u' => wpY_use (fun r' => r' = r ∧ i_Rel (k + 5) u' v) v v1) u v1 := by
  refine po_el (P := fun u v => wpX_use (fun r u' => wpY_use (fun r' => r' = r ∧ i_Rel (k + 5) u' v) v v1) u v1) ?_ I
  intro R fb S D K pt co ro cf rf fi se hok hp
  by_cases hv : po_pl R v1
  · obtain ⟨x, hx, rfl⟩ := hv
    refine po_xuse hok hp hx (fun pt co ro cf rf fi se hp' => ?_)
    exact po_yuse hok.1 hok.2.1 hok.2.2.1 hok.2.2.2 hx ⟨rfl, po_rel hok hp'⟩
  · exact po_xuse0 hok.1 hv (po_yuse0 hok.1 hv ⟨rfl, po_rel hok hp⟩)
theorem i_vc_witness {k : Nat} {u : SX} {v : SY} (I : i_Rel k u v) (hk : k + 5 ≤ 2560) (v1 : Int32) : wpX_witness (fun r u' => wpY_witness (fun r' => r' = r ∧ i_Rel (k + 5) u' v) v v1) u v1 := by
  refine po_el (P := fun u v => wpX_witness (fun r u' => wpY_witness (fun r' => r' = r ∧ i_Rel (k + 5) u' v) v v1) u v1) ?_ I
  intro R fb S D K pt co ro cf rf fi se hok hp
  by_cases hv : po_pe R v1
  · obtain ⟨x, hx, rfl⟩ := hv
    refine po_xwitness hok hp hx (fun r hr pt co ro cf rf fi se hp' => ?_)
    exact po_ywitness hok.1 hok.2.1 hok.2.2.1 hok.2.2.2 hx hr ⟨rfl, po_rel hok hp'⟩
  · exact po_xwitness0 hok.1 hv (po_ywitness0 hok.1 hv ⟨rfl, po_rel hok hp⟩)
end
