section
/-! pure rows to paste: stores, nI and lN arithmetic, masks, shifts, narrowing, branches by naturals (pk_le, pk_lt, pk_eq), loops (lp1 .. lp16: the measure of the state; rp1 ..: recursion), negatives. Take what you need -/
theorem pk_us {f : Nat → Int32} {k : Nat} {x : Int32} : upd f k x k = x := if_pos rfl
theorem pk_un {f : Nat → Int32} {k j : Nat} {x : Int32} (h : j ≠ k) : upd f k x j = f j := if_neg h
theorem pk_uLs {f : Nat → Int64} {k : Nat} {x : Int64} : vp_updL f k x k = x := if_pos rfl
theorem pk_uLn {f : Nat → Int64} {k j : Nat} {x : Int64} (h : j ≠ k) : vp_updL f k x j = f j := if_neg h
theorem pk_sub {a b : Nat} (h : b ≤ a) : nI a - nI b = nI (a - b) := by
  obtain ⟨c, rfl⟩ : ∃ c, a = c + b := ⟨a - b, by omega⟩
  rw [← nI_add, Int32.add_sub_cancel, Nat.add_sub_cancel]
theorem pk_m1 (n : Nat) : nI (n + 1) + (-1) = nI n := by
  rw [← nI_1, Int32.add_assoc, show (1 : Int32) + (-1) = 0 from rfl, Int32.add_zero]
theorem pk_mul (a b : Nat) : nI a * nI b = nI (a * b) := (Int32.ofNat_mul a b).symm
theorem pk_div {a d : Nat} (ha : a < 2 ^ 31) (h0 : 0 < d) (hd : d < 2 ^ 31) : nI a / nI d = nI (a / d) := by
  apply Int32.toInt_inj.mp
  rw [lg_idiv_nonneg (by rw [nI_toInt ha]; omega) (by rw [nI_toInt hd]; omega), nI_toInt ha, nI_toInt hd, nI_toInt (Nat.lt_of_le_of_lt (Nat.div_le_self a d) ha)]
  first | rfl | exact (Int.natCast_ediv _ _).symm
theorem pk_rem {a d : Nat} (ha : a < 2 ^ 31) (h0 : 0 < d) (hd : d < 2 ^ 31) : nI a - nI a / nI d * nI d = nI (a % d) := by
  rw [pk_div ha h0 hd, pk_mul, pk_sub (Nat.div_mul_le_self a d)]
  exact congrArg nI (by have := Nat.div_add_mod' a d; omega)
theorem pk_sub_toInt {a b : Nat} (ha : a < 2 ^ 30) (hb : b < 2 ^ 30) : (nI a - nI b).toInt = (a : Int) - b := by
  rw [Int32.toInt_sub, nI_toInt (by omega), nI_toInt (by omega)]
  exact Int.bmod_eq_of_le (by omega) (by omega)
theorem pk_sneg {a b : Nat} (hb : b < 2 ^ 30) (h : a < b) : nI a - nI b < 0 := by
  rw [Int32.lt_iff_toInt_lt, pk_sub_toInt (by omega) hb, show (0 : Int32).toInt = 0 from by decide]
  omega
theorem pk_ix (x : Int32) {n : Nat} (hn : n < 2 ^ 31) : x < 0 ∨ nI n ≤ x ∨ ∃ j : Nat, j < n ∧ x = nI j := by
  by_cases h : x < 0
  · exact Or.inl h
  · obtain ⟨j, hj, rfl⟩ := nI_of h
    by_cases h2 : j < n
    · exact Or.inr (Or.inr ⟨j, h2, rfl⟩)
    · exact Or.inr (Or.inl (nI_le (by omega) hj))
theorem pk_le {x y : Int32} {A B : Prop} (a b : Nat) (f : a ≤ b → A) (g : b < a → B) (hx : x = nI a := by rfl) (hy : y = nI b := by rfl) (ha : a < 2 ^ 31 := by omega) (hb : b < 2 ^ 31 := by omega) : (x ≤ y → A) ∧ (¬ x ≤ y → B) := by
  subst hx hy
  rw [nI_leI ha hb]
  exact ⟨f, fun z => g (by omega)⟩
theorem pk_lt {x y : Int32} {A B : Prop} (a b : Nat) (f : a < b → A) (g : b ≤ a → B) (hx : x = nI a := by rfl) (hy : y = nI b := by rfl) (ha : a < 2 ^ 31 := by omega) (hb : b < 2 ^ 31 := by omega) : (x < y → A) ∧ (¬ x < y → B) := by
  subst hx hy
  rw [nI_ltI ha hb]
  exact ⟨f, fun z => g (by omega)⟩
theorem pk_eq {x y : Int32} {A B : Prop} (a b : Nat) (f : a = b → A) (g : a ≠ b → B) (hx : x = nI a := by rfl) (hy : y = nI b := by rfl) (ha : a < 2 ^ 31 := by omega) (hb : b < 2 ^ 31 := by omega) : (x = y → A) ∧ (¬ x = y → B) := by
  subst hx hy
  rw [nI_eq ha hb]
  exact ⟨f, g⟩
theorem pk_in {x : Int32} (n N : Nat) (h : n < N) (hx : x = nI n := by rfl) (hN : N < 2 ^ 31 := by omega) : vp_in x N := by
  subst hx
  exact vp_in_nI h hN
theorem pk_cl {x : Int32} (n : Nat) (hx : x = nI n := by rfl) (h : n < 2 ^ 31 := by omega) : x.toNatClampNeg = n := by
  subst hx
  exact nI_clamp h
theorem pk_tn {n : Nat} (h : n < 2 ^ 32) : (nI n).toBitVec.toNat = n := Nat.mod_eq_of_lt h
theorem pk_and (x : Int32) {m : Int32} (k : Nat) (hm : m.toBitVec.toNat = 2 ^ k - 1) : x &&& m = nI (x.toBitVec.toNat % 2 ^ k) := by
  apply Int32.toBitVec_inj.mp
  apply BitVec.eq_of_toNat_eq
  rw [Int32.toBitVec_and, BitVec.toNat_and, hm, Nat.and_two_pow_sub_one_eq_mod]
  show _ = (BitVec.ofNat 32 _).toNat
  rw [BitVec.toNat_ofNat]
  exact (Nat.mod_eq_of_lt (Nat.lt_of_le_of_lt (Nat.mod_le _ _) x.toBitVec.isLt)).symm
theorem pk_andN {n : Nat} (h : n < 2 ^ 32) {m : Int32} (k : Nat) (hm : m.toBitVec.toNat = 2 ^ k - 1) : nI n &&& m = nI (n % 2 ^ k) := by
  rw [pk_and _ k hm, pk_tn h]
theorem pk_andE (x : Int32) {m : Int32} (k : Nat) (hm : m.toBitVec.toNat = 2 ^ k - 1) : ∃ j : Nat, j < 2 ^ k ∧ x &&& m = nI j := ⟨_, Nat.mod_lt _ (Nat.two_pow_pos k), pk_and x k hm⟩
theorem pk_andIn (x : Int32) {m : Int32} (k : Nat) (hm : m.toBitVec.toNat = 2 ^ k - 1) (hk : k ≤ 30) : vp_in (x &&& m) (2 ^ k) := by
  obtain ⟨j, hj, e⟩ := pk_andE x k hm
  rw [e]
  exact vp_in_nI hj (Nat.lt_of_le_of_lt (Nat.pow_le_pow_right (by decide) hk) (by decide))
theorem pk_shl (a s : Int32) (k : Nat) (hs : (s.toBitVec.smod 32).toNat = k) : (a <<< s).toBitVec.toNat = a.toBitVec.toNat * 2 ^ k % 2 ^ 32 := by
  show (a.toBitVec <<< (s.toBitVec.smod 32).toNat).toNat = _
  rw [hs, BitVec.toNat_shiftLeft, Nat.shiftLeft_eq]
theorem pk_shlN {n : Nat} (s : Int32) (k : Nat) (hs : (s.toBitVec.smod 32).toNat = k) (h : n * 2 ^ k < 2 ^ 32) : nI n <<< s = nI (n * 2 ^ k) := by
  apply Int32.toBitVec_inj.mp
  apply BitVec.eq_of_toNat_eq
  have hn : n < 2 ^ 32 := Nat.lt_of_le_of_lt (Nat.le_mul_of_pos_right n (Nat.two_pow_pos k)) h
  rw [pk_shl _ _ k hs, pk_tn hn, pk_tn h, Nat.mod_eq_of_lt h]
theorem pk_shr (a s : Int32) (k : Nat) (hs : (s.toBitVec.smod 32).toNat = k) : (a >>> s).toInt = a.toInt >>> k := by
  show (a.toBitVec.sshiftRight (s.toBitVec.smod 32).toNat).toInt = _
  rw [hs, BitVec.toInt_sshiftRight]
  rfl
theorem pk_shrN {n : Nat} (h : n < 2 ^ 31) (s : Int32) (k : Nat) (hs : (s.toBitVec.smod 32).toNat = k) : nI n >>> s = nI (n / 2 ^ k) := by
  apply Int32.toInt_inj.mp
  have h2 : n / 2 ^ k ≤ n := Nat.div_le_self _ _
  rw [pk_shr _ _ k hs, nI_toInt h, nI_toInt (by omega), Int.shiftRight_eq_div_pow]
  rfl
theorem pk_ushr (x s : Int32) (k : Nat) (hs : ((s.toUInt32 &&& Int32.toUInt32 31).toBitVec % 32).toNat = k) : (x.toUInt32 >>> (s.toUInt32 &&& Int32.toUInt32 31)).toInt32.toBitVec.toNat = x.toBitVec.toNat / 2 ^ k := by
  have e : (x.toUInt32 >>> (s.toUInt32 &&& Int32.toUInt32 31)).toInt32.toBitVec = x.toBitVec >>> k := by
    rw [← hs]
    exact UInt32.toBitVec_shiftRight _ _
  rw [e, BitVec.toNat_ushiftRight, Nat.shiftRight_eq_div_pow]
theorem pk_ushrN {n : Nat} (hn : n < 2 ^ 32) (s : Int32) (k : Nat) (hs : ((s.toUInt32 &&& Int32.toUInt32 31).toBitVec % 32).toNat = k) : ((nI n).toUInt32 >>> (s.toUInt32 &&& Int32.toUInt32 31)).toInt32 = nI (n / 2 ^ k) := by
  apply Int32.toBitVec_inj.mp
  apply BitVec.eq_of_toNat_eq
  rw [pk_ushr _ s k hs, pk_tn hn, pk_tn (Nat.lt_of_le_of_lt (Nat.div_le_self _ _) hn)]
theorem pk_lT {n : Nat} (h : n < 2 ^ 63) : (lN n).toInt = (n : Int) := lg_ofNat_toInt h
theorem pk_lLT {a b : Nat} (ha : a < 2 ^ 63) (hb : b < 2 ^ 63) : lN a < lN b ↔ a < b := by
  rw [Int64.lt_iff_toInt_lt, pk_lT ha, pk_lT hb]; omega
theorem pk_lLE {a b : Nat} (ha : a < 2 ^ 63) (hb : b < 2 ^ 63) : lN a ≤ lN b ↔ a ≤ b := by
  rw [Int64.le_iff_toInt_le, pk_lT ha, pk_lT hb]; omega
theorem pk_lEQ {a b : Nat} (ha : a < 2 ^ 63) (hb : b < 2 ^ 63) : lN a = lN b ↔ a = b := by
  rw [← Int64.toInt_inj, pk_lT ha, pk_lT hb]; omega
theorem pk_lOf {x : Int64} (h : ¬ x < 0) : ∃ k : Nat, k < 2 ^ 63 ∧ x = lN k := by
  rw [Int64.lt_iff_toInt_lt] at h
  have h0 : (0 : Int64).toInt = 0 := by decide
  have hx := Int64.toInt_lt x
  refine ⟨x.toInt.toNat, by omega, Int64.toInt_inj.mp ?_⟩
  rw [pk_lT (by omega)]
  omega
theorem pk_lDiv {a b : Nat} (ha : a < 2 ^ 63) (h0 : 0 < b) (hb : b < 2 ^ 63) : lN a / lN b = lN (a / b) := by
  apply Int64.toInt_inj.mp
  rw [lg_ldiv_nonneg (by rw [pk_lT ha]; omega) (by rw [pk_lT hb]; omega), pk_lT ha, pk_lT hb, pk_lT (Nat.lt_of_le_of_lt (Nat.div_le_self a b) ha)]
  rfl
theorem pk_lRem {a b : Nat} (ha : a < 2 ^ 63) (h0 : 0 < b) (hb : b < 2 ^ 63) : lN a - lN a / lN b * lN b = lN (a % b) := by
  rw [pk_lDiv ha h0 hb, lN_mul, lN_sub (Nat.div_mul_le_self a b)]
  exact congrArg lN (by have := Nat.div_add_mod' a b; omega)
theorem pk_loop {σ : Type} (W : Nat → Nat → σ → Prop) (I : Nat → σ → Prop) (e i0 : Nat) (s : σ) (hi : i0 ≤ e) (h0 : I i0 s) (hx : ∀ n s, I e s → W (n + 1) e s)
    (hs : ∀ n i s, i < e → I i s → (∀ s', I (i + 1) s' → W n (i + 1) s') → W (n + 1) i s) : ∃ n, W n i0 s :=
  ⟨e + 1, loop_i W I e hx hs (e + 1) i0 s hi (by omega) h0⟩
theorem pk_loopD {σ : Type} (W : Nat → Nat → σ → Prop) (I : Nat → σ → Prop) (hx : ∀ n s, I 0 s → W (n + 1) 0 s)
    (hs : ∀ n i s, I (i + 1) s → (∀ s', I i s' → W n i s') → W (n + 1) (i + 1) s) : ∀ (e : Nat) (s : σ), I e s → W (e + 1) e s := by
  intro e
  induction e with
  | zero => exact fun s h => hx 0 s h
  | succ e ih => exact fun s h => hs (e + 1) e s h (fun s' h' => ih s' h')
theorem lp1 {A1 : Type} (W : Nat → A1 → Prop) (I : A1 → Prop) (μ : A1 → Nat) (hs : ∀ (n : Nat) (a1 : A1), I a1 → (∀ (b1 : A1), I b1 → μ b1 < μ a1 → W n b1) → W (n + 1) a1) (a1 : A1) (h : I a1) : ∃ n, W n a1 :=
  loop_m (σ := A1) (fun n s => W n s) (fun s => I s) (fun s => μ s) (fun n s hI hk => hs n s hI (fun b1 h9 hm => hk b1 h9 hm)) a1 h
theorem lp2 {A1 A2 : Type} (W : Nat → A1 → A2 → Prop) (I : A1 → A2 → Prop) (μ : A1 → A2 → Nat) (hs : ∀ (n : Nat) (a1 : A1) (a2 : A2), I a1 a2 → (∀ (b1 : A1) (b2 : A2), I b1 b2 → μ b1 b2 < μ a1 a2 → W n b1 b2) → W (n + 1) a1 a2) (a1 : A1) (a2 : A2) (h : I a1 a2) : ∃ n, W n a1 a2 :=
  loop_m (σ := A1 × A2) (fun n s => W n s.1 s.2) (fun s => I s.1 s.2) (fun s => μ s.1 s.2) (fun n s hI hk => hs n s.1 s.2 hI (fun b1 b2 h9 hm => hk (b1, b2) h9 hm)) (a1, a2) h
theorem lp3 {A1 A2 A3 : Type} (W : Nat → A1 → A2 → A3 → Prop) (I : A1 → A2 → A3 → Prop) (μ : A1 → A2 → A3 → Nat) (hs : ∀ (n : Nat) (a1 : A1) (a2 : A2) (a3 : A3), I a1 a2 a3 → (∀ (b1 : A1) (b2 : A2) (b3 : A3), I b1 b2 b3 → μ b1 b2 b3 < μ a1 a2 a3 → W n b1 b2 b3) → W (n + 1) a1 a2 a3) (a1 : A1) (a2 : A2) (a3 : A3) (h : I a1 a2 a3) : ∃ n, W n a1 a2 a3 :=
  loop_m (σ := A1 × A2 × A3) (fun n s => W n s.1 s.2.1 s.2.2) (fun s => I s.1 s.2.1 s.2.2) (fun s => μ s.1 s.2.1 s.2.2) (fun n s hI hk => hs n s.1 s.2.1 s.2.2 hI (fun b1 b2 b3 h9 hm => hk (b1, b2, b3) h9 hm)) (a1, a2, a3) h
theorem pk_least (P : Nat → Prop) (h : ∃ k, P k) : ∃ k, P k ∧ ∀ j, j < k → ¬ P j := by
  obtain ⟨k, hk⟩ := h
  induction k using Nat.strongRecOn with
  | ind k ih =>
    by_cases e : ∃ j, j < k ∧ P j
    · obtain ⟨j, hj, pj⟩ := e
      exact ih j hj pj
    · exact ⟨k, hk, fun j hj pj => e ⟨j, hj, pj⟩⟩
theorem ek_if {c d A B : Prop} (e : c ↔ d) (f : d → A) (g : ¬ d → B) : (c → A) ∧ (¬ c → B) :=
  ⟨fun z => f (e.mp z), fun z => g (fun y => z (e.mpr y))⟩
theorem ek_v {α : Sort _} {P : α → Prop} {a b : α} (e : a = b) (h : P b) : P a := e ▸ h
end
section
/-- p is a prime -/
def pd_P (p : Nat) : Prop := 2 ≤ p ∧ ∀ d, d ∣ p → d = 1 ∨ d = p

theorem pd_cop {p a : Nat} (hp : pd_P p) (h : ¬ p ∣ a) : Nat.Coprime p a := by
  rcases hp.2 (Nat.gcd p a) (Nat.gcd_dvd_left p a) with e | e
  · exact e
  · have h2 := Nat.gcd_dvd_right p a
    rw [e] at h2
    exact (h h2).elim

theorem pd_ncop {p a : Nat} (hp : pd_P p) (h : Nat.Coprime p a) : ¬ p ∣ a := by
  intro hd
  have := Nat.Coprime.eq_one_of_dvd h hd
  have := hp.1
  omega

theorem pd_euc {p a b : Nat} (hp : pd_P p) (h : p ∣ a * b) : p ∣ a ∨ p ∣ b := by
  by_cases ha : p ∣ a
  · exact Or.inl ha
  · exact Or.inr ((pd_cop hp ha).dvd_of_dvd_mul_left h)

theorem pd_eucPow {p a : Nat} (hp : pd_P p) : ∀ k, p ∣ a ^ k → p ∣ a := by
  intro k
  induction k with
  | zero =>
    intro h
    rw [Nat.pow_zero] at h
    have := Nat.le_of_dvd (by decide) h
    have := hp.1
    omega
  | succ k ih =>
    intro h
    rw [Nat.pow_succ] at h
    rcases pd_euc hp h with h | h
    · exact ih h
    · exact h

theorem pd_PP {p q : Nat} (hp : pd_P p) (hq : pd_P q) (h : p ∣ q) : p = q := by
  rcases hq.2 p h with e | e
  · have := hp.1
    omega
  · exact e

theorem pd_exP : ∀ n, 2 ≤ n → ∃ p, pd_P p ∧ p ∣ n := by
  intro n
  induction n using Nat.strongRecOn with
  | ind n ih =>
    intro hn
    by_cases h : ∃ d, d ∣ n ∧ d ≠ 1 ∧ d ≠ n
    · obtain ⟨d, hd, h1, h2⟩ := h
      have hle := Nat.le_of_dvd (by omega) hd
      have hpos := Nat.pos_of_dvd_of_pos hd (by omega)
      obtain ⟨p, hp, hpd⟩ := ih d (by omega) (by omega)
      exact ⟨p, hp, Nat.dvd_trans hpd hd⟩
    · refine ⟨n, ⟨hn, fun d hd => ?_⟩, Nat.dvd_refl n⟩
      by_cases h1 : d = 1
      · exact Or.inl h1
      · by_cases h2 : d = n
        · exact Or.inr h2
        · exact (h ⟨d, hd, h1, h2⟩).elim

theorem pd_P_iff {n : Nat} (hn : 2 ≤ n) : pd_P n ↔ ∀ d, 2 ≤ d → d * d ≤ n → ¬ d ∣ n := by
  constructor
  · intro h d hd hdd hdn
    have h2 : 2 * d ≤ d * d := Nat.mul_le_mul_right d hd
    rcases h.2 d hdn with e | e <;> omega
  · intro h
    refine ⟨hn, fun d hd => ?_⟩
    by_cases h1 : d = 1
    · exact Or.inl h1
    · obtain ⟨e, he⟩ := hd
      have hd0 : d ≠ 0 := by
        intro z
        rw [z, Nat.zero_mul] at he
        omega
      have he0 : e ≠ 0 := by
        intro z
        rw [z, Nat.mul_zero] at he
        omega
      by_cases h2 : e = 1
      · right
        rw [he, h2, Nat.mul_one]
      · exfalso
        by_cases hle : d ≤ e
        · refine h d (by omega) ?_ ⟨e, he⟩
          rw [he]
          exact Nat.mul_le_mul_left d hle
        · refine h e (by omega) ?_ ⟨d, by rw [he, Nat.mul_comm]⟩
          rw [he]
          exact Nat.mul_le_mul_right e (by omega)

/-- r above 1, all its primes at least p: the next divisor that is tried -/
theorem pd_next {r p q : Nat} (hr : 1 < r) (hp : 2 ≤ p) (hs : ∀ s, pd_P s → s ∣ r → p ≤ s) (hq : (p * p ≤ r ∧ q = p) ∨ (r < p * p ∧ q = r)) :
    2 ≤ q ∧ (∀ s, pd_P s → s ∣ r → q ≤ s) ∧ (q ∣ r → pd_P q) ∧ (¬ q ∣ r → q = p ∧ p < r) := by
  rcases hq with ⟨h, rfl⟩ | ⟨h, rfl⟩
  · refine ⟨hp, hs, fun hd => ?_, fun _ => ⟨rfl, ?_⟩⟩
    · obtain ⟨s, hsP, hsd⟩ := pd_exP q hp
      have h1 := hs s hsP (Nat.dvd_trans hsd hd)
      have h2 := Nat.le_of_dvd (by omega) hsd
      have : s = q := by omega
      rw [← this]
      exact hsP
    · have : 2 * q ≤ q * q := Nat.mul_le_mul_right q hp
      omega
  · have hP : pd_P q := by
      rw [pd_P_iff (by omega)]
      intro d hd hdd hdq
      obtain ⟨s, hsP, hsd⟩ := pd_exP d hd
      have h1 := hs s hsP (Nat.dvd_trans hsd hdq)
      have h2 := Nat.le_of_dvd (by omega) hsd
      have h3 : p * p ≤ d * d := Nat.mul_le_mul (by omega) (by omega)
      omega
    refine ⟨by omega, fun s hsP hsd => ?_, fun _ => hP, fun hn => (hn (Nat.dvd_refl q)).elim⟩
    rw [pd_PP hsP hP hsd]
    exact Nat.le_refl q

theorem pd_memDvd {q : Nat} (L : List Nat) (h : q ∈ L) : q ∣ L.prod := by
  induction L with
  | nil => cases h
  | cons a t ih =>
    rw [List.prod_cons]
    rcases List.mem_cons.mp h with e | e
    · rw [e]
      exact Nat.dvd_mul_right a _
    · exact Nat.dvd_mul_left_of_dvd (ih e) a

theorem pd_dvdProd {p : Nat} (hp : pd_P p) (L : List Nat) (hL : ∀ q ∈ L, pd_P q) (h : p ∣ L.prod) : p ∈ L := by
  induction L with
  | nil =>
    rw [List.prod_nil] at h
    have := Nat.le_of_dvd (by decide) h
    have := hp.1
    omega
  | cons a t ih =>
    rw [List.prod_cons] at h
    rcases pd_euc hp h with h | h
    · rw [pd_PP hp (hL a List.mem_cons_self) h]
      exact List.mem_cons_self
    · exact List.mem_cons_of_mem a (ih (fun q hq => hL q (List.mem_cons_of_mem a hq)) h)

theorem pd_prodPos (L : List Nat) (hL : ∀ q ∈ L, 0 < q) : 0 < L.prod := by
  induction L with
  | nil => exact Nat.one_pos
  | cons a t ih =>
    rw [List.prod_cons]
    exact Nat.mul_pos (hL a List.mem_cons_self) (ih fun q hq => hL q (List.mem_cons_of_mem a hq))

theorem pd_len2 (L : List Nat) (hL : ∀ q ∈ L, 2 ≤ q) : 2 ^ L.length ≤ L.prod := by
  induction L with
  | nil => exact Nat.le_refl 1
  | cons a t ih =>
    rw [List.prod_cons, List.length_cons, Nat.pow_succ, Nat.mul_comm]
    exact Nat.mul_le_mul (hL a List.mem_cons_self) (ih fun q hq => hL q (List.mem_cons_of_mem a hq))
end
section
/-- f 1 + .. + f n -/
def pd_sm (f : Nat → Nat) : Nat → Nat
  | 0 => 0
  | n + 1 => pd_sm f n + f (n + 1)

theorem pd_smC {f g : Nat → Nat} : ∀ n, (∀ k, 1 ≤ k → k ≤ n → f k = g k) → pd_sm f n = pd_sm g n := by
  intro n
  induction n with
  | zero => exact fun _ => rfl
  | succ n ih =>
    intro h
    show pd_sm f n + f (n + 1) = pd_sm g n + g (n + 1)
    rw [ih (fun k h1 h2 => h k h1 (by omega)), h (n + 1) (by omega) (by omega)]

theorem pd_smA {f g h : Nat → Nat} : ∀ n, (∀ k, 1 ≤ k → k ≤ n → f k = g k + h k) → pd_sm f n = pd_sm g n + pd_sm h n := by
  intro n
  induction n with
  | zero => exact fun _ => rfl
  | succ n ih =>
    intro H
    show pd_sm f n + f (n + 1) = (pd_sm g n + g (n + 1)) + (pd_sm h n + h (n + 1))
    rw [ih (fun k h1 h2 => H k h1 (by omega)), H (n + 1) (by omega) (by omega)]
    omega

theorem pd_smM {f : Nat → Nat} (c : Nat) : ∀ n, pd_sm (fun k => c * f k) n = c * pd_sm f n := by
  intro n
  induction n with
  | zero => rfl
  | succ n ih =>
    show pd_sm (fun k => c * f k) n + c * f (n + 1) = c * (pd_sm f n + f (n + 1))
    rw [ih, Nat.mul_add]

theorem pd_smZ {f : Nat → Nat} : ∀ n, (∀ k, 1 ≤ k → k ≤ n → f k = 0) → pd_sm f n = 0 := by
  intro n
  induction n with
  | zero => exact fun _ => rfl
  | succ n ih =>
    intro h
    show pd_sm f n + f (n + 1) = 0
    rw [ih (fun k h1 h2 => h k h1 (by omega)), h (n + 1) (by omega) (by omega)]

theorem pd_smApp (f : Nat → Nat) (a : Nat) : ∀ b, pd_sm f (a + b) = pd_sm f a + pd_sm (fun k => f (a + k)) b := by
  intro b
  induction b with
  | zero => rfl
  | succ b ih =>
    show pd_sm f (a + b) + f (a + b + 1) = pd_sm f a + (pd_sm (fun k => f (a + k)) b + f (a + (b + 1)))
    rw [ih, Nat.add_assoc a b 1]
    omega

theorem pd_smT {f : Nat → Nat} {m n : Nat} (h : m ≤ n) (hz : ∀ k, m < k → f k = 0) : pd_sm f n = pd_sm f m := by
  obtain ⟨c, rfl⟩ : ∃ c, n = m + c := ⟨n - m, by omega⟩
  rw [pd_smApp, pd_smZ c (fun k h1 _ => hz _ (by omega)), Nat.add_zero]

theorem pd_smLe {f : Nat → Nat} (h : ∀ k, f k ≤ 1) : ∀ n, pd_sm f n ≤ n := by
  intro n
  induction n with
  | zero => exact Nat.le_refl 0
  | succ n ih =>
    show pd_sm f n + f (n + 1) ≤ n + 1
    have := h (n + 1)
    omega

theorem pd_smPer {F : Nat → Nat} {m : Nat} (h : ∀ c k, F (c * m + k) = F k) : ∀ c, pd_sm F (c * m) = c * pd_sm F m := by
  intro c
  induction c with
  | zero => rw [Nat.zero_mul, Nat.zero_mul]; rfl
  | succ c ih =>
    rw [Nat.succ_mul, pd_smApp, ih, Nat.succ_mul]
    exact congrArg (fun z => c * pd_sm F m + z) (pd_smC m (fun k _ _ => h c k))

theorem pd_smMul {p : Nat} (hp : 0 < p) {F g : Nat → Nat} (h0 : ∀ d, ¬ p ∣ d → F d = 0) (h1 : ∀ j, 1 ≤ j → F (p * j) = g j) : ∀ m, pd_sm F (p * m) = pd_sm g m := by
  intro m
  induction m with
  | zero => rw [Nat.mul_zero]; rfl
  | succ m ih =>
    rw [Nat.mul_succ, pd_smApp, ih]
    have hb : pd_sm (fun k => F (p * m + k)) p = g (m + 1) := by
      obtain ⟨q, rfl⟩ : ∃ q, p = q + 1 := ⟨p - 1, by omega⟩
      show pd_sm (fun k => F ((q + 1) * m + k)) q + F ((q + 1) * m + (q + 1)) = g (m + 1)
      rw [pd_smZ, Nat.zero_add, ← Nat.mul_succ, h1 (m + 1) (by omega)]
      intro k hk hkq
      refine h0 _ (fun hd => ?_)
      rw [Nat.dvd_add_right (Nat.dvd_mul_right (q + 1) m)] at hd
      have := Nat.le_of_dvd (by omega) hd
      omega
    rw [hb]
    rfl

/-! sums over the divisors -/
def pd_S (f : Nat → Nat) (n : Nat) : Nat := pd_sm (fun d => if n % d = 0 then f d else 0) n
def pd_U (f : Nat → Nat) (p n : Nat) : Nat := pd_sm (fun d => if n % d = 0 ∧ d % p ≠ 0 then f d else 0) n
def pd_G (c : Nat) : Nat → Nat
  | 0 => 1
  | r + 1 => c * pd_G c r + 1

theorem pd_uEq {p m d : Nat} (hp : pd_P p) (hd : d % p ≠ 0) : (p * m) % d = 0 ↔ m % d = 0 := by
  rw [← Nat.dvd_iff_mod_eq_zero, ← Nat.dvd_iff_mod_eq_zero]
  constructor
  · intro h
    exact (pd_cop hp (fun z => hd (Nat.mod_eq_zero_of_dvd z))).symm.dvd_of_dvd_mul_left h
  · intro h
    exact Nat.dvd_mul_left_of_dvd h p

theorem pd_Utail {f : Nat → Nat} {p m : Nat} (hp : pd_P p) (hm : 0 < m) :
    pd_sm (fun d => if (p * m) % d = 0 ∧ d % p ≠ 0 then f d else 0) (p * m) = pd_U f p m := by
  have e : pd_sm (fun d => if (p * m) % d = 0 ∧ d % p ≠ 0 then f d else 0) (p * m) = pd_sm (fun d => if m % d = 0 ∧ d % p ≠ 0 then f d else 0) (p * m) := by
    refine pd_smC _ (fun k _ _ => ?_)
    show (if (p * m) % k = 0 ∧ k % p ≠ 0 then f k else 0) = (if m % k = 0 ∧ k % p ≠ 0 then f k else 0)
    by_cases hk : k % p ≠ 0
    · by_cases hm : m % k = 0
      · rw [if_pos ⟨(pd_uEq hp hk).mpr hm, hk⟩, if_pos ⟨hm, hk⟩]
      · rw [if_neg (fun z => hm ((pd_uEq hp hk).mp z.1)), if_neg (fun z => hm z.1)]
    · rw [if_neg (fun z => hk z.2), if_neg (fun z => hk z.2)]
  rw [e]
  refine pd_smT (Nat.le_mul_of_pos_left m (by have := hp.1; omega)) (fun k hk => ?_)
  refine if_neg (fun z => ?_)
  have := Nat.le_of_dvd hm (Nat.dvd_of_mod_eq_zero z.1)
  omega

theorem pd_Upow {f : Nat → Nat} {p m : Nat} (hp : pd_P p) (hm : 0 < m) : pd_U f p (p * m) = pd_U f p m := pd_Utail hp hm

theorem pd_US {f : Nat → Nat} {p m : Nat} (h : ¬ p ∣ m) : pd_U f p m = pd_S f m := by
  refine pd_smC _ (fun k _ _ => ?_)
  show (if m % k = 0 ∧ k % p ≠ 0 then f k else 0) = (if m % k = 0 then f k else 0)
  by_cases hk : m % k = 0
  · rw [if_pos hk, if_pos ⟨hk, fun z => h (Nat.dvd_trans (Nat.dvd_of_mod_eq_zero z) (Nat.dvd_of_mod_eq_zero hk))⟩]
  · rw [if_neg hk, if_neg (fun z => hk z.1)]

theorem pd_Sstep {f : Nat → Nat} {c p m : Nat} (hp : pd_P p) (hm : 0 < m) (hf : ∀ d, f (p * d) = c * f d) : pd_S f (p * m) = c * pd_S f m + pd_U f p m := by
  have hp0 : 0 < p := by have := hp.1; omega
  have e : pd_S f (p * m) = pd_sm (fun d => if (p * m) % d = 0 ∧ d % p = 0 then f d else 0) (p * m) + pd_sm (fun d => if (p * m) % d = 0 ∧ d % p ≠ 0 then f d else 0) (p * m) := by
    refine pd_smA _ (fun k _ _ => ?_)
    show (if (p * m) % k = 0 then f k else 0) = (if (p * m) % k = 0 ∧ k % p = 0 then f k else 0) + (if (p * m) % k = 0 ∧ k % p ≠ 0 then f k else 0)
    by_cases h1 : (p * m) % k = 0
    · by_cases h2 : k % p = 0
      · rw [if_pos h1, if_pos ⟨h1, h2⟩, if_neg (fun z => z.2 h2), Nat.add_zero]
      · rw [if_pos h1, if_neg (fun z => h2 z.2), if_pos ⟨h1, h2⟩, Nat.zero_add]
    · rw [if_neg h1, if_neg (fun z => h1 z.1), if_neg (fun z => h1 z.1)]
  rw [e, pd_Utail hp hm]
  have e2 : pd_sm (fun d => if (p * m) % d = 0 ∧ d % p = 0 then f d else 0) (p * m) = pd_sm (fun j => c * (if m % j = 0 then f j else 0)) m := by
    refine pd_smMul hp0 (fun d hd => if_neg (fun z => hd (Nat.dvd_of_mod_eq_zero z.2))) (fun j _ => ?_) m
    show (if (p * m) % (p * j) = 0 ∧ (p * j) % p = 0 then f (p * j) else 0) = c * (if m % j = 0 then f j else 0)
    have h3 : (p * m) % (p * j) = p * (m % j) := Nat.mul_mod_mul_left p m j
    by_cases h : m % j = 0
    · rw [if_pos ⟨by rw [h3, h, Nat.mul_zero], Nat.mul_mod_right p j⟩, if_pos h, hf]
    · rw [if_neg (fun z => ?_), if_neg h, Nat.mul_zero]
      have h4 := z.1
      rw [h3] at h4
      rcases Nat.mul_eq_zero.mp h4 with h5 | h5
      · omega
      · exact h h5
  rw [e2, pd_smM]
  rfl

theorem pd_Upows {f : Nat → Nat} {p m : Nat} (hp : pd_P p) (hm : 0 < m) : ∀ r, pd_U f p (m * p ^ r) = pd_U f p m := by
  intro r
  induction r with
  | zero => rw [Nat.pow_zero, Nat.mul_one]
  | succ r ih =>
    have e : m * p ^ (r + 1) = p * (m * p ^ r) := by rw [Nat.pow_succ, Nat.mul_comm p, Nat.mul_assoc]
    rw [e, pd_Upow hp (Nat.mul_pos hm (Nat.pow_pos (by have := hp.1; omega))), ih]

theorem pd_Spow {f : Nat → Nat} {c p m : Nat} (hp : pd_P p) (hm : 0 < m) (hpm : ¬ p ∣ m) (hf : ∀ d, f (p * d) = c * f d) : ∀ r, pd_S f (m * p ^ r) = pd_S f m * pd_G c r := by
  intro r
  induction r with
  | zero => rw [Nat.pow_zero, Nat.mul_one]; exact (Nat.mul_one _).symm
  | succ r ih =>
    have e : m * p ^ (r + 1) = p * (m * p ^ r) := by rw [Nat.pow_succ, Nat.mul_comm p, Nat.mul_assoc]
    rw [e, pd_Sstep hp (Nat.mul_pos hm (Nat.pow_pos (by have := hp.1; omega))) hf, ih, pd_Upows hp hm, pd_US hpm]
    show c * (pd_S f m * pd_G c r) + pd_S f m = pd_S f m * (c * pd_G c r + 1)
    rw [Nat.mul_add, Nat.mul_one, Nat.mul_left_comm]

theorem pd_G1 : ∀ r, pd_G 1 r = r + 1 := by
  intro r
  induction r with
  | zero => rfl
  | succ r ih =>
    show 1 * pd_G 1 r + 1 = r + 1 + 1
    rw [ih, Nat.one_mul]

/-! the count of the coprime numbers -/
def pd_phi (n : Nat) : Nat := pd_sm (fun k => if Nat.gcd k n = 1 then 1 else 0) n

theorem pd_phiLe (n : Nat) : pd_phi n ≤ n := by
  refine pd_smLe (fun k => ?_) n
  show (if Nat.gcd k n = 1 then 1 else 0) ≤ 1
  by_cases h : Nat.gcd k n = 1
  · rw [if_pos h]; exact Nat.le_refl 1
  · rw [if_neg h]; exact Nat.zero_le 1

theorem pd_phiPer (m : Nat) : ∀ c, pd_sm (fun k => if Nat.gcd k m = 1 then 1 else 0) (c * m) = c * pd_phi m := by
  refine pd_smPer (fun c k => ?_)
  show (if Nat.gcd (c * m + k) m = 1 then 1 else 0) = (if Nat.gcd k m = 1 then 1 else 0)
  have e : Nat.gcd (c * m + k) m = Nat.gcd k m := by rw [Nat.add_comm]; exact Nat.gcd_add_mul_right_left m k c
  simp only [e]

theorem pd_phi1 {p m : Nat} (h : p ∣ m) : pd_phi (p * m) = p * pd_phi m := by
  rw [← pd_phiPer m p]
  refine pd_smC _ (fun k _ _ => ?_)
  show (if Nat.gcd k (p * m) = 1 then 1 else 0) = (if Nat.gcd k m = 1 then 1 else 0)
  by_cases hk : Nat.gcd k m = 1
  · have h1 : Nat.Coprime k m := hk
    have h2 : Nat.Coprime k p := h1.coprime_dvd_right h
    rw [if_pos hk, if_pos (h2.mul_right h1)]
  · rw [if_neg hk, if_neg]
    intro z
    have h1 : Nat.Coprime k (p * m) := z
    exact hk h1.coprime_mul_left_right

theorem pd_phi2 {p m : Nat} (hp : pd_P p) (h : ¬ p ∣ m) : pd_phi (p * m) = (p - 1) * pd_phi m := by
  have e : pd_sm (fun k => if Nat.gcd k m = 1 then 1 else 0) (p * m) = pd_phi (p * m) + pd_sm (fun k => if Nat.gcd k m = 1 ∧ k % p = 0 then 1 else 0) (p * m) := by
    refine pd_smA _ (fun k _ _ => ?_)
    show (if Nat.gcd k m = 1 then 1 else 0) = (if Nat.gcd k (p * m) = 1 then 1 else 0) + (if Nat.gcd k m = 1 ∧ k % p = 0 then 1 else 0)
    by_cases h1 : Nat.gcd k m = 1
    · have h1' : Nat.Coprime k m := h1
      by_cases h2 : k % p = 0
      · have hn : ¬ Nat.gcd k (p * m) = 1 := by
          intro z
          have z' : Nat.Coprime k (p * m) := z
          exact pd_ncop hp z'.coprime_mul_right_right.symm (Nat.dvd_of_mod_eq_zero h2)
        rw [if_pos h1, if_neg hn, if_pos ⟨h1, h2⟩]
      · have h3 : Nat.Coprime k p := (pd_cop hp (fun z => h2 (Nat.mod_eq_zero_of_dvd z))).symm
        have hn : Nat.gcd k (p * m) = 1 := h3.mul_right h1'
        rw [if_pos h1, if_pos hn, if_neg (fun z => h2 z.2)]
    · have hn : ¬ Nat.gcd k (p * m) = 1 := by
        intro z
        have z' : Nat.Coprime k (p * m) := z
        exact h1 z'.coprime_mul_left_right
      rw [if_neg h1, if_neg hn, if_neg (fun z => h1 z.1)]
  have e2 : pd_sm (fun k => if Nat.gcd k m = 1 ∧ k % p = 0 then 1 else 0) (p * m) = pd_phi m := by
    refine pd_smMul (by have := hp.1; omega) (fun d hd => if_neg (fun z => hd (Nat.dvd_of_mod_eq_zero z.2))) (fun j _ => ?_) m
    show (if Nat.gcd (p * j) m = 1 ∧ (p * j) % p = 0 then 1 else 0) = (if Nat.gcd j m = 1 then 1 else 0)
    have e3 : Nat.gcd (p * j) m = Nat.gcd j m := (pd_cop hp h).gcd_mul_left_cancel j
    simp only [e3]
    by_cases h1 : Nat.gcd j m = 1
    · rw [if_pos ⟨h1, Nat.mul_mod_right p j⟩, if_pos h1]
    · rw [if_neg (fun z => h1 z.1), if_neg h1]
  rw [pd_phiPer, e2] at e
  obtain ⟨q, rfl⟩ : ∃ q, p = q + 1 := ⟨p - 1, by have := hp.1; omega⟩
  rw [Nat.succ_mul] at e
  rw [Nat.add_sub_cancel]
  omega
end
section
/-! rests that are 1 -/
theorem pd_m1 {x n : Nat} (hx : 1 ≤ x) : x % n = 1 % n ↔ n ∣ x - 1 := by
  constructor
  · intro h
    exact Nat.dvd_of_mod_eq_zero (Nat.sub_mod_eq_zero_of_mod_eq h)
  · rintro ⟨c, hc⟩
    have e : x = 1 + n * c := by omega
    rw [e, Nat.add_mul_mod_self_left]

theorem pd_1mod {n : Nat} (h : 2 ≤ n) : 1 % n = 1 := Nat.mod_eq_of_lt h

theorem pd_powC {a b n : Nat} (k : Nat) (h : a % n = b % n) : a ^ k % n = b ^ k % n := by
  rw [Nat.pow_mod, h, ← Nat.pow_mod]

theorem pd_mulC {a b c d n : Nat} (h : a % n = b % n) (h2 : c % n = d % n) : a * c % n = b * d % n := by
  rw [Nat.mul_mod, h, h2, ← Nat.mul_mod]

/-! binomials -/
def pd_ch : Nat → Nat → Nat
  | 0, 0 => 1
  | 0, _ + 1 => 0
  | _ + 1, 0 => 1
  | n + 1, k + 1 => pd_ch n k + pd_ch n (k + 1)

theorem pd_ch0 (n : Nat) : pd_ch n 0 = 1 := by cases n <;> rfl
theorem pd_chS (n k : Nat) : pd_ch (n + 1) (k + 1) = pd_ch n k + pd_ch n (k + 1) := rfl

theorem pd_chZ : ∀ n k, n < k → pd_ch n k = 0 := by
  intro n
  induction n with
  | zero =>
    intro k hk
    obtain ⟨j, rfl⟩ : ∃ j, k = j + 1 := ⟨k - 1, by omega⟩
    rfl
  | succ n ih =>
    intro k hk
    obtain ⟨j, rfl⟩ : ∃ j, k = j + 1 := ⟨k - 1, by omega⟩
    rw [pd_chS, ih j (by omega), ih (j + 1) (by omega)]

theorem pd_chN : ∀ n, pd_ch n n = 1 := by
  intro n
  induction n with
  | zero => rfl
  | succ n ih => rw [pd_chS, ih, pd_chZ n (n + 1) (by omega)]

theorem pd_chA : ∀ n k, (k + 1) * pd_ch (n + 1) (k + 1) = (n + 1) * pd_ch n k := by
  intro n
  induction n with
  | zero =>
    intro k
    rw [pd_chS]
    cases k with
    | zero => rfl
    | succ k => rw [pd_chZ 0 (k + 1) (by omega), pd_chZ 0 (k + 1 + 1) (by omega), Nat.add_zero, Nat.mul_zero, Nat.mul_zero]
  | succ n ih =>
    intro k
    rw [pd_chS]
    cases k with
    | zero =>
      have h := ih 0
      rw [pd_ch0] at h
      rw [pd_ch0]
      omega
    | succ k =>
      have h1 := ih k
      have h2 := ih (k + 1)
      have h3 := pd_chS n k
      have e1 : (k + 1 + 1) * (pd_ch (n + 1) (k + 1) + pd_ch (n + 1) (k + 1 + 1)) = (k + 1) * pd_ch (n + 1) (k + 1) + pd_ch (n + 1) (k + 1) + (k + 1 + 1) * pd_ch (n + 1) (k + 1 + 1) := by
        rw [Nat.mul_add, Nat.succ_mul (k + 1)]
      have e2 : (n + 1 + 1) * pd_ch (n + 1) (k + 1) = (n + 1) * pd_ch (n + 1) (k + 1) + pd_ch (n + 1) (k + 1) := Nat.succ_mul (n + 1) _
      have e3 : (n + 1) * pd_ch (n + 1) (k + 1) = (n + 1) * pd_ch n k + (n + 1) * pd_ch n (k + 1) := by rw [h3, Nat.mul_add]
      rw [e1, e2, h1, h2]
      omega

def pd_bs (a n : Nat) : Nat → Nat
  | 0 => 0
  | k + 1 => pd_bs a n k + pd_ch n k * a ^ k

theorem pd_bsS (a n : Nat) : ∀ k, pd_bs a (n + 1) (k + 1) = pd_bs a n (k + 1) + a * pd_bs a n k := by
  intro k
  induction k with
  | zero =>
    show 0 + pd_ch (n + 1) 0 * a ^ 0 = 0 + pd_ch n 0 * a ^ 0 + a * 0
    rw [pd_ch0, pd_ch0, Nat.mul_zero, Nat.add_zero]
  | succ k ih =>
    have e1 : pd_bs a (n + 1) (k + 1 + 1) = pd_bs a (n + 1) (k + 1) + pd_ch (n + 1) (k + 1) * a ^ (k + 1) := rfl
    have e2 : pd_bs a n (k + 1 + 1) = pd_bs a n (k + 1) + pd_ch n (k + 1) * a ^ (k + 1) := rfl
    have e3 : a * pd_bs a n (k + 1) = a * pd_bs a n k + pd_ch n k * a ^ (k + 1) := by
      show a * (pd_bs a n k + pd_ch n k * a ^ k) = _
      rw [Nat.mul_add, Nat.pow_succ, Nat.mul_left_comm, Nat.mul_comm a (a ^ k)]
    rw [e1, e2, e3, ih, pd_chS, Nat.add_mul]
    omega

theorem pd_bin (a : Nat) : ∀ n, (a + 1) ^ n = pd_bs a n (n + 1) := by
  intro n
  induction n with
  | zero => rfl
  | succ n ih =>
    have e : pd_bs a n (n + 1 + 1) = pd_bs a n (n + 1) := by
      show pd_bs a n (n + 1) + pd_ch n (n + 1) * a ^ (n + 1) = _
      rw [pd_chZ n (n + 1) (by omega), Nat.zero_mul, Nat.add_zero]
    rw [pd_bsS, e, Nat.pow_succ, ih, Nat.mul_add, Nat.mul_one, Nat.mul_comm, Nat.add_comm]

theorem pd_chP {p k : Nat} (hp : pd_P p) (hk : k + 1 < p) : p ∣ pd_ch p (k + 1) := by
  obtain ⟨n, rfl⟩ : ∃ n, p = n + 1 := ⟨p - 1, by omega⟩
  have h := pd_chA n k
  have hd : (n + 1) ∣ (k + 1) * pd_ch (n + 1) (k + 1) := by rw [h]; exact Nat.dvd_mul_right _ _
  rcases pd_euc hp hd with h1 | h1
  · have := Nat.le_of_dvd (by omega) h1
    omega
  · exact h1

theorem pd_bsP {p : Nat} (hp : pd_P p) (a : Nat) : ∀ k, k + 1 ≤ p → pd_bs a p (k + 1) % p = 1 % p := by
  intro k
  induction k with
  | zero =>
    intro _
    show (0 + pd_ch p 0 * a ^ 0) % p = 1 % p
    rw [pd_ch0, Nat.zero_add, Nat.one_mul, Nat.pow_zero]
  | succ k ih =>
    intro hk
    show (pd_bs a p (k + 1) + pd_ch p (k + 1) * a ^ (k + 1)) % p = 1 % p
    obtain ⟨c, hc⟩ := pd_chP hp (k := k) (by omega)
    rw [hc, Nat.mul_assoc, Nat.add_mul_mod_self_left]
    exact ih (by omega)

theorem pd_fer0 {p : Nat} (hp : pd_P p) : ∀ a, a ^ p % p = a % p := by
  intro a
  induction a with
  | zero => rw [Nat.zero_pow (by have := hp.1; omega)]
  | succ a ih =>
    rw [pd_bin]
    show (pd_bs a p p + pd_ch p p * a ^ p) % p = (a + 1) % p
    obtain ⟨k, hk⟩ : ∃ k, p = k + 1 := ⟨p - 1, by have := hp.1; omega⟩
    have h1 : pd_bs a p p % p = 1 % p := by
      have h2 := pd_bsP hp a k (by omega)
      rw [← hk] at h2
      exact h2
    rw [pd_chN, Nat.one_mul, Nat.add_mod, h1, ih, ← Nat.add_mod, Nat.add_comm]

theorem pd_fermat {p a : Nat} (hp : pd_P p) (ha : ¬ p ∣ a) : a ^ (p - 1) % p = 1 % p := by
  have h := pd_fer0 hp a
  obtain ⟨q, rfl⟩ : ∃ q, p = q + 1 := ⟨p - 1, by have := hp.1; omega⟩
  have ha0 : 0 < a := by
    rcases Nat.eq_zero_or_pos a with e | e
    · rw [e] at ha
      exact (ha (Nat.dvd_zero _)).elim
    · exact e
  have h1 := Nat.dvd_of_mod_eq_zero (Nat.sub_mod_eq_zero_of_mod_eq h)
  have e : a ^ (q + 1) - a = (a ^ q - 1) * a := by rw [Nat.sub_mul, Nat.one_mul, Nat.pow_succ]
  rw [e] at h1
  rw [Nat.add_sub_cancel, pd_m1 (Nat.pow_pos ha0)]
  rcases pd_euc hp h1 with h2 | h2
  · exact h2
  · exact (ha h2).elim

/-! the step from m to p * m, p a divisor of m -/
theorem pd_lift {p c t : Nat} : ∀ k, ∃ s, (1 + p * c * t) ^ k = 1 + k * (p * c * t) + p * (p * c) * s := by
  intro k
  induction k with
  | zero => exact ⟨0, by rw [Nat.pow_zero, Nat.zero_mul, Nat.mul_zero]⟩
  | succ k ih =>
    obtain ⟨s, hs⟩ := ih
    refine ⟨s + c * k * t * t + s * (p * c * t), ?_⟩
    rw [Nat.pow_succ, hs]
    grind

theorem pd_euler (L : List Nat) (hL : ∀ q ∈ L, pd_P q) {a : Nat} (ha0 : 0 < a) (ha : Nat.Coprime a L.prod) : a ^ pd_phi L.prod % L.prod = 1 % L.prod := by
  induction L with
  | nil => rw [List.prod_nil, Nat.mod_one, Nat.mod_one]
  | cons p t ih =>
    have hp := hL p List.mem_cons_self
    have ht : ∀ q ∈ t, pd_P q := fun q hq => hL q (List.mem_cons_of_mem p hq)
    rw [List.prod_cons] at ha ⊢
    have ih := ih ht ha.coprime_mul_left_right
    have hap : ¬ p ∣ a := pd_ncop hp ha.coprime_mul_right_right.symm
    generalize t.prod = m at *
    by_cases h : p ∣ m
    · rw [pd_phi1 h]
      rw [pd_m1 (Nat.pow_pos ha0)] at ih ⊢
      obtain ⟨c, rfl⟩ := h
      obtain ⟨t, ht⟩ := ih
      have e : a ^ pd_phi (p * c) = 1 + p * c * t := by
        have := Nat.pow_pos (n := pd_phi (p * c)) ha0
        omega
      rw [Nat.mul_comm p (pd_phi (p * c)), Nat.pow_mul, e]
      obtain ⟨s, hs⟩ := pd_lift (p := p) (c := c) (t := t) p
      rw [hs]
      refine ⟨t + s, ?_⟩
      rw [Nat.add_assoc, Nat.add_sub_cancel_left, Nat.mul_add, Nat.mul_assoc p (p * c) t]
    · rw [pd_phi2 hp h, pd_m1 (Nat.pow_pos ha0)]
      refine (pd_cop hp h).mul_dvd_of_dvd_of_dvd ?_ ?_
      · rw [← pd_m1 (Nat.pow_pos ha0), Nat.pow_mul, Nat.pow_mod, pd_fermat hp hap, ← Nat.pow_mod, Nat.one_pow]
      · rw [← pd_m1 (Nat.pow_pos ha0), Nat.mul_comm, Nat.pow_mul, Nat.pow_mod, ih, ← Nat.pow_mod, Nat.one_pow]

/-! the order of a rest -/
def pd_O (n a o : Nat) : Prop := 1 ≤ o ∧ a ^ o % n = 1 ∧ ∀ j, 1 ≤ j → j < o → a ^ j % n ≠ 1

theorem pd_Oex {n a e : Nat} (he : 1 ≤ e) (h : a ^ e % n = 1) : ∃ o, pd_O n a o ∧ o ≤ e := by
  obtain ⟨o, ⟨h1, h2⟩, h3⟩ := pk_least (fun o => 1 ≤ o ∧ a ^ o % n = 1) ⟨e, he, h⟩
  refine ⟨o, ⟨h1, h2, fun j hj hjo hn => h3 j hjo ⟨hj, hn⟩⟩, ?_⟩
  by_cases hle : o ≤ e
  · exact hle
  · exact (h3 e (by omega) ⟨he, h⟩).elim

theorem pd_Omul {n a o : Nat} (hn : 2 ≤ n) (h : pd_O n a o) (k : Nat) : a ^ (o * k) % n = 1 := by
  rw [Nat.pow_mul, Nat.pow_mod, h.2.1, Nat.one_pow, pd_1mod hn]

theorem pd_Odvd {n a o k : Nat} (hn : 2 ≤ n) (h : pd_O n a o) (hk : a ^ k % n = 1) : o ∣ k := by
  have e : a ^ k % n = a ^ (k % o) % n := by
    have e1 : k = o * (k / o) + k % o := (Nat.div_add_mod k o).symm
    have e2 : a ^ k = a ^ (o * (k / o)) * a ^ (k % o) := by rw [← Nat.pow_add, ← e1]
    rw [e2, Nat.mul_mod, pd_Omul hn h, Nat.one_mul, Nat.mod_mod]
  rw [e] at hk
  by_cases hr : k % o = 0
  · exact Nat.dvd_of_mod_eq_zero hr
  · exact (h.2.2 (k % o) (by omega) (Nat.mod_lt k h.1) hk).elim

theorem pd_Ouniq {n a o o' : Nat} (h : pd_O n a o) (h' : pd_O n a o') : o = o' := by
  by_cases h1 : o < o'
  · exact (h'.2.2 o h.1 h1 h.2.1).elim
  · by_cases h2 : o' < o
    · exact (h.2.2 o' h'.1 h2 h'.2.1).elim
    · omega

/-! generators -/
def pd_Gen (n g : Nat) : Prop := ∀ q, pd_P q → q ∣ n - 1 → g ^ ((n - 1) / q) % n ≠ 1

theorem pd_GenO {p g o : Nat} (hp : pd_P p) (hg : ¬ p ∣ g) (h : pd_O p g o) : o = p - 1 ↔ pd_Gen p g := by
  have h2 := hp.1
  constructor
  · rintro rfl q hq hqd
    have hle := Nat.le_of_dvd (by omega) hqd
    have hq2 := hq.1
    refine h.2.2 _ (Nat.div_pos hle (by omega)) (Nat.div_lt_self (by omega) (by omega))
  · intro hG
    have hf := pd_fermat hp hg
    rw [pd_1mod h2] at hf
    obtain ⟨c, hc⟩ := pd_Odvd h2 h hf
    by_cases hc1 : c = 1
    · rw [hc, hc1, Nat.mul_one]
    · have hc0 : c ≠ 0 := by
        intro z
        rw [z, Nat.mul_zero] at hc
        omega
      obtain ⟨q, hq, d, hd⟩ := pd_exP c (by omega)
      have hq2 := hq.1
      exfalso
      have e : p - 1 = q * (o * d) := by rw [hc, hd, Nat.mul_left_comm]
      refine hG q hq ⟨o * d, e⟩ ?_
      rw [e, Nat.mul_div_cancel_left _ (by omega)]
      exact pd_Omul h2 h d

/-! roots of 1 and of equal squares -/
theorem pd_sq1 {p y : Nat} (hp : pd_P p) (hy : y < p) (h : y * y % p = 1) : y = 1 ∨ y = p - 1 := by
  have h2 := hp.1
  have hy0 : 1 ≤ y := by
    rcases Nat.eq_zero_or_pos y with e | e
    · rw [e, Nat.mul_zero, Nat.zero_mod] at h
      omega
    · exact e
  obtain ⟨z, rfl⟩ : ∃ z, y = z + 1 := ⟨y - 1, by omega⟩
  have h3 : p ∣ (z + 1) * (z + 1) - 1 := by
    rw [← pd_m1 (Nat.mul_pos hy0 hy0), h, pd_1mod h2]
  have e : (z + 1) * (z + 1) - 1 = z * (z + 2) := by
    have : (z + 1) * (z + 1) = z * (z + 2) + 1 := by grind
    omega
  rw [e] at h3
  rcases pd_euc hp h3 with h4 | h4
  · left
    rcases Nat.eq_zero_or_pos z with e | e
    · omega
    · have := Nat.le_of_dvd e h4
      omega
  · right
    have := Nat.le_of_dvd (by omega) h4
    omega

theorem pd_sqE {p x y : Nat} (hp : pd_P p) (hx : x < p) (hy : y ≤ x) (h : x * x % p = y * y % p) : x = y ∨ x + y = p := by
  have h3 := Nat.dvd_of_mod_eq_zero (Nat.sub_mod_eq_zero_of_mod_eq h)
  obtain ⟨z, rfl⟩ : ∃ z, x = y + z := ⟨x - y, by omega⟩
  have e : (y + z) * (y + z) - y * y = z * (y + z + y) := by
    have : (y + z) * (y + z) = y * y + z * (y + z + y) := by grind
    omega
  rw [e] at h3
  rcases pd_euc hp h3 with h4 | h4
  · left
    rcases Nat.eq_zero_or_pos z with e | e
    · omega
    · have := Nat.le_of_dvd e h4
      omega
  · rcases Nat.eq_zero_or_pos (y + z + y) with e | e
    · left
      omega
    · right
      obtain ⟨c, hc⟩ := h4
      have hc0 : c ≠ 0 := by
        intro w
        rw [w, Nat.mul_zero] at hc
        omega
      by_cases hc1 : c = 1
      · rw [hc1, Nat.mul_one] at hc
        omega
      · have : p * 2 ≤ p * c := Nat.mul_le_mul_left p (by omega)
        omega
end
section
/-! the tables: primes by trial, the test with bases 2 and 3, generators, gaps -/
def pd_pl : List Nat := [2, 3, 5, 7, 11, 13, 17, 19, 23, 29, 31, 37, 41, 43, 47, 53, 59, 61, 67, 71, 73, 79, 83, 89, 97, 101, 103, 107, 109, 113, 127, 131, 137, 139, 149, 151, 157, 163, 167, 173, 179, 181]
def pd_tr (n : Nat) : List Nat → Bool
  | [] => true
  | q :: t => cond (Nat.blt n (q * q)) true (cond (Nat.beq (n % q) 0) false (pd_tr n t))
def pd_pr (n : Nat) : Bool := cond (Nat.ble 2 n) (pd_tr n pd_pl) false
def pd_sq (n : Nat) : Nat → Nat → Bool
  | 0, _ => false
  | t + 1, x => cond (Nat.beq x (n - 1)) true (pd_sq n t (x * x % n))
def pd_ps (n b : Nat) : Nat → Nat → Nat → Bool
  | 0, _, _ => false
  | k + 1, o, t => cond (Nat.beq (o % 2) 0) (pd_ps n b k (o / 2) (t + 1)) (cond (Nat.beq (b ^ o % n) 1) true (pd_sq n t (b ^ o % n)))
def pd_pt (n : Nat) : Bool := cond (Nat.ble 4 n) (cond (Nat.beq (n % 2) 0) false (cond (Nat.beq (n % 3) 0) false (cond (pd_ps n 2 16 (n - 1) 0) (pd_ps n 3 16 (n - 1) 0) false))) (Nat.ble 2 n)
def pd_sd (q : Nat) : Nat → Nat → Nat
  | 0, r => r
  | k + 1, r => cond (Nat.beq (r % q) 0) (pd_sd q k (r / q)) r
def pd_gl (n g : Nat) : Nat → Nat → Nat → Bool
  | 0, _, _ => false
  | k + 1, r, p => cond (Nat.ble r 1) true (cond (Nat.ble (p * p) r)
      (cond (Nat.beq (r % p) 0) (cond (Nat.beq (g ^ ((n - 1) / p) % n) 1) false (pd_gl n g k (pd_sd p 16 r) (p + 1))) (pd_gl n g k r (p + 1)))
      (not (Nat.beq (g ^ ((n - 1) / r) % n) 1)))
def pd_eg (n : Nat) : Nat → Nat → Bool
  | 0, _ => false
  | k + 1, g => cond (Nat.blt g n) (cond (pd_gl n g 190 (n - 1) 2) true (pd_eg n k (g + 1))) false
def pd_all (f : Nat → Bool) : Nat → Nat → Bool
  | 0, b => f b
  | k + 1, b => cond (pd_all f k (2 * b)) (pd_all f k (2 * b + 1)) false
def pd_f1 (n : Nat) : Bool := cond (pd_pt n) (pd_pr n) (not (pd_pr n))
def pd_f2 (n : Nat) : Bool := cond (pd_pr n) (cond (Nat.ble 3 n) (pd_eg n 60 2) true) true
theorem pd_allT {f : Nat → Bool} : ∀ k c, pd_all f k c = true → ∀ n, c * 2 ^ k ≤ n → n < (c + 1) * 2 ^ k → f n = true := by
  intro k
  induction k with
  | zero =>
    intro c h n h1 h2
    rw [Nat.pow_zero, Nat.mul_one] at h1 h2
    have e : n = c := by omega
    rw [e]
    exact h
  | succ k ih =>
    intro c h n h1 h2
    have h3 : cond (pd_all f k (2 * c)) (pd_all f k (2 * c + 1)) false = true := h
    rw [Nat.pow_succ] at h1 h2
    have e1 : 2 * c * 2 ^ k = c * (2 ^ k * 2) := by grind
    have e2 : (2 * c + 1 + 1) * 2 ^ k = (c + 1) * (2 ^ k * 2) := by grind
    cases ha : pd_all f k (2 * c) with
    | false =>
      rw [ha] at h3
      cases h3
    | true =>
      rw [ha] at h3
      by_cases hn : n < (2 * c + 1) * 2 ^ k
      · exact ih (2 * c) ha n (by omega) hn
      · exact ih (2 * c + 1) h3 n (by omega) (by omega)
set_option maxRecDepth 100000 in
theorem pd_t1_0 : pd_all pd_f1 11 0 = true := by decide +kernel
set_option maxRecDepth 100000 in
theorem pd_t1_1 : pd_all pd_f1 11 1 = true := by decide +kernel
set_option maxRecDepth 100000 in
theorem pd_t1_2 : pd_all pd_f1 11 2 = true := by decide +kernel
set_option maxRecDepth 100000 in
theorem pd_t1_3 : pd_all pd_f1 11 3 = true := by decide +kernel
set_option maxRecDepth 100000 in
theorem pd_t1_4 : pd_all pd_f1 11 4 = true := by decide +kernel
set_option maxRecDepth 100000 in
theorem pd_t1_5 : pd_all pd_f1 11 5 = true := by decide +kernel
set_option maxRecDepth 100000 in
theorem pd_t1_6 : pd_all pd_f1 11 6 = true := by decide +kernel
set_option maxRecDepth 100000 in
theorem pd_t1_7 : pd_all pd_f1 11 7 = true := by decide +kernel
set_option maxRecDepth 100000 in
theorem pd_t1_8 : pd_all pd_f1 11 8 = true := by decide +kernel
set_option maxRecDepth 100000 in
theorem pd_t1_9 : pd_all pd_f1 11 9 = true := by decide +kernel
set_option maxRecDepth 100000 in
theorem pd_t1_10 : pd_all pd_f1 11 10 = true := by decide +kernel
set_option maxRecDepth 100000 in
theorem pd_t1_11 : pd_all pd_f1 11 11 = true := by decide +kernel
set_option maxRecDepth 100000 in
theorem pd_t1_12 : pd_all pd_f1 11 12 = true := by decide +kernel
set_option maxRecDepth 100000 in
theorem pd_t1_13 : pd_all pd_f1 11 13 = true := by decide +kernel
set_option maxRecDepth 100000 in
theorem pd_t1_14 : pd_all pd_f1 11 14 = true := by decide +kernel
set_option maxRecDepth 100000 in
theorem pd_t1_15 : pd_all pd_f1 11 15 = true := by decide +kernel
theorem pd_t1 {n : Nat} (h : n < 32768) : pd_f1 n = true := by
  by_cases h0 : n < 2048
  · exact pd_allT 11 0 pd_t1_0 n (by omega) (by omega)
  by_cases h1 : n < 4096
  · exact pd_allT 11 1 pd_t1_1 n (by omega) (by omega)
  by_cases h2 : n < 6144
  · exact pd_allT 11 2 pd_t1_2 n (by omega) (by omega)
  by_cases h3 : n < 8192
  · exact pd_allT 11 3 pd_t1_3 n (by omega) (by omega)
  by_cases h4 : n < 10240
  · exact pd_allT 11 4 pd_t1_4 n (by omega) (by omega)
  by_cases h5 : n < 12288
  · exact pd_allT 11 5 pd_t1_5 n (by omega) (by omega)
  by_cases h6 : n < 14336
  · exact pd_allT 11 6 pd_t1_6 n (by omega) (by omega)
  by_cases h7 : n < 16384
  · exact pd_allT 11 7 pd_t1_7 n (by omega) (by omega)
  by_cases h8 : n < 18432
  · exact pd_allT 11 8 pd_t1_8 n (by omega) (by omega)
  by_cases h9 : n < 20480
  · exact pd_allT 11 9 pd_t1_9 n (by omega) (by omega)
  by_cases h10 : n < 22528
  · exact pd_allT 11 10 pd_t1_10 n (by omega) (by omega)
  by_cases h11 : n < 24576
  · exact pd_allT 11 11 pd_t1_11 n (by omega) (by omega)
  by_cases h12 : n < 26624
  · exact pd_allT 11 12 pd_t1_12 n (by omega) (by omega)
  by_cases h13 : n < 28672
  · exact pd_allT 11 13 pd_t1_13 n (by omega) (by omega)
  by_cases h14 : n < 30720
  · exact pd_allT 11 14 pd_t1_14 n (by omega) (by omega)
  exact pd_allT 11 15 pd_t1_15 n (by omega) (by omega)
set_option maxRecDepth 100000 in
theorem pd_t2_0 : pd_all pd_f2 11 0 = true := by decide +kernel
set_option maxRecDepth 100000 in
theorem pd_t2_1 : pd_all pd_f2 11 1 = true := by decide +kernel
set_option maxRecDepth 100000 in
theorem pd_t2_2 : pd_all pd_f2 11 2 = true := by decide +kernel
set_option maxRecDepth 100000 in
theorem pd_t2_3 : pd_all pd_f2 11 3 = true := by decide +kernel
set_option maxRecDepth 100000 in
theorem pd_t2_4 : pd_all pd_f2 11 4 = true := by decide +kernel
set_option maxRecDepth 100000 in
theorem pd_t2_5 : pd_all pd_f2 11 5 = true := by decide +kernel
set_option maxRecDepth 100000 in
theorem pd_t2_6 : pd_all pd_f2 11 6 = true := by decide +kernel
set_option maxRecDepth 100000 in
theorem pd_t2_7 : pd_all pd_f2 11 7 = true := by decide +kernel
set_option maxRecDepth 100000 in
theorem pd_t2_8 : pd_all pd_f2 11 8 = true := by decide +kernel
set_option maxRecDepth 100000 in
theorem pd_t2_9 : pd_all pd_f2 11 9 = true := by decide +kernel
set_option maxRecDepth 100000 in
theorem pd_t2_10 : pd_all pd_f2 11 10 = true := by decide +kernel
set_option maxRecDepth 100000 in
theorem pd_t2_11 : pd_all pd_f2 11 11 = true := by decide +kernel
set_option maxRecDepth 100000 in
theorem pd_t2_12 : pd_all pd_f2 11 12 = true := by decide +kernel
set_option maxRecDepth 100000 in
theorem pd_t2_13 : pd_all pd_f2 11 13 = true := by decide +kernel
set_option maxRecDepth 100000 in
theorem pd_t2_14 : pd_all pd_f2 11 14 = true := by decide +kernel
set_option maxRecDepth 100000 in
theorem pd_t2_15 : pd_all pd_f2 11 15 = true := by decide +kernel
theorem pd_t2 {n : Nat} (h : n < 32768) : pd_f2 n = true := by
  by_cases h0 : n < 2048
  · exact pd_allT 11 0 pd_t2_0 n (by omega) (by omega)
  by_cases h1 : n < 4096
  · exact pd_allT 11 1 pd_t2_1 n (by omega) (by omega)
  by_cases h2 : n < 6144
  · exact pd_allT 11 2 pd_t2_2 n (by omega) (by omega)
  by_cases h3 : n < 8192
  · exact pd_allT 11 3 pd_t2_3 n (by omega) (by omega)
  by_cases h4 : n < 10240
  · exact pd_allT 11 4 pd_t2_4 n (by omega) (by omega)
  by_cases h5 : n < 12288
  · exact pd_allT 11 5 pd_t2_5 n (by omega) (by omega)
  by_cases h6 : n < 14336
  · exact pd_allT 11 6 pd_t2_6 n (by omega) (by omega)
  by_cases h7 : n < 16384
  · exact pd_allT 11 7 pd_t2_7 n (by omega) (by omega)
  by_cases h8 : n < 18432
  · exact pd_allT 11 8 pd_t2_8 n (by omega) (by omega)
  by_cases h9 : n < 20480
  · exact pd_allT 11 9 pd_t2_9 n (by omega) (by omega)
  by_cases h10 : n < 22528
  · exact pd_allT 11 10 pd_t2_10 n (by omega) (by omega)
  by_cases h11 : n < 24576
  · exact pd_allT 11 11 pd_t2_11 n (by omega) (by omega)
  by_cases h12 : n < 26624
  · exact pd_allT 11 12 pd_t2_12 n (by omega) (by omega)
  by_cases h13 : n < 28672
  · exact pd_allT 11 13 pd_t2_13 n (by omega) (by omega)
  by_cases h14 : n < 30720
  · exact pd_allT 11 14 pd_t2_14 n (by omega) (by omega)
  exact pd_allT 11 15 pd_t2_15 n (by omega) (by omega)
def pd_gp : Nat → List Nat → Bool
  | a, [] => Nat.ble 30001 a
  | a, q :: t => cond (Nat.ble q (a + 80)) (cond (pd_pr q) (pd_gp q t) false) false
def pd_gaps : List Nat := [79, 157, 233, 313, 389, 467, 547, 619, 691, 769, 839, 919, 997, 1069, 1129, 1201, 1279, 1327, 1399, 1471, 1549, 1627, 1699, 1777, 1847, 1913, 1993, 2069, 2143, 2221, 2297, 2377, 2447, 2521, 2593, 2671, 2749, 2819, 2897, 2971, 3049, 3121, 3191, 3271, 3347, 3413, 3491, 3571, 3643, 3719, 3797, 3877, 3947, 4027, 4099, 4177, 4253, 4327, 4397, 4463, 4523, 4603, 4679, 4759, 4831, 4909, 4987, 5059, 5119, 5197, 5273, 5351, 5431, 5507, 5581, 5659, 5737, 5813, 5881, 5953, 6029, 6101, 6173, 6247, 6323, 6397, 6473, 6553, 6619, 6691, 6763, 6841, 6917, 6997, 7069, 7129, 7207, 7283, 7351, 7417, 7489, 7561, 7639, 7717, 7793, 7873, 7951, 8017, 8093, 8171, 8243, 8317, 8389, 8467, 8543, 8623, 8699, 8779, 8849, 8929, 9007, 9067, 9137, 9209, 9283, 9349, 9421, 9497, 9551, 9631, 9697, 9769, 9839, 9907, 9973, 10039, 10111, 10181, 10259, 10337, 10399, 10477, 10531, 10607, 10687, 10753, 10831, 10909, 10987, 11059, 11131, 11197, 11273, 11353, 11423, 11503, 11579, 11657, 11731, 11807, 11887, 11959, 12037, 12113, 12163, 12241, 12301, 12379, 12457, 12527, 12601, 12671, 12743, 12823, 12899, 12979, 13049, 13127, 13187, 13267, 13339, 13417, 13487, 13567, 13633, 13711, 13789, 13859, 13933, 14011, 14087, 14159, 14221, 14293, 14369, 14449, 14519, 14593, 14669, 14747, 14827, 14897, 14969, 15031, 15107, 15187, 15263, 15331, 15401, 15473, 15551, 15629, 15683, 15761, 15823, 15901, 15973, 16033, 16111, 16189, 16267, 16339, 16417, 16493, 16573, 16651, 16729, 16787, 16843, 16921, 16993, 17053, 17123, 17203, 17257, 17333, 17401, 17477, 17551, 17627, 17707, 17783, 17863, 17939, 18013, 18089, 18169, 18233, 18313, 18379, 18457, 18523, 18593, 18671, 18749, 18803, 18869, 18947, 19013, 19087, 19163, 19237, 19309, 19387, 19463, 19543, 19609, 19687, 19763, 19843, 19919, 19997, 20071, 20149, 20219, 20297, 20369, 20443, 20521, 20599, 20663, 20743, 20809, 20887, 20963, 21031, 21107, 21187, 21247, 21323, 21401, 21481, 21559, 21617, 21683, 21757, 21821, 21893, 21961, 22039, 22111, 22189, 22259, 22307, 22381, 22453, 22531, 22573, 22651, 22727, 22807, 22877, 22943, 23021, 23099, 23173, 23251, 23327, 23399, 23473, 23549, 23629, 23689, 23767, 23833, 23911, 23981, 24061, 24137, 24203, 24281, 24359, 24439, 24517, 24593, 24671, 24749, 24821, 24889, 24967, 25037, 25117, 25189, 25261, 25339, 25411, 25471, 25541, 25621, 25693, 25771, 25849, 25919, 25999, 26053, 26119, 26189, 26267, 26347, 26423, 26501, 26573, 26647, 26723, 26801, 26881, 26959, 27031, 27109, 27179, 27259, 27337, 27409, 27487, 27551, 27631, 27701, 27779, 27851, 27919, 27997, 28069, 28123, 28201, 28279, 28351, 28429, 28499, 28579, 28657, 28729, 28807, 28879, 28949, 29027, 29101, 29179, 29251, 29327, 29401, 29473, 29537, 29611, 29683, 29761, 29837, 29917, 29989, 30059]
set_option maxRecDepth 100000 in
theorem pd_gapsT : pd_gp 0 pd_gaps = true := by decide +kernel
end
section
theorem pd_beqT {a b : Nat} : Nat.beq a b = true ↔ a = b := ⟨Nat.eq_of_beq_eq_true, fun h => by rw [h]; exact Nat.beq_refl b⟩
theorem pd_beqF {a b : Nat} : Nat.beq a b = false ↔ a ≠ b := by
  constructor
  · intro h e
    rw [pd_beqT.mpr e] at h
    cases h
  · intro h
    cases hb : Nat.beq a b with
    | false => rfl
    | true => exact (h (pd_beqT.mp hb)).elim
theorem pd_bleT {a b : Nat} : Nat.ble a b = true ↔ a ≤ b := ⟨Nat.le_of_ble_eq_true, Nat.ble_eq_true_of_le⟩
theorem pd_bleF {a b : Nat} : Nat.ble a b = false ↔ b < a := by
  constructor
  · intro h
    by_cases hl : a ≤ b
    · rw [pd_bleT.mpr hl] at h
      cases h
    · omega
  · intro h
    cases hb : Nat.ble a b with
    | false => rfl
    | true => have := pd_bleT.mp hb; omega
theorem pd_bltT {a b : Nat} : Nat.blt a b = true ↔ a < b := pd_bleT
theorem pd_bltF {a b : Nat} : Nat.blt a b = false ↔ b ≤ a := ⟨fun h => by have := pd_bleF.mp h; omega, fun h => pd_bleF.mpr (by omega)⟩

theorem pd_plCov : ∀ d, d < 182 → 2 ≤ d → ∃ q ∈ pd_pl, d % q = 0 := by decide +kernel
theorem pd_plSort : pd_pl.Pairwise (fun a b => a ≤ b) := by decide +kernel
theorem pd_pl2 : ∀ q ∈ pd_pl, 2 ≤ q := by decide +kernel

theorem pd_trT {n : Nat} : ∀ l : List Nat, l.Pairwise (fun a b => a ≤ b) → pd_tr n l = true → ∀ q ∈ l, q * q ≤ n → ¬ q ∣ n := by
  intro l
  induction l with
  | nil => intro _ _ q hq; cases hq
  | cons a t ih =>
    intro hs h q hq hqq
    rw [List.pairwise_cons] at hs
    have h' : cond (Nat.blt n (a * a)) true (cond (Nat.beq (n % a) 0) false (pd_tr n t)) = true := h
    cases h1 : Nat.blt n (a * a) with
    | true =>
      have h2 := pd_bltT.mp h1
      have h3 : a ≤ q := by
        rcases List.mem_cons.mp hq with e | e
        · omega
        · exact hs.1 q e
      have h4 : a * a ≤ q * q := Nat.mul_le_mul h3 h3
      omega
    | false =>
      rw [h1] at h'
      cases h2 : Nat.beq (n % a) 0 with
      | true =>
        rw [h2] at h'
        cases h'
      | false =>
        rw [h2] at h'
        rcases List.mem_cons.mp hq with e | e
        · rw [e]
          exact fun z => pd_beqF.mp h2 (Nat.mod_eq_zero_of_dvd z)
        · exact ih hs.2 h' q e hqq

theorem pd_trF {n : Nat} (hn : pd_P n) : ∀ l : List Nat, (∀ q ∈ l, 2 ≤ q) → pd_tr n l = true := by
  intro l
  induction l with
  | nil => exact fun _ => rfl
  | cons a t ih =>
    intro hs
    show cond (Nat.blt n (a * a)) true (cond (Nat.beq (n % a) 0) false (pd_tr n t)) = true
    cases h1 : Nat.blt n (a * a) with
    | true => rfl
    | false =>
      have h2 := pd_bltF.mp h1
      have h3 := (pd_P_iff hn.1).mp hn a (hs a List.mem_cons_self) h2
      have h4 : Nat.beq (n % a) 0 = false := pd_beqF.mpr (fun z => h3 (Nat.dvd_of_mod_eq_zero z))
      rw [h4]
      exact ih (fun q hq => hs q (List.mem_cons_of_mem a hq))

theorem pd_prP {n : Nat} (h : n < 32768) : pd_pr n = true ↔ pd_P n := by
  constructor
  · intro h1
    have h1' : cond (Nat.ble 2 n) (pd_tr n pd_pl) false = true := h1
    cases h2 : Nat.ble 2 n with
    | false =>
      rw [h2] at h1'
      cases h1'
    | true =>
      rw [h2] at h1'
      have h3 := pd_bleT.mp h2
      rw [pd_P_iff h3]
      intro d hd hdd hdn
      have hd2 : d < 182 := by
        by_cases z : d < 182
        · exact z
        · have : 182 * 182 ≤ d * d := Nat.mul_le_mul (by omega) (by omega)
          omega
      obtain ⟨q, hq, hqd⟩ := pd_plCov d hd2 hd
      have hqd := Nat.dvd_of_mod_eq_zero hqd
      have hle := Nat.le_of_dvd (by omega) hqd
      have hqq : q * q ≤ d * d := Nat.mul_le_mul hle hle
      exact pd_trT pd_pl pd_plSort h1' q hq (by omega) (Nat.dvd_trans hqd hdn)
  · intro h1
    show cond (Nat.ble 2 n) (pd_tr n pd_pl) false = true
    rw [pd_bleT.mpr h1.1]
    exact pd_trF h1 pd_pl pd_pl2

theorem pd_ptP {n : Nat} (h : n < 32768) : pd_pt n = true ↔ pd_P n := by
  rw [← pd_prP h]
  have ht : cond (pd_pt n) (pd_pr n) (not (pd_pr n)) = true := pd_t1 h
  cases h1 : pd_pt n with
  | true =>
    rw [h1] at ht
    exact ⟨fun _ => ht, fun _ => rfl⟩
  | false =>
    rw [h1] at ht
    have ht : (not (pd_pr n)) = true := ht
    cases h2 : pd_pr n with
    | true =>
      rw [h2] at ht
      cases ht
    | false => exact Iff.rfl

/-! gaps -/
theorem pd_gpT : ∀ (l : List Nat) (a : Nat), pd_gp a l = true → ∀ n, a ≤ n → n ≤ 30000 → ∃ q, n < q ∧ q ≤ n + 80 ∧ pd_pr q = true := by
  intro l
  induction l with
  | nil =>
    intro a h n h1 h2
    have := pd_bleT.mp h
    omega
  | cons q t ih =>
    intro a h n h1 h2
    have h' : cond (Nat.ble q (a + 80)) (cond (pd_pr q) (pd_gp q t) false) false = true := h
    cases h3 : Nat.ble q (a + 80) with
    | false =>
      rw [h3] at h'
      cases h'
    | true =>
      rw [h3] at h'
      have h3 := pd_bleT.mp h3
      cases h4 : pd_pr q with
      | false =>
        rw [h4] at h'
        cases h'
      | true =>
        rw [h4] at h'
        by_cases h5 : n < q
        · exact ⟨q, h5, by omega, h4⟩
        · exact ih q h' n (by omega) h2

theorem pd_gap {n : Nat} (h : n ≤ 30000) : ∃ q, n < q ∧ q ≤ n + 80 ∧ pd_P q := by
  obtain ⟨q, h1, h2, h3⟩ := pd_gpT pd_gaps 0 pd_gapsT n (by omega) h
  exact ⟨q, h1, h2, (pd_prP (by omega)).mp h3⟩

/-! generators: what a pass over the divisors keeps -/
def pd_I (n g r p : Nat) : Prop := 0 < r ∧ r ∣ n - 1 ∧ (∀ s, pd_P s → s ∣ r → p ≤ s) ∧ (∀ s, pd_P s → s ∣ n - 1 → ¬ s ∣ r → g ^ ((n - 1) / s) % n ≠ 1)

theorem pd_I0 {n g : Nat} (hn : 2 ≤ n) : pd_I n g (n - 1) 2 := ⟨by omega, Nat.dvd_refl _, fun s hs _ => hs.1, fun s _ h1 h2 => (h2 h1).elim⟩

theorem pd_I1 {n g r p : Nat} (h : pd_I n g r p) (hr : r ≤ 1) : pd_Gen n g := by
  obtain ⟨h1, _, _, h4⟩ := h
  intro q hq hqd
  refine h4 q hq hqd (fun z => ?_)
  have := Nat.le_of_dvd h1 z
  have := hq.1
  omega

theorem pd_Iskip {n g r p q : Nat} (h : pd_I n g r p) (hs : ∀ s, pd_P s → s ∣ r → q ≤ s) (hq : ¬ q ∣ r) : pd_I n g r (q + 1) := by
  refine ⟨h.1, h.2.1, fun s hsP hsd => ?_, h.2.2.2⟩
  have h1 := hs s hsP hsd
  by_cases e : s = q
  · rw [e] at hsd
    exact (hq hsd).elim
  · omega

theorem pd_Ihit {n g r p q r' k : Nat} (h : pd_I n g r p) (hs : ∀ s, pd_P s → s ∣ r → q ≤ s) (hqP : pd_P q) (hg : g ^ ((n - 1) / q) % n ≠ 1) (hr : r = r' * q ^ k) (hq : ¬ q ∣ r') : pd_I n g r' (q + 1) := by
  have hd : r' ∣ r := ⟨q ^ k, hr⟩
  refine ⟨Nat.pos_of_dvd_of_pos hd h.1, Nat.dvd_trans hd h.2.1, fun s hsP hsd => ?_, fun s hsP hs1 hs2 => ?_⟩
  · have h1 := hs s hsP (Nat.dvd_trans hsd hd)
    by_cases e : s = q
    · rw [e] at hsd
      exact (hq hsd).elim
    · omega
  · by_cases hsr : s ∣ r
    · rw [hr] at hsr
      rcases pd_euc hsP hsr with h1 | h1
      · exact (hs2 h1).elim
      · rw [pd_PP hsP hqP (pd_eucPow hsP k h1)]
        exact hg
    · exact h.2.2.2 s hsP hs1 hsr

theorem pd_Ino {n g r p q : Nat} (h : pd_I n g r p) (hqP : pd_P q) (hq : q ∣ r) (hg : g ^ ((n - 1) / q) % n = 1) : ¬ pd_Gen n g := fun hG => hG q hqP (Nat.dvd_trans hq h.2.1) hg

theorem pd_sdT {q : Nat} (hq : 2 ≤ q) : ∀ k r, 0 < r → r < 2 ^ k → ∃ j, r = pd_sd q k r * q ^ j ∧ ¬ q ∣ pd_sd q k r := by
  intro k
  induction k with
  | zero =>
    intro r h1 h2
    rw [Nat.pow_zero] at h2
    omega
  | succ k ih =>
    intro r h1 h2
    have e : pd_sd q (k + 1) r = cond (Nat.beq (r % q) 0) (pd_sd q k (r / q)) r := rfl
    rw [e]
    cases h3 : Nat.beq (r % q) 0 with
    | false =>
      exact ⟨0, by rw [Nat.pow_zero, Nat.mul_one]; rfl, fun z => pd_beqF.mp h3 (Nat.mod_eq_zero_of_dvd z)⟩
    | true =>
      have hd := Nat.dvd_of_mod_eq_zero (pd_beqT.mp h3)
      have hle := Nat.le_of_dvd h1 hd
      have h4 : r / q ≤ r / 2 := Nat.div_le_div_left hq (by decide)
      rw [Nat.pow_succ] at h2
      obtain ⟨j, hj, hn⟩ := ih (r / q) (Nat.div_pos hle (by omega)) (by omega)
      refine ⟨j + 1, ?_, hn⟩
      show r = pd_sd q k (r / q) * q ^ (j + 1)
      rw [Nat.pow_succ, ← Nat.mul_assoc, ← hj, Nat.div_mul_cancel hd]

theorem pd_glT {n g : Nat} (hn : n < 32768) : ∀ k r p, r < 32768 → 2 ≤ p → pd_I n g r p → pd_gl n g k r p = true → pd_Gen n g := by
  intro k
  induction k with
  | zero => intro r p _ _ _ h; cases h
  | succ k ih =>
    intro r p hr hp hI h
    have h' : cond (Nat.ble r 1) true (cond (Nat.ble (p * p) r)
      (cond (Nat.beq (r % p) 0) (cond (Nat.beq (g ^ ((n - 1) / p) % n) 1) false (pd_gl n g k (pd_sd p 16 r) (p + 1))) (pd_gl n g k r (p + 1)))
      (not (Nat.beq (g ^ ((n - 1) / r) % n) 1))) = true := h
    cases h1 : Nat.ble r 1 with
    | true => exact pd_I1 hI (pd_bleT.mp h1)
    | false =>
      have hr1 := pd_bleF.mp h1
      rw [h1] at h'
      cases h2 : Nat.ble (p * p) r with
      | true =>
        rw [h2] at h'
        obtain ⟨_, n2, n3, n4⟩ := pd_next hr1 hp hI.2.2.1 (Or.inl ⟨pd_bleT.mp h2, rfl⟩)
        cases h3 : Nat.beq (r % p) 0 with
        | true =>
          rw [h3] at h'
          have hd := Nat.dvd_of_mod_eq_zero (pd_beqT.mp h3)
          cases h4 : Nat.beq (g ^ ((n - 1) / p) % n) 1 with
          | true =>
            rw [h4] at h'
            cases h'
          | false =>
            rw [h4] at h'
            obtain ⟨j, hj, hnd⟩ := pd_sdT hp 16 r hI.1 (by omega)
            have hle := Nat.le_of_dvd hI.1 ⟨p ^ j, hj⟩
            exact ih (pd_sd p 16 r) (p + 1) (by omega) (by omega) (pd_Ihit hI n2 (n3 hd) (pd_beqF.mp h4) hj hnd) h'
        | false =>
          rw [h3] at h'
          exact ih r (p + 1) hr (by omega) (pd_Iskip hI n2 (fun z => pd_beqF.mp h3 (Nat.mod_eq_zero_of_dvd z))) h'
      | false =>
        rw [h2] at h'
        obtain ⟨_, n2, n3, n4⟩ := pd_next hr1 hp hI.2.2.1 (Or.inr ⟨pd_bleF.mp h2, rfl⟩)
        cases h4 : Nat.beq (g ^ ((n - 1) / r) % n) 1 with
        | true =>
          rw [h4] at h'
          cases h'
        | false =>
          have hI2 : pd_I n g 1 (r + 1) := by
            refine pd_Ihit (k := 1) hI n2 (n3 (Nat.dvd_refl r)) (pd_beqF.mp h4) (by rw [Nat.one_mul, Nat.pow_one]) (fun z => ?_)
            have := Nat.le_of_dvd (by omega) z
            omega
          exact pd_I1 hI2 (Nat.le_refl 1)

theorem pd_egT {n : Nat} (hn : n < 32768) (hn2 : 2 ≤ n) : ∀ k g, 2 ≤ g → pd_eg n k g = true → ∃ g', 2 ≤ g' ∧ g' < n ∧ pd_Gen n g' := by
  intro k
  induction k with
  | zero => intro g _ h; cases h
  | succ k ih =>
    intro g hg h
    have h' : cond (Nat.blt g n) (cond (pd_gl n g 190 (n - 1) 2) true (pd_eg n k (g + 1))) false = true := h
    cases h1 : Nat.blt g n with
    | false =>
      rw [h1] at h'
      cases h'
    | true =>
      rw [h1] at h'
      cases h2 : pd_gl n g 190 (n - 1) 2 with
      | true => exact ⟨g, hg, pd_bltT.mp h1, pd_glT hn 190 (n - 1) 2 (by omega) (by omega) (pd_I0 hn2) h2⟩
      | false =>
        rw [h2] at h'
        exact ih (g + 1) (by omega) h'

theorem pd_gen {n : Nat} (hn : n < 32768) (hp : pd_P n) (h3 : 3 ≤ n) : ∃ g, 2 ≤ g ∧ g < n ∧ pd_Gen n g := by
  have h : cond (pd_pr n) (cond (Nat.ble 3 n) (pd_eg n 60 2) true) true = true := pd_t2 hn
  rw [(pd_prP hn).mpr hp, pd_bleT.mpr h3] at h
  exact pd_egT hn hp.1 60 2 (by omega) h
end
section
def pd_b (b : Bool) : Int32 := cond b 1 0

theorem pd_and1 {n : Nat} (h : n < 2 ^ 31) : nI n &&& 1 = nI (n % 2) := pk_andN (by omega) 1 (by decide)
theorem pd_shr1 {n : Nat} (h : n < 2 ^ 31) : nI n >>> ((1 : Int32) &&& 31) = nI (n / 2) := pk_shrN h _ 1 (by decide)
theorem pd_sub1 {n : Nat} (h : 1 ≤ n) : nI n - 1 = nI (n - 1) := pk_sub h
theorem pd_rem {a d : Nat} (ha : a < 2 ^ 31) (h0 : 0 < d) (hd : d < 2 ^ 31) : nI a - nI a / nI d * nI d = nI (a % d) := pk_rem ha h0 hd
theorem pd_mulLt {a b n : Nat} (ha : a < n) (hb : b < n) (hn : n ≤ 32768) : a * b < 2 ^ 31 := by
  have h1 : a * b ≤ 32768 * 32768 := Nat.mul_le_mul (by omega) (by omega)
  omega

theorem pd_pw2 {r s m e : Nat} (h : e % 2 = 0) : r * (s * s % m) ^ (e / 2) % m = r * s ^ e % m := by
  have e1 : s ^ e = (s * s) ^ (e / 2) := by
    have e2 : e = 2 * (e / 2) := by omega
    rw [← Nat.pow_two, ← Nat.pow_mul, ← e2]
  rw [e1]
  exact pd_mulC rfl (Nat.pow_mod (s * s) (e / 2) m).symm

theorem pd_pw3 {r s m e : Nat} (h : e % 2 ≠ 0) : (r * s % m) * (s * s % m) ^ (e / 2) % m = r * s ^ e % m := by
  have e1 : r * s ^ e = (r * s) * (s * s) ^ (e / 2) := by
    have e2 : e = 2 * (e / 2) + 1 := by omega
    have e3 : s ^ e = (s * s) ^ (e / 2) * s := by
      rw [← Nat.pow_two, ← Nat.pow_mul, ← Nat.pow_succ]
      exact congrArg (fun z => s ^ z) e2
    rw [e3, Nat.mul_assoc, Nat.mul_comm s ((s * s) ^ (e / 2))]
  rw [e1]
  exact pd_mulC (Nat.mod_mod _ _) (Nat.pow_mod (s * s) (e / 2) m).symm

section
variable {f1 f2 f3 f4 : Int32} {a1 a2 : Nat → Int32}

theorem pd_times {post : Int32 → Prop} {a b m : Nat} (ha : a < 2 ^ 31) (hb : b < 2 ^ 31) (hm : 0 < m) (hm2 : m < 2 ^ 31) (h : post (nI (a * b % m))) :
    wpX_timesRest post (f1, f2, f3, f4, a1, a2) (nI a) (nI b) (nI m) := by
  have hab : a * b < 2 ^ 63 := Nat.lt_trans (Nat.mul_lt_mul_of_lt_of_lt ha hb) (by decide)
  show ¬ (nI m).toInt64 = 0 ∧ post ((((nI a).toInt64 * (nI b).toInt64) - ((nI a).toInt64 * (nI b).toInt64) / (nI m).toInt64 * (nI m).toInt64).toInt32)
  rw [nI_l ha, nI_l hb, nI_l hm2, lN_mul, pk_lRem hab hm (by omega), lN_i]
  refine ⟨fun e => ?_, h⟩
  have e' : lN m = lN 0 := e
  rw [pk_lEQ (by omega) (by omega)] at e'
  omega

theorem pd_pow13 {post : Int32 → Prop} {m : Nat} (hm : 0 < m) (hm2 : m < 2 ^ 31) : ∀ n e r s, e < n → e < 2 ^ 31 → r < m → s < m → post (nI (r * s ^ e % m)) →
    wX_powerRest_13 post (nI m) f1 f2 f3 f4 a1 a2 n (nI r) (nI s) (nI e) := by
  intro n
  induction n with
  | zero => intro e r s h; omega
  | succ n ih =>
    intro e r s hn he hr hs h
    refine pk_le e 0 (fun h0 => ?_) (fun h0 => ?_)
    · have e0 : e = 0 := by omega
      rw [e0, Nat.pow_zero, Nat.mul_one, Nat.mod_eq_of_lt hr] at h
      exact h
    · refine pk_eq (e % 2) 0 (fun h1 => ?_) (fun h1 => ?_) (hx := pd_and1 he)
      · refine pd_times (by omega) (by omega) hm hm2 ?_
        refine nm_r (pd_shr1 he) ?_
        refine ih (e / 2) r (s * s % m) (by omega) (by omega) hr (Nat.mod_lt _ hm) ?_
        rw [pd_pw2 h1]
        exact h
      · refine pd_times (by omega) (by omega) hm hm2 ?_
        refine pd_times (by omega) (by omega) hm hm2 ?_
        refine nm_r (pd_shr1 he) ?_
        refine ih (e / 2) (r * s % m) (s * s % m) (by omega) (by omega) (Nat.mod_lt _ hm) (Nat.mod_lt _ hm) ?_
        rw [pd_pw3 h1]
        exact h

theorem pd_power {post : Int32 → Prop} {b e m : Nat} (hb : b < 2 ^ 31) (he : e < 2 ^ 31) (hm : 0 < m) (hm2 : m < 2 ^ 31) (h : post (nI (b ^ e % m))) :
    wpX_powerRest post (f1, f2, f3, f4, a1, a2) (nI b) (nI e) (nI m) := by
  have h0 := nI_ne0 hm hm2
  refine And.intro h0 ?_
  refine nm_r (pk_rem (a := 1) (by decide) hm hm2) ?_
  refine And.intro h0 ?_
  refine nm_r (pk_rem hb hm hm2) ?_
  refine ⟨e + 1, pd_pow13 hm hm2 (e + 1) e (1 % m) (b % m) (by omega) he (Nat.mod_lt _ hm) (Nat.mod_lt _ hm) ?_⟩
  have e1 : (1 % m) * (b % m) ^ e % m = 1 * b ^ e % m := pd_mulC (Nat.mod_mod 1 m) (Nat.pow_mod b e m).symm
  rw [e1, Nat.one_mul]
  exact h

theorem pd_gcd5 {post : Int32 → Prop} : ∀ n x y, x < n → x < 2 ^ 31 → y < 2 ^ 31 → post (nI (Nat.gcd x y)) → wX_commonDivisor_5 post f1 f2 f3 f4 a1 a2 n (nI x) (nI y) := by
  intro n
  induction n with
  | zero => intro x y h; exact absurd h (Nat.not_lt_zero _)
  | succ n ih =>
    intro x y hn hx hy h
    refine pk_eq x 0 (fun h0 => ?_) (fun h0 => ?_)
    · rw [h0, Nat.gcd_zero_left] at h
      exact h
    · have hl : y % x < x := Nat.mod_lt _ (by omega)
      refine And.intro (nI_ne0 (by omega) hx) ?_
      refine nm_r (pk_rem hy (by omega) hx) ?_
      refine ih (y % x) x (by omega) (by omega) hx ?_
      rw [← Nat.gcd_rec]
      exact h

theorem pd_gcdX {post : Int32 → Prop} {x y : Nat} (hx : x < 2 ^ 31) (hy : y < 2 ^ 31) (h : post (nI (Nat.gcd x y))) : wpX_commonDivisor post (f1, f2, f3, f4, a1, a2) (nI x) (nI y) :=
  Exists.intro (x + 1) (pd_gcd5 (x + 1) x y (by omega) hx hy h)

theorem pd_pas51 {post : Int32 → Prop} {n t : Nat} (hn : 2 ≤ n) (hn2 : n < 32768) (ht : t < 100) : ∀ m k x, t < m + k → k ≤ t → x < n → post (pd_b (pd_sq n (t - k) (x * x % n))) →
    wX_passes_51 post (nI n) (nI t) f1 f2 f3 f4 a1 a2 m (nI x) (nI k) := by
  intro m
  induction m with
  | zero => intro k x h1 h2; omega
  | succ m ih =>
    intro k x hm hk hx h
    refine pk_le t k (fun h0 => ?_) (fun h0 => ?_)
    · have e0 : t - k = 0 := by omega
      rw [e0] at h
      exact h
    · obtain ⟨j, hj⟩ : ∃ j, t - k = j + 1 := ⟨t - k - 1, by omega⟩
      have hj2 : t - (k + 1) = j := by omega
      rw [hj] at h
      have h' : post (pd_b (cond (Nat.beq (x * x % n) (n - 1)) true (pd_sq n j ((x * x % n) * (x * x % n) % n)))) := h
      have hl : x * x % n < n := Nat.mod_lt _ (by omega)
      refine pd_times (by omega) (by omega) (by omega) (by omega) ?_
      refine pk_eq (x * x % n) (n - 1) (fun h1 => ?_) (fun h1 => ?_) (hy := pd_sub1 (by omega))
      · rw [pd_beqT.mpr h1] at h'
        exact h'
      · rw [pd_beqF.mpr h1] at h'
        refine nm_r (nI_1 k) ?_
        refine ih (k + 1) (x * x % n) (by omega) (by omega) hl ?_
        rw [hj2]
        exact h'

theorem pd_pas7 {post : Int32 → Prop} {n b : Nat} (hn : 2 ≤ n) (hn2 : n < 32768) (hb : b < 2 ^ 31) : ∀ k o t, o < 2 ^ k → 0 < o → o < 2 ^ 31 → t + k < 100 → (t = 0 → o % 2 = 0) → post (pd_b (pd_ps n b k o t)) →
    wX_passes_7 post (nI n) (nI b) f1 f2 f3 f4 a1 a2 k (nI o) (nI t) := by
  intro k
  induction k with
  | zero =>
    intro o t h1 h2
    rw [Nat.pow_zero] at h1
    omega
  | succ k ih =>
    intro o t h1 h2 h3 h4 h5 h
    have h' : post (pd_b (cond (Nat.beq (o % 2) 0) (pd_ps n b k (o / 2) (t + 1)) (cond (Nat.beq (b ^ o % n) 1) true (pd_sq n t (b ^ o % n))))) := h
    rw [Nat.pow_succ] at h1
    refine pk_eq (o % 2) 0 (fun h0 => ?_) (fun h0 => ?_) (hx := pd_and1 h3)
    · rw [pd_beqT.mpr h0] at h'
      refine nm_r (pd_shr1 h3) ?_
      refine nm_r (nI_1 t) ?_
      exact ih (o / 2) (t + 1) (by omega) (by omega) (by omega) (by omega) (fun z => by omega) h'
    · rw [pd_beqF.mpr h0] at h'
      have hl : b ^ o % n < n := Nat.mod_lt _ (by omega)
      obtain ⟨j, rfl⟩ : ∃ j, t = j + 1 := ⟨t - 1, by omega⟩
      have h' : post (pd_b (cond (Nat.beq (b ^ o % n) 1) true (cond (Nat.beq (b ^ o % n) (n - 1)) true (pd_sq n j ((b ^ o % n) * (b ^ o % n) % n))))) := h'
      refine pd_power hb h3 (by omega) (by omega) ?_
      refine pk_eq (b ^ o % n) 1 (fun h6 => ?_) (fun h6 => ?_)
      · rw [pd_beqT.mpr h6] at h'
        exact h'
      · rw [pd_beqF.mpr h6] at h'
        refine pk_eq (b ^ o % n) (n - 1) (fun h7 => ?_) (fun h7 => ?_) (hy := pd_sub1 (by omega))
        · rw [pd_beqT.mpr h7] at h'
          exact h'
        · rw [pd_beqF.mpr h7] at h'
          exact ⟨j + 2, pd_pas51 hn hn2 (by omega) (j + 2) 1 (b ^ o % n) (by omega) (by omega) hl h'⟩

theorem pd_passes {post : Int32 → Prop} {n b : Nat} (hn : 2 ≤ n) (hn2 : n < 32768) (hb : b < 2 ^ 31) (ho : n % 2 ≠ 0) (h : post (pd_b (pd_ps n b 16 (n - 1) 0))) :
    wpX_passes post (f1, f2, f3, f4, a1, a2) (nI n) (nI b) := by
  refine nm_r (P := fun x => ∃ n7 : Nat, wX_passes_7 post (nI n) (nI b) f1 f2 f3 f4 a1 a2 n7 x 0) (pd_sub1 (by omega)) ?_
  exact ⟨16, pd_pas7 hn hn2 hb 16 (n - 1) 0 (by omega) (by omega) (by omega) (by omega) (fun _ => by omega) h⟩

theorem pd_prime {post : Int32 → Prop} {n : Nat} (hn : n < 32768) (h1 : pd_P n → post 1) (h0 : ¬ pd_P n → post 0) : wpX_primeTest post (f1, f2, f3, f4, a1, a2) (nI n) := by
  have K : post (pd_b (pd_pt n)) := by
    cases h : pd_pt n with
    | true => exact h1 ((pd_ptP hn).mp h)
    | false => exact h0 (fun z => by rw [(pd_ptP hn).mpr z] at h; cases h)
  unfold pd_pt at K
  refine pk_le 4 n (fun h4 => ?_) (fun h4 => ?_)
  · rw [pd_bleT.mpr h4] at K
    have K : post (pd_b (cond (Nat.beq (n % 2) 0) false (cond (Nat.beq (n % 3) 0) false (cond (pd_ps n 2 16 (n - 1) 0) (pd_ps n 3 16 (n - 1) 0) false)))) := K
    have h28 : post 0 → wX_primeTest_28 post (nI n) f1 f2 f3 f4 a1 a2 := fun hp => pk_eq n 3 (fun z => by omega) (fun _ => hp)
    refine And.intro (by decide) ?_
    refine pk_eq (n % 2) 0 (fun h2 => ?_) (fun h2 => ?_) (hx := pk_rem (d := 2) (by omega) (by omega) (by omega))
    · rw [pd_beqT.mpr h2] at K
      exact h28 K
    · rw [pd_beqF.mpr h2] at K
      have K : post (pd_b (cond (Nat.beq (n % 3) 0) false (cond (pd_ps n 2 16 (n - 1) 0) (pd_ps n 3 16 (n - 1) 0) false))) := K
      refine And.intro (by decide) ?_
      refine pk_eq (n % 3) 0 (fun h3 => ?_) (fun h3 => ?_) (hx := pk_rem (d := 3) (by omega) (by omega) (by omega))
      · rw [pd_beqT.mpr h3] at K
        exact h28 K
      · rw [pd_beqF.mpr h3] at K
        have K : post (pd_b (cond (pd_ps n 2 16 (n - 1) 0) (pd_ps n 3 16 (n - 1) 0) false)) := K
        refine pd_passes (b := 2) (by omega) hn (by omega) h2 ?_
        cases h5 : pd_ps n 2 16 (n - 1) 0 with
        | false =>
          rw [h5] at K
          exact br_t rfl K
        | true =>
          rw [h5] at K
          have K : post (pd_b (pd_ps n 3 16 (n - 1) 0)) := K
          refine br_f (by decide) ?_
          refine pd_passes (b := 3) (by omega) hn (by omega) h2 ?_
          cases h6 : pd_ps n 3 16 (n - 1) 0 with
          | false =>
            rw [h6] at K
            exact br_t rfl K
          | true =>
            rw [h6] at K
            exact br_f (by decide) K
  · rw [pd_bleF.mpr h4] at K
    have K : post (pd_b (Nat.ble 2 n)) := K
    refine pk_le n 1 (fun h5 => ?_) (fun h5 => ?_)
    · rw [pd_bleF.mpr (by omega)] at K
      exact K
    · rw [pd_bleT.mpr (by omega)] at K
      exact K
end

section
variable {fh : Int32}

theorem pd_yp9 {post : Int32 → Prop} {n : Nat} (hn : n < 32768) (hn2 : 2 ≤ n) (h1 : pd_P n → post 1) (h0 : ¬ pd_P n → post 0) : ∀ m d, n + 2 ≤ m + d → d ≤ n + 1 → 2 ≤ d → (∀ e, 2 ≤ e → e < d → ¬ e ∣ n) →
    wY_prime_9 post (nI n) fh m (nI d) := by
  intro m
  induction m with
  | zero => intro d h2 h3; omega
  | succ m ih =>
    intro d hm hd hd2 H
    have hdd : d * d < 2 ^ 31 := by
      have : d * d ≤ 32768 * 32768 := Nat.mul_le_mul (by omega) (by omega)
      omega
    refine pk_lt n (d * d) (fun h3 => ?_) (fun h3 => ?_) (hy := pk_mul d d)
    · refine h1 ((pd_P_iff hn2).mpr (fun e he hee => H e he ?_))
      by_cases z : e < d
      · exact z
      · have : d * d ≤ e * e := Nat.mul_le_mul (by omega) (by omega)
        omega
    · have hml : n % d < d := Nat.mod_lt n (by omega)
      refine And.intro (nI_ne0 (by omega) (by omega)) ?_
      refine pk_eq (n % d) 0 (fun h4 => ?_) (fun h4 => ?_) (hx := pk_rem (by omega) (by omega) (by omega))
      · exact h0 (fun z => (pd_P_iff hn2).mp z d hd2 h3 (Nat.dvd_of_mod_eq_zero h4))
      · have h5 : 2 * d ≤ d * d := Nat.mul_le_mul_right d hd2
        refine nm_r (nI_1 d) ?_
        refine ih (d + 1) (by omega) (by omega) (by omega) (fun e he hed => ?_)
        by_cases z : e = d
        · rw [z]
          exact fun w => h4 (Nat.mod_eq_zero_of_dvd w)
        · exact H e he (by omega)

theorem pd_yprime {post : Int32 → Prop} {n : Nat} (hn : n < 32767) (h1 : pd_P n → post 1) (h0 : ¬ pd_P n → post 0) : wpY_prime post fh (nI n) := by
  refine pk_le 2 n (fun h2 => ?_) (fun h2 => ?_)
  · exact ⟨n + 2, pd_yp9 (by omega) h2 h1 h0 (n + 2) 2 (by omega) (by omega) (by omega) (fun e he hl => by omega)⟩
  · exact h0 (fun z => by have := z.1; omega)

theorem pd_ycom5 {post : Int32 → Prop} : ∀ n x y, x < n → x < 2 ^ 31 → y < 2 ^ 31 → post (nI (Nat.gcd x y)) → wY_common_5 post fh n (nI x) (nI y) := by
  intro n
  induction n with
  | zero => intro x y h; exact absurd h (Nat.not_lt_zero _)
  | succ n ih =>
    intro x y hn hx hy h
    refine pk_eq x 0 (fun h0 => ?_) (fun h0 => ?_)
    · rw [h0, Nat.gcd_zero_left] at h
      exact h
    · have hl : y % x < x := Nat.mod_lt _ (by omega)
      refine And.intro (nI_ne0 (by omega) hx) ?_
      refine nm_r (pk_rem hy (by omega) hx) ?_
      refine ih (y % x) x (by omega) (by omega) hx ?_
      rw [← Nat.gcd_rec]
      exact h

theorem pd_ycom {post : Int32 → Prop} {x y : Nat} (hx : x < 2 ^ 31) (hy : y < 2 ^ 31) (h : post (nI (Nat.gcd x y))) : wpY_common post fh (nI x) (nI y) :=
  Exists.intro (x + 1) (pd_ycom5 (x + 1) x y (by omega) hx hy h)
end
end
section
/-- a list in an array, from the front -/
def pd_rep (a : Nat → Int32) (L : List Nat) : Prop := ∀ i x, L[i]? = some x → a i = nI x
/-- a stack in an array, its top last -/
def pd_stk (a : Nat → Int32) : List Nat → Prop
  | [] => True
  | x :: t => a t.length = nI x ∧ pd_stk a t
def pd_mu : List Nat → Nat
  | [] => 0
  | x :: t => (x - 1) + pd_mu t
def pd_L (n : Nat) (L : List Nat) : Prop := L.Pairwise (fun a b => a ≤ b) ∧ (∀ q ∈ L, pd_P q) ∧ L.prod = n

theorem pd_stkU {a : Nat → Int32} {k : Nat} {v : Int32} : ∀ t : List Nat, t.length ≤ k → pd_stk a t → pd_stk (upd a k v) t := by
  intro t
  induction t with
  | nil => exact fun _ _ => trivial
  | cons x t ih =>
    intro hk h
    rw [List.length_cons] at hk
    refine ⟨?_, ih (by omega) h.2⟩
    rw [pk_un (by omega)]
    exact h.1

theorem pd_stkP {a : Nat → Int32} {x : Nat} {t : List Nat} (h : pd_stk a t) : pd_stk (upd a t.length (nI x)) (x :: t) := ⟨pk_us, pd_stkU t (Nat.le_refl _) h⟩

theorem pd_len14 {L T : List Nat} (hL : ∀ q ∈ L, 2 ≤ q) (hT : ∀ q ∈ T, 2 ≤ q) (h : L.prod * T.prod < 32768) : L.length + T.length < 15 := by
  have h1 := pd_len2 L hL
  have h2 := pd_len2 T hT
  have h3 : 2 ^ (L.length + T.length) ≤ L.prod * T.prod := by
    rw [Nat.pow_add]
    exact Nat.mul_le_mul h1 h2
  have h4 : 2 ^ (L.length + T.length) < 2 ^ 15 := by omega
  exact (Nat.pow_lt_pow_iff_right (by decide)).mp h4

theorem pd_P2 : pd_P 2 := by
  rw [pd_P_iff (Nat.le_refl 2)]
  intro d hd hdd
  have : 2 * d ≤ d * d := Nat.mul_le_mul_right d hd
  omega

section
variable {f1 f2 f3 f4 : Int32} {a1 a2 : Nat → Int32}

theorem pd_w84 {post : Int32 → Prop} {J : Int32 → Int32 → Int32 → Int32 → Prop} {x2 x3 x4 : Int32} {n k z : Nat} (hn : 0 < n) (hn2 : n < 32768) (hz : z < 32768)
    (h : ∀ d, 0 < d → d ∣ n → J x3 x4 (nI d) (nI (k + 1))) : wX_walk_84 post J (nI n) x2 x3 x4 (nI k) (nI z) f1 f2 f3 f4 a1 a2 := by
  refine pk_eq z 0 (fun h0 => ?_) (fun h0 => ?_)
  · refine nm_r (nI_1 k) ?_
    exact h n hn (Nat.dvd_refl n)
  · refine pd_gcdX (by omega) (by omega) ?_
    refine nm_r (nI_1 k) ?_
    exact h (Nat.gcd z n) (Nat.gcd_pos_of_pos_right z hn) (Nat.gcd_dvd_right z n)

theorem pd_addRem {a b n : Nat} (hab : a + b < 2 ^ 31) (h0 : 0 < n) (hn : n < 2 ^ 31) : (nI a + nI b) - (nI a + nI b) / nI n * nI n = nI ((a + b) % n) := by
  rw [nI_add]
  exact pk_rem hab h0 hn

theorem pd_w11 {post : Int32 → Prop} {n c : Nat} (hn : 0 < n) (hn2 : n < 32768) (hc : c < 10) (h : ∀ d, 0 < d → d ∣ n → post (nI d)) : ∀ m s f d k, 2001 ≤ m + k → k ≤ 2000 → s < n → f < n → 0 < d → d ∣ n →
    wX_walk_11 post (nI n) (nI c) f1 f2 f3 f4 a1 a2 m (nI s) (nI f) (nI d) (nI k) := by
  intro m
  induction m with
  | zero => intro s f d k h1 h2; omega
  | succ m ih =>
    intro s f d k hm hk hs hf hd0 hd
    have hdl := Nat.le_of_dvd hn hd
    have hml : ∀ x, x % n < n := fun x => Nat.mod_lt x hn
    have hn0 := nI_ne0 hn (by omega)
    refine pk_le 2000 k (fun h0 => h d hd0 hd) (fun h0 => ?_)
    refine pk_eq d 1 (fun h1 => ?_) (fun h1 => h d hd0 hd)
    have l1 := hml (s * s)
    have l2 := hml (f * f)
    refine pd_times (by omega) (by omega) hn (by omega) ?_
    refine And.intro hn0 ?_
    refine nm_r (pd_addRem (by omega) hn (by omega)) ?_
    refine pd_times (by omega) (by omega) hn (by omega) ?_
    refine And.intro hn0 ?_
    refine nm_r (pd_addRem (by omega) hn (by omega)) ?_
    have l3 := hml (s * s % n + c)
    have l4 := hml (f * f % n + c)
    generalize (s * s % n + c) % n = s' at *
    generalize (f * f % n + c) % n = f' at *
    have l5 := hml (f' * f')
    refine pd_times (by omega) (by omega) hn (by omega) ?_
    refine And.intro hn0 ?_
    refine nm_r (pd_addRem (by omega) hn (by omega)) ?_
    have l6 := hml (f' * f' % n + c)
    generalize (f' * f' % n + c) % n = f'' at *
    refine pk_le s' f'' (fun h2 => ?_) (fun h2 => ?_)
    · rw [pk_sub h2]
      exact pd_w84 hn hn2 (by omega) (fun d' hd1 hd2 => ih s' f'' d' (k + 1) (by omega) (by omega) l3 l6 hd1 hd2)
    · rw [pk_sub (by omega)]
      exact pd_w84 hn hn2 (by omega) (fun d' hd1 hd2 => ih s' f'' d' (k + 1) (by omega) (by omega) l3 l6 hd1 hd2)

theorem pd_walk {post : Int32 → Prop} {n c : Nat} (hn : 2 < n) (hn2 : n < 32768) (hc : c < 10) (h : ∀ d, 0 < d → d ∣ n → post (nI d)) :
    wpX_walk post (f1, f2, f3, f4, a1, a2) (nI n) (nI c) :=
  Exists.intro 2001 (pd_w11 (by omega) hn2 hc h 2001 2 2 1 0 (by omega) (by omega) hn hn (by omega) (Nat.one_dvd n))

theorem pd_sp43 {post : Int32 → Prop} {n d0 : Nat} (hn : 2 < n) (hn2 : n < 32768) (hd : d0 ∣ n) (hdn : d0 < n) (ho : d0 % 2 = 1) (h : ∀ d, 1 < d → d < n → d ∣ n → post (nI d)) : ∀ m d, d0 < m + d → d ≤ d0 → 1 < d → d % 2 = 1 →
    wX_splitter_43 post (nI n) f1 f2 f3 f4 a1 a2 m (nI d) := by
  intro m
  induction m with
  | zero => intro d h1 h2; omega
  | succ m ih =>
    intro d h1 h2 h3 h4
    have hml : n % d < d := Nat.mod_lt n (by omega)
    refine And.intro (nI_ne0 (by omega) (by omega)) ?_
    refine pk_eq (n % d) 0 (fun h5 => ?_) (fun h5 => ?_) (hx := pk_rem (by omega) (by omega) (by omega))
    · exact h d h3 (by omega) (Nat.dvd_of_mod_eq_zero h5)
    · have hne : d ≠ d0 := by
        intro e
        rw [e] at h5
        exact h5 (Nat.mod_eq_zero_of_dvd hd)
      refine nm_r (nI_add d 2) ?_
      exact ih (d + 2) (by omega) (by omega) (by omega) (by omega)

theorem pd_sp10 {post : Int32 → Prop} {n d0 : Nat} (hn : 2 < n) (hn2 : n < 32768) (hd : d0 ∣ n) (hd1 : 3 ≤ d0) (hdn : d0 < n) (ho : d0 % 2 = 1) (h : ∀ d, 1 < d → d < n → d ∣ n → post (nI d)) : ∀ m c, 10 ≤ m + c → c ≤ 9 →
    wX_splitter_10 post (nI n) f1 f2 f3 f4 a1 a2 m (nI c) := by
  intro m
  induction m with
  | zero => intro c h1 h2; omega
  | succ m ih =>
    intro c h1 h2
    refine pk_lt 8 c (fun h3 => ?_) (fun h3 => ?_)
    · exact ⟨d0 + 1, pd_sp43 hn hn2 hd hdn ho h (d0 + 1) 3 (by omega) (by omega) (by omega) (by omega)⟩
    · refine pd_walk hn hn2 (by omega) (fun d hd2 hd3 => ?_)
      have hle := Nat.le_of_dvd (by omega) hd3
      refine pk_le d 1 (fun h4 => ?_) (fun h4 => ?_)
      · refine nm_r (nI_1 c) ?_
        exact ih (c + 1) (by omega) (by omega)
      · refine pk_le n d (fun h5 => ?_) (fun h5 => ?_)
        · refine nm_r (nI_1 c) ?_
          exact ih (c + 1) (by omega) (by omega)
        · exact h d h4 h5 hd3

theorem pd_splitter {post : Int32 → Prop} {n : Nat} (hn : 2 ≤ n) (hn2 : n < 32768) (hP : ¬ pd_P n) (h : ∀ d, 1 < d → d < n → d ∣ n → post (nI d)) :
    wpX_splitter post (f1, f2, f3, f4, a1, a2) (nI n) := by
  have hne : n ≠ 2 := fun e => hP (e ▸ pd_P2)
  refine And.intro (by decide) ?_
  refine pk_eq (n % 2) 0 (fun h0 => ?_) (fun h0 => ?_) (hx := pk_rem (d := 2) (by omega) (by omega) (by omega))
  · exact h 2 (by omega) (by omega) (Nat.dvd_of_mod_eq_zero h0)
  · have hex : ∃ d, 1 < d ∧ d < n ∧ d ∣ n := by
      by_cases z : ∃ d, 1 < d ∧ d < n ∧ d ∣ n
      · exact z
      · refine (hP ⟨hn, fun d hd => ?_⟩).elim
        have h1 := Nat.le_of_dvd (by omega) hd
        have h2 := Nat.pos_of_dvd_of_pos hd (by omega)
        by_cases h3 : d = 1
        · exact Or.inl h3
        · by_cases h4 : d = n
          · exact Or.inr h4
          · exact (z ⟨d, by omega, by omega, hd⟩).elim
    obtain ⟨d0, hd1, hd2, hd3⟩ := hex
    have ho : d0 % 2 = 1 := by
      by_cases z : d0 % 2 = 1
      · exact z
      · exfalso
        exact h0 (Nat.mod_eq_zero_of_dvd (Nat.dvd_trans (Nat.dvd_of_mod_eq_zero (by omega)) hd3))
    exact ⟨10, pd_sp10 (by omega) hn2 hd3 (by omega) hd2 ho h 10 1 (by omega) (by omega)⟩

theorem pd_push {post : SX → Prop} {c : Nat} {x : Int32} (hc : c < 20) (h : post (f1, f2, f3, nI (c + 1), a1, upd a2 c x)) : wpX_pushPart post (f1, f2, f3, nI c, a1, a2) x := by
  refine And.intro (vp_in_nI hc (by omega)) ?_
  refine nm_r (congrArg (fun z => upd a2 z x) (nI_clamp (by omega))) ?_
  refine nm_r (nI_1 c) ?_
  exact h

theorem pd_ins41 {post : SX → Prop} {p : Nat} {A B : List Nat} {c : Nat} {a : Nat → Int32} (hl : A.length < 20) (hA : pd_rep a A) (hB : ∀ i x, B[i]? = some x → a (A.length + 1 + i) = nI x)
    (h : ∀ a', pd_rep a' (A ++ p :: B) → post (f1, f2, nI (c + 1), f4, a', a2)) : wX_insertFactor_41 post (nI p) (nI A.length) f1 f2 (nI c) f4 a a2 := by
  refine And.intro (vp_in_nI hl (by omega)) ?_
  refine nm_r (congrArg (fun z => upd a z (nI p)) (nI_clamp (by omega))) ?_
  refine nm_r (nI_1 c) ?_
  refine h _ (fun i x hx => ?_)
  by_cases h1 : i < A.length
  · rw [List.getElem?_append_left h1] at hx
    rw [pk_un (by omega)]
    exact hA i x hx
  · rw [List.getElem?_append_right (by omega)] at hx
    by_cases h2 : i = A.length
    · rw [h2, Nat.sub_self, List.getElem?_cons_zero] at hx
      rw [h2, pk_us, Option.some.inj hx]
    · obtain ⟨j, hj⟩ : ∃ j, i = A.length + 1 + j := ⟨i - (A.length + 1), by omega⟩
      have hj2 : i - A.length = j + 1 := by omega
      rw [hj2, List.getElem?_cons_succ] at hx
      rw [pk_un h2, hj]
      exact hB j x hx

theorem pd_ins5 {post : SX → Prop} {p c : Nat} {L : List Nat} (hp : p < 32768) (hL : ∀ x ∈ L, x < 32768) (hs : L.Pairwise (fun a b => a ≤ b)) (hlen : L.length < 20)
    (h : ∀ A B a', A ++ B = L → (∀ x ∈ A, x ≤ p) → (∀ x ∈ B, p ≤ x) → pd_rep a' (A ++ p :: B) → post (f1, f2, nI (c + 1), f4, a', a2)) :
    ∀ m (A B : List Nat) (a : Nat → Int32), A.length < m → A ++ B = L → (∀ x ∈ B, p ≤ x) → pd_rep a A → (∀ i x, B[i]? = some x → a (A.length + 1 + i) = nI x) →
    wX_insertFactor_5 post (nI p) f1 f2 (nI c) f4 m (nI A.length) a a2 := by
  intro m
  induction m with
  | zero => intro A B a h1; omega
  | succ m ih =>
    intro A B a hm hAB hB hA hBr
    have hlA : A.length < 20 := by
      have := congrArg List.length hAB
      rw [List.length_append] at this
      omega
    rcases List.eq_nil_or_concat A with e | ⟨A', x, e⟩
    · subst e
      refine br_t ?_ ?_
      · exact nI_le (a := 0) (b := 0) (Nat.le_refl 0) (by decide)
      · exact pd_ins41 hlA hA hBr (fun a' ha' => h [] B a' hAB (fun x hx => by cases hx) hB ha')
    · rw [List.concat_eq_append] at e
      subst e
      have hlen2 : (A' ++ [x]).length = A'.length + 1 := by rw [List.length_append]; rfl
      rw [hlen2] at hlA hBr hm
      have hx : a A'.length = nI x := hA A'.length x (by rw [List.getElem?_append_right (Nat.le_refl _), Nat.sub_self]; rfl)
      have hxL : x < 32768 := hL x (by rw [← hAB]; exact List.mem_append_left _ (List.mem_append_right _ List.mem_cons_self))
      have hcl : (nI (A' ++ [x]).length - 1).toNatClampNeg = A'.length := by rw [hlen2, nI_pred]; exact nI_clamp (by omega)
      have hin : vp_in (nI (A' ++ [x]).length - 1) 20 := by rw [hlen2, nI_pred]; exact vp_in_nI (by omega) (by omega)
      refine pk_le (A' ++ [x]).length 0 (fun h0 => by omega) (fun h0 => ?_)
      refine And.intro hin ?_
      rw [hcl, hx]
      refine pk_le x p (fun h1 => ?_) (fun h1 => ?_)
      · have hBr' : ∀ i y, B[i]? = some y → a ((A' ++ [x]).length + 1 + i) = nI y := by rw [hlen2]; exact hBr
        refine pd_ins41 (by omega) hA hBr' (fun a' ha' => h (A' ++ [x]) B a' hAB (fun y hy => ?_) hB ha')
        rw [← hAB] at hs
        have hs2 := (List.pairwise_append.mp (List.pairwise_append.mp hs).1).2.2
        rcases List.mem_append.mp hy with hy | hy
        · exact Nat.le_trans (hs2 y hy x List.mem_cons_self) h1
        · rw [List.mem_singleton.mp hy]
          exact h1
      · refine And.intro hin ?_
        refine And.intro (vp_in_nI (by omega) (by omega)) ?_
        refine nm_r (congrArg (fun z => upd a z (nI x)) (nI_clamp (by omega))) ?_
        rw [hlen2]
        refine nm_r (pk_m1 A'.length) ?_
        refine ih A' (x :: B) (upd a (A'.length + 1) (nI x)) (by omega) (by rw [← hAB, List.append_assoc]; rfl) (fun y hy => ?_) (fun i y hy => ?_) (fun i y hy => ?_)
        · rcases List.mem_cons.mp hy with hy | hy
          · omega
          · exact hB y hy
        · have hi : i < A'.length := (List.getElem?_eq_some_iff.mp hy).1
          rw [pk_un (by omega)]
          exact hA i y (by rw [List.getElem?_append_left hi]; exact hy)
        · cases i with
          | zero =>
            rw [List.getElem?_cons_zero] at hy
            rw [Nat.add_zero, pk_us, Option.some.inj hy]
          | succ i =>
            rw [List.getElem?_cons_succ] at hy
            rw [pk_un (by omega), Nat.add_assoc A'.length 1 (i + 1), Nat.add_comm 1 (i + 1), ← Nat.add_assoc A'.length]
            have := hBr i y hy
            rw [show A'.length + (i + 1) + 1 = A'.length + 1 + 1 + i by omega]
            exact this

theorem pd_insert {post : SX → Prop} {p : Nat} {L : List Nat} (hp : pd_P p) (hp2 : p < 32768) (hL : ∀ q ∈ L, pd_P q ∧ q < 32768) (hs : L.Pairwise (fun a b => a ≤ b)) (hlen : L.length < 20) (hr : pd_rep a1 L)
    (h : ∀ L' a', L'.Pairwise (fun a b => a ≤ b) → (∀ q ∈ L', pd_P q) → L'.prod = p * L.prod → L'.length = L.length + 1 → pd_rep a' L' → post (f1, f2, nI (L.length + 1), f4, a', a2)) :
    wpX_insertFactor post (f1, f2, nI L.length, f4, a1, a2) (nI p) := by
  refine Exists.intro (L.length + 1) ?_
  refine pd_ins5 (L := L) hp2 (fun x hx => (hL x hx).2) hs hlen ?_ (L.length + 1) L [] a1 (by omega) (List.append_nil L) (fun x hx => by cases hx) hr (fun i x hx => by cases hx)
  intro A B a' hAB hA hB ha'
  have hs2 := hs
  rw [← hAB, List.pairwise_append] at hs2
  refine h (A ++ p :: B) a' ?_ ?_ ?_ ?_ ha'
  · rw [List.pairwise_append, List.pairwise_cons]
    refine ⟨hs2.1, ⟨hB, hs2.2.1⟩, fun x hx y hy => ?_⟩
    rcases List.mem_cons.mp hy with e | e
    · rw [e]
      exact hA x hx
    · exact hs2.2.2 x hx y e
  · intro q hq
    rcases List.mem_append.mp hq with e | e
    · exact (hL q (by rw [← hAB]; exact List.mem_append_left _ e)).1
    · rcases List.mem_cons.mp e with e | e
      · rw [e]
        exact hp
      · exact (hL q (by rw [← hAB]; exact List.mem_append_right _ e)).1
  · rw [← hAB, List.prod_append, List.prod_append, List.prod_cons, Nat.mul_left_comm]
  · rw [← hAB, List.length_append, List.length_append, List.length_cons]
    omega

theorem pd_f39 {post : SX → Prop} {n : Nat} (hn : n < 32768) (hn0 : 0 < n) (h : ∀ L g4 b1 b2, pd_L n L → pd_rep b1 L → post (f1, f2, nI L.length, g4, b1, b2)) :
    ∀ m T L a1 a2, pd_mu T < m → L.Pairwise (fun a b => a ≤ b) → (∀ q ∈ L, pd_P q) → (∀ q ∈ T, 2 ≤ q) → L.prod * T.prod = n → pd_rep a1 L → pd_stk a2 T →
    wX_findFactors_39 post m f1 f2 (nI L.length) (nI T.length) a1 a2 := by
  intro m
  induction m with
  | zero => intro T L a1 a2 h1; omega
  | succ m ih =>
    intro T L a1 a2 hm hs hL hT hpr hr hk
    have hL2 : ∀ q ∈ L, 2 ≤ q := fun q hq => (hL q hq).1
    have h14 := pd_len14 hL2 hT (by omega)
    cases T with
    | nil =>
      refine br_t ?_ ?_
      · exact nI_le (a := 0) (b := 0) (Nat.le_refl 0) (by decide)
      · exact h L _ a1 a2 ⟨hs, hL, by rw [List.prod_nil, Nat.mul_one] at hpr; exact hpr⟩ hr
    | cons x t =>
      rw [List.length_cons] at h14 ⊢
      rw [List.prod_cons] at hpr
      have hx2 : 2 ≤ x := hT x List.mem_cons_self
      have ht : ∀ q ∈ t, 2 ≤ q := fun q hq => hT q (List.mem_cons_of_mem x hq)
      have hmu : pd_mu (x :: t) = (x - 1) + pd_mu t := rfl
      have hxn : x < 32768 := by
        have hd : x ∣ n := by rw [← hpr]; exact Nat.dvd_mul_left_of_dvd (Nat.dvd_mul_right x _) _
        have := Nat.le_of_dvd hn0 hd
        omega
      have hLn : ∀ q ∈ L, pd_P q ∧ q < 32768 := by
        intro q hq
        have hd : q ∣ n := by rw [← hpr]; exact Nat.dvd_mul_right_of_dvd (pd_memDvd L hq) _
        have := Nat.le_of_dvd hn0 hd
        exact ⟨hL q hq, by omega⟩
      refine br_f (nI_nle (by omega) (by omega)) ?_
      refine nm_r (nI_pred t.length) ?_
      refine And.intro (vp_in_nI (by omega) (by omega)) ?_
      refine nm_r (e' := nI x) (by rw [nI_clamp (by omega)]; exact hk.1) ?_
      refine pd_prime hxn (fun hP => ?_) (fun hP => ?_)
      · refine br_f (by decide) ?_
        refine pd_insert hP hxn hLn hs (by omega) hr ?_
        intro L' a' s1 s2 s3 s4 s5
        have key := ih t L' a' a2 (by omega) s1 s2 ht (by rw [s3, ← hpr, Nat.mul_comm x, Nat.mul_assoc]) s5 hk.2
        rw [s4] at key
        exact key
      · refine br_t rfl ?_
        refine pd_splitter hx2 hxn hP (fun d hd1 hd2 hd3 => ?_)
        refine pd_push (by omega) ?_
        refine And.intro (nI_ne0 (by omega) (by omega)) ?_
        rw [pk_div (by omega) (by omega) (by omega)]
        refine pd_push (by omega) ?_
        obtain ⟨e, he⟩ := hd3
        have hdiv : x / d = e := by rw [he]; exact Nat.mul_div_cancel_left e (by omega)
        rw [hdiv]
        have he2 : 2 ≤ e := by
          rcases Nat.lt_or_ge e 2 with z | z
          · exfalso
            have : e = 0 ∨ e = 1 := by omega
            rcases this with z | z
            · rw [z, Nat.mul_zero] at he
              omega
            · rw [z, Nat.mul_one] at he
              omega
          · exact z
        have hde : (e - 1) + (d - 1) < x - 1 := by
          obtain ⟨e', rfl⟩ : ∃ e', e = e' + 2 := ⟨e - 2, by omega⟩
          obtain ⟨d', rfl⟩ : ∃ d', d = d' + 2 := ⟨d - 2, by omega⟩
          have : (d' + 2) * (e' + 2) = d' * e' + 2 * d' + 2 * e' + 4 := by grind
          omega
        have hmu2 : pd_mu (e :: d :: t) = (e - 1) + ((d - 1) + pd_mu t) := rfl
        exact ih (e :: d :: t) L a1 _ (by omega) hs hL (fun q hq => by
          rcases List.mem_cons.mp hq with z | hq
          · omega
          · rcases List.mem_cons.mp hq with z | hq
            · omega
            · exact ht q hq) (by rw [List.prod_cons, List.prod_cons, ← Nat.mul_assoc e, Nat.mul_comm e d, ← he]; exact hpr) hr (pd_stkP (t := d :: t) (pd_stkP hk.2))

def pd_F (n : Nat) (fc : Int32) (a : Nat → Int32) : Prop := ∃ L, pd_L n L ∧ fc = nI L.length ∧ pd_rep a L

theorem pd_find {post : SX → Prop} {n : Nat} (h1 : 1 ≤ n) (h2 : n ≤ 30000) (hs : f2 = 0 ∨ pd_F n f3 a1) (h : ∀ L g2 g4 b1 b2, pd_L n L → pd_rep b1 L → post (nI n, g2, nI L.length, g4, b1, b2)) :
    wpX_findFactors post (nI n, f2, f3, f4, a1, a2) := by
  refine br_c (fun h0 => ?_) (fun h0 => ?_)
  · refine pk_le n 1 (fun h3 => ?_) (fun h3 => ?_)
    · refine ⟨1, pd_f39 (n := n) (by omega) (by omega) (fun L g4 b1 b2 => h L 1 g4 b1 b2) 1 [] [] a1 a2 (by decide) List.Pairwise.nil (fun q hq => by cases hq) (fun q hq => by cases hq) ?_ (fun i x hx => by cases hx) trivial⟩
      show 1 * 1 = n
      omega
    · refine pd_push (c := 0) (by omega) ?_
      refine ⟨n + 1, pd_f39 (n := n) (by omega) (by omega) (fun L g4 b1 b2 => h L 1 g4 b1 b2) (n + 1) [n] [] a1 _ ?_ List.Pairwise.nil (fun q hq => by cases hq) (fun q hq => ?_) ?_ (fun i x hx => by cases hx) (pd_stkP (t := []) trivial)⟩
      · show (n - 1) + 0 < n + 1
        omega
      · rw [List.mem_singleton.mp hq]
        omega
      · show 1 * (n * 1) = n
        omega
  · rcases hs with z | ⟨L, hL, hc, hr⟩
    · exact (h0 z).elim
    · rw [hc]
      exact h L f2 f4 a1 a2 hL hr
end
end
section
/-- one number in both hands; the factors, where they are found, are its primes in ascending order -/
def i_Rel (k : Nat) (u : SX) (v : SY) : Prop :=
  ∃ n, 1 ≤ n ∧ n ≤ 30000 ∧ v = nI n ∧ ∃ f2 f3 f4 a1 a2, u = (nI n, f2, f3, f4, a1, a2) ∧ (f2 = 0 ∨ pd_F n f3 a1)

theorem pd_mk {k n : Nat} {f2 f3 f4 : Int32} {a1 a2 : Nat → Int32} (h1 : 1 ≤ n) (h2 : n ≤ 30000) (hs : f2 = 0 ∨ pd_F n f3 a1) : i_Rel k (nI n, f2, f3, f4, a1, a2) (nI n) :=
  ⟨n, h1, h2, rfl, f2, f3, f4, a1, a2, rfl, hs⟩

theorem pd_mkL {k n : Nat} {f2 f4 : Int32} {a1 a2 : Nat → Int32} {L : List Nat} (h1 : 1 ≤ n) (h2 : n ≤ 30000) (hL : pd_L n L) (hr : pd_rep a1 L) : i_Rel k (nI n, f2, nI L.length, f4, a1, a2) (nI n) :=
  pd_mk h1 h2 (Or.inr ⟨L, hL, rfl, hr⟩)

theorem i_up {k : Nat} {u : SX} {v : SY} (h : i_Rel k u v) : i_Rel (k + 3) u v := h

theorem i_vc0 : wpX_init (fun u => wpY_init (fun v => i_Rel 0 u v)) := pd_mk (k := 0) (n := 1) (by decide) (by decide) (Or.inl rfl)

theorem pd_arg0 {x : Int32} (h0 : ¬ x < 0) (h1 : x ≤ 30000) : ∃ j, j ≤ 30000 ∧ x = nI j := nI_of2 (M := 30000) (by decide) h0 h1

theorem pd_lt01 {x : Int32} (h : ¬ x < 1) : ¬ x < 0 := by
  rw [Int32.lt_iff_toInt_lt] at h ⊢
  rw [show (1 : Int32).toInt = 1 by decide] at h
  rw [show (0 : Int32).toInt = 0 by decide]
  omega

theorem pd_arg1 {x : Int32} (h0 : ¬ x < 1) (h1 : x ≤ 30000) : ∃ j, 1 ≤ j ∧ j ≤ 30000 ∧ x = nI j := by
  obtain ⟨j, hj, rfl⟩ := pd_arg0 (pd_lt01 h0) h1
  refine ⟨j, ?_, hj, rfl⟩
  by_cases z : 1 ≤ j
  · exact z
  · exact (h0 (nI_lt (a := j) (b := 1) (by omega) (by decide))).elim

theorem i_vc_take {k : Nat} {u : SX} {v : SY} (I : i_Rel k u v) (hk : k + 3 ≤ 1536) (v1 : Int32) : wpX_take (fun r u' => wpY_take (fun r' v' => r' = r ∧ i_Rel (k + 3) u' v') v v1) u v1 := by
  obtain ⟨n, h1, h2, rfl, f2, f3, f4, a1, a2, rfl, hs⟩ := I
  by_cases h3 : v1 < 1
  · exact br_t h3 (br_t h3 ⟨rfl, pd_mk h1 h2 hs⟩)
  · by_cases h4 : v1 ≤ 30000
    · obtain ⟨j, hj1, hj2, rfl⟩ := pd_arg1 h3 h4
      exact br_f h3 (br_t h4 (br_f h3 (br_t h4 ⟨rfl, pd_mk hj1 hj2 (Or.inl rfl)⟩)))
    · exact br_f h3 (br_f h4 (br_f h3 (br_f h4 ⟨rfl, pd_mk h1 h2 hs⟩)))

theorem i_vc_isPrime {k : Nat} {u : SX} {v : SY} (I : i_Rel k u v) (hk : k + 3 ≤ 1536) : wpX_isPrime (fun r => wpY_isPrime (fun r' => r' = r ∧ i_Rel (k + 3) u v) v) u := by
  obtain ⟨n, h1, h2, rfl, f2, f3, f4, a1, a2, rfl, hs⟩ := I
  refine pd_prime (by omega) (fun hP => ?_) (fun hP => ?_)
  · exact ⟨rfl, pd_yprime (by omega) (fun _ => ⟨rfl, rfl, pd_mk h1 h2 hs⟩) (fun z => (z hP).elim)⟩
  · exact ⟨rfl, pd_yprime (by omega) (fun z => (hP z).elim) (fun _ => ⟨rfl, rfl, pd_mk h1 h2 hs⟩)⟩

section
variable {f1 f2 f3 f4 : Int32} {a1 a2 : Nat → Int32} {fh : Int32}

theorem pd_np9 {post : Int32 → Prop} {n q : Nat} (hn : n ≤ 30000) (hq : q ≤ n + 80) (hP : pd_P q) (hl : ∀ j, n < j → j < q → ¬ pd_P j) (h : post (nI q)) : ∀ m k, 81 ≤ m + k → n + 1 + k ≤ q →
    wX_nextPrime_9 post f1 f2 f3 f4 a1 a2 m (nI (n + 1 + k)) (nI k) := by
  intro m
  induction m with
  | zero => intro k h1 h2; omega
  | succ m ih =>
    intro k h1 h2
    refine pk_le 80 k (fun h3 => by omega) (fun h3 => ?_)
    refine pd_prime (by omega) (fun h4 => ?_) (fun h4 => ?_)
    · refine br_f (by decide) ?_
      have e : n + 1 + k = q := by
        by_cases z : n + 1 + k = q
        · exact z
        · exact (hl (n + 1 + k) (by omega) (by omega) h4).elim
      rw [e]
      exact h
    · have hne : n + 1 + k ≠ q := fun e => h4 (e ▸ hP)
      refine br_t rfl ?_
      refine nm_r (nI_1 _) ?_
      refine nm_r (nI_1 _) ?_
      exact ih (k + 1) (by omega) (by omega)

theorem pd_ynp7 {post : Int32 → Prop} {n q : Nat} (hn : n ≤ 30000) (hq : q ≤ n + 80) (hP : pd_P q) (hl : ∀ j, n < j → j < q → ¬ pd_P j) (h : post (nI q)) : ∀ m k, 81 ≤ m + k → n + 1 + k ≤ q →
    wY_nextPrime_7 post fh m (nI (n + 1 + k)) := by
  intro m
  induction m with
  | zero => intro k h1 h2; omega
  | succ m ih =>
    intro k h1 h2
    refine pd_yprime (by omega) (fun h4 => ?_) (fun h4 => ?_)
    · refine br_f (by decide) ?_
      have e : n + 1 + k = q := by
        by_cases z : n + 1 + k = q
        · exact z
        · exact (hl (n + 1 + k) (by omega) (by omega) h4).elim
      rw [e]
      exact h
    · have hne : n + 1 + k ≠ q := fun e => h4 (e ▸ hP)
      refine br_t rfl ?_
      refine nm_r (nI_1 _) ?_
      exact ih (k + 1) (by omega) (by omega)

theorem pd_yStep {x b n : Nat} (hn : 0 < n) (hn2 : n ≤ 32768) (hx : x < n) (hb : b < 2 ^ 31) :
    (nI x * (nI b - nI b / nI n * nI n)) - (nI x * (nI b - nI b / nI n * nI n)) / nI n * nI n = nI (x * (b % n) % n) := by
  rw [pk_rem hb hn (by omega), pk_mul, pk_rem (pd_mulLt hx (Nat.mod_lt b hn) hn2) hn (by omega)]

theorem pd_powS (b e n : Nat) : (b ^ e % n) * (b % n) % n = b ^ (e + 1) % n := by
  rw [Nat.pow_succ]
  exact pd_mulC (Nat.mod_mod _ _) (Nat.mod_mod _ _)

theorem pd_yp34 {post : Int32 → Prop} {n b e : Nat} (hn : 0 < n) (hn2 : n ≤ 32768) (hb : b < 2 ^ 31) (he : e < 2 ^ 31 - 1) (h : post (nI (b ^ e % n))) : ∀ m j, e < m + j → j ≤ e →
    wY_power_34 post (nI b) (nI e) (nI n) m (nI (b ^ j % n)) (nI j) := by
  intro m
  induction m with
  | zero => intro j h1 h2; omega
  | succ m ih =>
    intro j h1 h2
    have hn0 := nI_ne0 hn (by omega)
    refine pk_le e j (fun h3 => ?_) (fun h3 => ?_)
    · have e1 : j = e := by omega
      rw [e1]
      exact h
    · refine And.intro hn0 (And.intro hn0 ?_)
      refine nm_r (pd_yStep hn hn2 (Nat.mod_lt _ hn) hb) ?_
      rw [pd_powS]
      refine nm_r (nI_1 _) ?_
      exact ih (j + 1) (by omega) (by omega)
end

theorem i_vc_nextPrime {k : Nat} {u : SX} {v : SY} (I : i_Rel k u v) (hk : k + 3 ≤ 1536) : wpX_nextPrime (fun r => wpY_nextPrime (fun r' => r' = r ∧ i_Rel (k + 3) u v) v) u := by
  obtain ⟨n, h1, h2, rfl, f2, f3, f4, a1, a2, rfl, hs⟩ := I
  obtain ⟨q0, hq1, hq2, hq3⟩ := pd_gap h2
  obtain ⟨q, ⟨g1, g2⟩, g3⟩ := pk_least (fun q => n < q ∧ pd_P q) ⟨q0, hq1, hq3⟩
  have hq : q ≤ n + 80 := by
    by_cases z : q ≤ q0
    · omega
    · exact (g3 q0 (by omega) ⟨hq1, hq3⟩).elim
  have hl : ∀ j, n < j → j < q → ¬ pd_P j := fun j hj hjq hP => g3 j hjq ⟨hj, hP⟩
  refine nm_r (P := fun x => ∃ n9 : Nat, wX_nextPrime_9 _ (nI n) f2 f3 f4 a1 a2 n9 x 0) (nI_1 n) ?_
  refine ⟨81, pd_np9 h2 hq g2 hl ?_ 81 0 (by omega) (by omega)⟩
  refine nm_r (P := fun x => ∃ n7 : Nat, wY_nextPrime_7 _ (nI n) n7 x) (nI_1 n) ?_
  refine ⟨81, pd_ynp7 h2 hq g2 hl ?_ 81 0 (by omega) (by omega)⟩
  exact ⟨rfl, pd_mk h1 h2 hs⟩

theorem i_vc_power {k : Nat} {u : SX} {v : SY} (I : i_Rel k u v) (hk : k + 3 ≤ 1536) (v1 : Int32) (v2 : Int32) : wpX_power (fun r => wpY_power (fun r' => r' = r ∧ i_Rel (k + 3) u v) v v1 v2) u v1 v2 := by
  obtain ⟨n, h1, h2, rfl, f2, f3, f4, a1, a2, rfl, hs⟩ := I
  by_cases c1 : v1 < 0
  · exact br_t c1 (br_t c1 ⟨rfl, pd_mk h1 h2 hs⟩)
  · by_cases c2 : 30000 < v1
    · exact br_f c1 (br_t c2 (br_f c1 (br_t c2 ⟨rfl, pd_mk h1 h2 hs⟩)))
    · by_cases c3 : v2 < 0
      · exact br_f c1 (br_f c2 (br_t c3 (br_f c1 (br_f c2 (br_t c3 ⟨rfl, pd_mk h1 h2 hs⟩)))))
      · by_cases c4 : v2 ≤ 30000
        · obtain ⟨b, hb, rfl⟩ := pd_arg0 c1 (Int32.not_lt.mp c2)
          obtain ⟨e, he, rfl⟩ := pd_arg0 c3 c4
          refine br_f c1 (br_f c2 (br_f c3 (br_t c4 ?_)))
          refine pd_power (by omega) (by omega) (by omega) (by omega) ?_
          refine br_f c1 (br_f c2 (br_f c3 (br_t c4 ?_)))
          refine And.intro (nI_ne0 (by omega) (by omega)) ?_
          refine nm_r (pk_rem (a := 1) (by decide) (by omega) (by omega)) ?_
          refine ⟨e + 1, ?_⟩
          have key := pd_yp34 (post := fun r' => r' = nI (b ^ e % n) ∧ i_Rel (k + 3) (nI n, f2, f3, f4, a1, a2) (nI n)) (n := n) (b := b) (e := e) (by omega) (by omega) (by omega) (by omega) ⟨rfl, pd_mk h1 h2 hs⟩ (e + 1) 0 (by omega) (by omega)
          rw [Nat.pow_zero] at key
          exact key
        · exact br_f c1 (br_f c2 (br_f c3 (br_f c4 (br_f c1 (br_f c2 (br_f c3 (br_f c4 ⟨rfl, pd_mk h1 h2 hs⟩)))))))
end
section
/-! the list of the factors, by places -/
theorem pd_le {L : List Nat} (hs : L.Pairwise (fun a b => a ≤ b)) {i j x y : Nat} (hi : L[i]? = some x) (hj : L[j]? = some y) (h : i ≤ j) : x ≤ y := by
  obtain ⟨hi1, hi2⟩ := List.getElem?_eq_some_iff.mp hi
  obtain ⟨hj1, hj2⟩ := List.getElem?_eq_some_iff.mp hj
  by_cases e : i = j
  · subst e
    rw [hi] at hj
    exact Nat.le_of_eq (Option.some.inj hj)
  · have := (List.pairwise_iff_getElem.mp hs) i j hi1 hj1 (by omega)
    rw [hi2, hj2] at this
    exact this

theorem pd_takeS {L : List Nat} {k p : Nat} (h : L[k]? = some p) : (L.take (k + 1)).prod = (L.take k).prod * p := by
  rw [List.take_add_one, h, List.prod_append]
  show (L.take k).prod * (p * 1) = _
  rw [Nat.mul_one]

theorem pd_dropS {L : List Nat} {k p : Nat} (h : L[k]? = some p) : L.drop k = p :: L.drop (k + 1) := by
  obtain ⟨h1, h2⟩ := List.getElem?_eq_some_iff.mp h
  rw [List.drop_eq_getElem_cons h1, h2]

theorem pd_td (L : List Nat) (k : Nat) : (L.take k).prod * (L.drop k).prod = L.prod := by
  rw [← List.prod_append, List.take_append_drop]

theorem pd_at {L : List Nat} {k : Nat} (h : k < L.length) : ∃ p, L[k]? = some p := ⟨L[k], List.getElem?_eq_some_iff.mpr ⟨h, rfl⟩⟩

theorem pd_new {n : Nat} {L : List Nat} (hL : pd_L n L) {k p p' : Nat} (h : L[k]? = some p) (h' : L[k + 1]? = some p') (hne : p ≠ p') : ¬ p' ∣ (L.take (k + 1)).prod := by
  intro hd
  have hP : pd_P p' := hL.2.1 p' (List.mem_of_getElem? h')
  have hm := pd_dvdProd hP (L.take (k + 1)) (fun q hq => hL.2.1 q (List.mem_of_mem_take hq)) hd
  obtain ⟨i, hi⟩ := List.mem_iff_getElem?.mp hm
  have hik : i < k + 1 := by
    obtain ⟨h1, _⟩ := List.getElem?_eq_some_iff.mp hi
    rw [List.length_take] at h1
    omega
  rw [List.getElem?_take_of_lt hik] at hi
  have h1 := pd_le hL.1 hi h (by omega)
  have h2 := pd_le hL.1 h h' (by omega)
  omega

theorem pd_Pos {n : Nat} {L : List Nat} (hL : pd_L n L) : 0 < n := by
  rw [← hL.2.2]
  exact pd_prodPos L (fun q hq => by have := (hL.2.1 q hq).1; omega)

theorem pd_dropPos {n : Nat} {L : List Nat} (hL : pd_L n L) (k : Nat) : 0 < (L.drop k).prod := pd_prodPos _ (fun q hq => by have := (hL.2.1 q (List.mem_of_mem_drop hq)).1; omega)
theorem pd_takePos {n : Nat} {L : List Nat} (hL : pd_L n L) (k : Nat) : 0 < (L.take k).prod := pd_prodPos _ (fun q hq => by have := (hL.2.1 q (List.mem_of_mem_take hq)).1; omega)

theorem pd_dropLe {n : Nat} {L : List Nat} (hL : pd_L n L) (k : Nat) : (L.drop k).prod ≤ n := by
  refine Nat.le_of_dvd (pd_Pos hL) ?_
  rw [← hL.2.2, ← pd_td L k]
  exact Nat.dvd_mul_left _ _

theorem pd_memLe {n : Nat} {L : List Nat} (hL : pd_L n L) {q : Nat} (hq : q ∈ L) : q ≤ n := by
  refine Nat.le_of_dvd (pd_Pos hL) ?_
  rw [← hL.2.2]
  exact pd_memDvd L hq

theorem pd_len {n : Nat} {L : List Nat} (hL : pd_L n L) (hn : n < 32768) : L.length < 15 := by
  have := pd_len14 (L := L) (T := []) (fun q hq => (hL.2.1 q hq).1) (fun q hq => by cases hq) (by rw [List.prod_nil, Nat.mul_one, hL.2.2]; exact hn)
  exact this

/-- the next number that divides the rest is the next factor -/
theorem pd_head {n : Nat} {L : List Nat} (hL : pd_L n L) {c d : Nat} (hd : 2 ≤ d) (hq : ∀ q ∈ L.drop c, d ≤ q) (h : d ∣ (L.drop c).prod) : L[c]? = some d := by
  obtain ⟨s, hs, hsd⟩ := pd_exP d hd
  have hm := pd_dvdProd hs (L.drop c) (fun q hq => hL.2.1 q (List.mem_of_mem_drop hq)) (Nat.dvd_trans hsd h)
  have h1 := hq s hm
  have h2 := Nat.le_of_dvd (by omega) hsd
  have e : s = d := by omega
  rw [e] at hm
  obtain ⟨j, hj⟩ := List.mem_iff_getElem?.mp hm
  rw [List.getElem?_drop] at hj
  have hc : c < L.length := by
    have := (List.getElem?_eq_some_iff.mp hj).1
    omega
  obtain ⟨x, hx⟩ := pd_at hc
  have h3 := pd_le hL.1 hx hj (by omega)
  have h4 := hq x (by rw [pd_dropS hx]; exact List.mem_cons_self)
  rw [hx]
  exact congrArg some (by omega)

theorem pd_skip {n : Nat} {L : List Nat} (hL : pd_L n L) {c d : Nat} (hq : ∀ q ∈ L.drop c, d ≤ q) (h : ¬ d ∣ (L.drop c).prod) : ∀ q ∈ L.drop c, d + 1 ≤ q := by
  intro q hm
  have h1 := hq q hm
  by_cases e : q = d
  · rw [e] at hm
    exact (h (pd_memDvd _ hm)).elim
  · omega

theorem pd_endD {n : Nat} {L : List Nat} (hL : pd_L n L) {c d : Nat} (hc : c ≤ L.length) (hq : ∀ q ∈ L.drop c, d ≤ q) (h : (L.drop c).prod < d) : c = L.length := by
  by_cases e : c < L.length
  · obtain ⟨x, hx⟩ := pd_at e
    have hm : x ∈ L.drop c := by rw [pd_dropS hx]; exact List.mem_cons_self
    have h1 := hq x hm
    have h2 := Nat.le_of_dvd (pd_dropPos hL c) (pd_memDvd _ hm)
    omega
  · omega

theorem pd_divD {L : List Nat} {c d : Nat} (hd : 0 < d) (h : L[c]? = some d) : (L.drop c).prod / d = (L.drop (c + 1)).prod := by
  rw [pd_dropS h, List.prod_cons]
  exact Nat.mul_div_cancel_left _ hd

section
variable {fh : Int32} {n : Nat} {L : List Nat}

theorem pd_yf14 {post : Int32 → Prop} {J : Int32 → Int32 → Int32 → Prop} (hL : pd_L n L) (hn : n < 32768) {d : Nat} (hd : 2 ≤ d) (hd2 : d ≤ n)
    (hJ : ∀ c, c ≤ L.length → (∀ q ∈ L.drop c, d + 1 ≤ q) → J (nI c) (nI (L.drop c).prod) (nI (d + 1))) : ∀ m c, L.length < m + c → c ≤ L.length → (∀ q ∈ L.drop c, d ≤ q) →
    wY_factors_14 post J (nI d) fh m (nI c) (nI (L.drop c).prod) := by
  intro m
  induction m with
  | zero => intro c h1 h2; omega
  | succ m ih =>
    intro c h1 h2 h3
    have hl := pd_dropLe hL c
    have hml : (L.drop c).prod % d < d := Nat.mod_lt _ (by omega)
    have hd0 := nI_ne0 (n := d) (by omega) (by omega)
    refine And.intro hd0 ?_
    refine pk_eq ((L.drop c).prod % d) 0 (fun h4 => ?_) (fun h4 => ?_) (hx := pk_rem (by omega) (by omega) (by omega))
    · have hx := pd_head hL hd h3 (Nat.dvd_of_mod_eq_zero h4)
      have hcl := (List.getElem?_eq_some_iff.mp hx).1
      refine And.intro hd0 ?_
      refine nm_r (pk_div (by omega) (by omega) (by omega)) ?_
      rw [pd_divD (by omega) hx]
      refine nm_r (nI_1 c) ?_
      refine ih (c + 1) (by omega) (by omega) (fun q hq => h3 q ?_)
      rw [pd_dropS hx]
      exact List.mem_cons_of_mem _ hq
    · refine nm_r (nI_1 d) ?_
      exact hJ c h2 (pd_skip hL h3 (fun z => h4 (Nat.mod_eq_zero_of_dvd z)))

theorem pd_yf9 {post : Int32 → Prop} (hL : pd_L n L) (hn : n < 32768) (h : post (nI L.length)) : ∀ m c d, n + 2 ≤ m + d → d ≤ n + 2 → 2 ≤ d → c ≤ L.length → (∀ q ∈ L.drop c, d ≤ q) →
    wY_factors_9 post fh (m + 1) (nI c) (nI (L.drop c).prod) (nI d) := by
  intro m
  induction m with
  | zero =>
    intro c d h1 h2 h3 h4 h5
    have hl := pd_dropLe hL c
    refine pk_lt (L.drop c).prod d (fun h6 => ?_) (fun h6 => by omega)
    rw [pd_endD hL h4 h5 h6]
    exact h
  | succ m ih =>
    intro c d h1 h2 h3 h4 h5
    have hl := pd_dropLe hL c
    refine pk_lt (L.drop c).prod d (fun h6 => ?_) (fun h6 => ?_)
    · rw [pd_endD hL h4 h5 h6]
      exact h
    · exact ⟨L.length + 1, pd_yf14 hL hn h3 (by omega) (fun c' hc' hq' => ih c' (d + 1) (by omega) (by omega) (by omega) hc' hq') (L.length + 1) c (by omega) h4 h5⟩

theorem pd_yfactors {post : Int32 → Prop} (hL : pd_L n L) (hn : n < 32768) (h : post (nI L.length)) : wpY_factors post (nI n) := by
  refine Exists.intro (n + 1) ?_
  have key := pd_yf9 (fh := nI n) hL hn h n 0 2 (by omega) (by omega) (by omega) (by omega) (fun q hq => (hL.2.1 q (List.mem_of_mem_drop hq)).1)
  rw [List.drop_zero, hL.2.2] at key
  exact key

theorem pd_yg16 {post : Int32 → Prop} {J : Int32 → Int32 → Int32 → Prop} {x : Int32} (hL : pd_L n L) (hn : n < 32768) {d : Nat} (hd : 2 ≤ d) (hd2 : d ≤ n) (h : ∀ c p, L[c]? = some p → nI c = x → post (nI p))
    (hJ : ∀ c, c ≤ L.length → (∀ q ∈ L.drop c, d + 1 ≤ q) → (∀ i, i < c → nI i ≠ x) → J (nI c) (nI (L.drop c).prod) (nI (d + 1))) : ∀ m c, L.length < m + c → c ≤ L.length → (∀ q ∈ L.drop c, d ≤ q) → (∀ i, i < c → nI i ≠ x) →
    wY_factor_16 post J x (nI d) fh m (nI c) (nI (L.drop c).prod) := by
  intro m
  induction m with
  | zero => intro c h1 h2; omega
  | succ m ih =>
    intro c h1 h2 h3 h5
    have hl := pd_dropLe hL c
    have hml : (L.drop c).prod % d < d := Nat.mod_lt _ (by omega)
    have hd0 := nI_ne0 (n := d) (by omega) (by omega)
    refine And.intro hd0 ?_
    refine pk_eq ((L.drop c).prod % d) 0 (fun h4 => ?_) (fun h4 => ?_) (hx := pk_rem (by omega) (by omega) (by omega))
    · have hx := pd_head hL hd h3 (Nat.dvd_of_mod_eq_zero h4)
      have hcl := (List.getElem?_eq_some_iff.mp hx).1
      refine br_c (fun h6 => h c d hx h6) (fun h6 => ?_)
      refine And.intro hd0 ?_
      refine nm_r (pk_div (by omega) (by omega) (by omega)) ?_
      rw [pd_divD (by omega) hx]
      refine nm_r (nI_1 c) ?_
      refine ih (c + 1) (by omega) (by omega) (fun q hq => h3 q ?_) (fun i hi => ?_)
      · rw [pd_dropS hx]
        exact List.mem_cons_of_mem _ hq
      · by_cases e : i = c
        · rw [e]
          exact h6
        · exact h5 i (by omega)
    · refine nm_r (nI_1 d) ?_
      exact hJ c h2 (pd_skip hL h3 (fun z => h4 (Nat.mod_eq_zero_of_dvd z))) h5

theorem pd_yg10 {post : Int32 → Prop} {x : Int32} (hL : pd_L n L) (hn : n < 32768) (h : ∀ c p, L[c]? = some p → nI c = x → post (nI p)) (h0 : (∀ i, i < L.length → nI i ≠ x) → post (-2)) :
    ∀ m c d, n + 2 ≤ m + d → d ≤ n + 2 → 2 ≤ d → c ≤ L.length → (∀ q ∈ L.drop c, d ≤ q) → (∀ i, i < c → nI i ≠ x) →
    wY_factor_10 post x fh (m + 1) (nI c) (nI (L.drop c).prod) (nI d) := by
  intro m
  induction m with
  | zero =>
    intro c d h1 h2 h3 h4 h5 h7
    have hl := pd_dropLe hL c
    refine pk_lt (L.drop c).prod d (fun h6 => ?_) (fun h6 => by omega)
    rw [pd_endD hL h4 h5 h6] at h7
    exact h0 h7
  | succ m ih =>
    intro c d h1 h2 h3 h4 h5 h7
    have hl := pd_dropLe hL c
    refine pk_lt (L.drop c).prod d (fun h6 => ?_) (fun h6 => ?_)
    · rw [pd_endD hL h4 h5 h6] at h7
      exact h0 h7
    · exact ⟨L.length + 1, pd_yg16 hL hn h3 (by omega) h (fun c' hc' hq' hi' => ih c' (d + 1) (by omega) (by omega) (by omega) hc' hq' hi') (L.length + 1) c (by omega) h4 h5 h7⟩

theorem pd_yfactor {post : Int32 → Prop} {x : Int32} (hL : pd_L n L) (hn : n < 32768) (h : ∀ c p, L[c]? = some p → nI c = x → post (nI p)) (h0 : (∀ i, i < L.length → nI i ≠ x) → post (-2)) : wpY_factor post (nI n) x := by
  refine Exists.intro (n + 1) ?_
  have key := pd_yg10 (fh := nI n) hL hn h h0 n 0 2 (by omega) (by omega) (by omega) (by omega) (fun q hq => (hL.2.1 q (List.mem_of_mem_drop hq)).1) (fun i hi => by omega)
  rw [List.drop_zero, hL.2.2] at key
  exact key

theorem pd_yd4 {post : Int32 → Prop} (hn : n < 32768) (h : post (nI (pd_S (fun _ => 1) n))) : ∀ m d, n < m + d → d ≤ n →
    wY_divisors_4 post (nI n) m (nI (pd_sm (fun k => if n % k = 0 then 1 else 0) d)) (nI (d + 1)) := by
  intro m
  induction m with
  | zero => intro d h1 h2; omega
  | succ m ih =>
    intro d h1 h2
    refine pk_lt n (d + 1) (fun h3 => ?_) (fun h3 => ?_)
    · have e : d = n := by omega
      rw [e]
      exact h
    · have hml : n % (d + 1) < d + 1 := Nat.mod_lt _ (by omega)
      have ih := ih (d + 1) (by omega) (by omega)
      refine And.intro (nI_ne0 (by omega) (by omega)) ?_
      refine pk_eq (n % (d + 1)) 0 (fun h4 => ?_) (fun h4 => ?_) (hx := pk_rem (by omega) (by omega) (by omega))
      · have e : pd_sm (fun k => if n % k = 0 then 1 else 0) (d + 1) = pd_sm (fun k => if n % k = 0 then 1 else 0) d + 1 := congrArg (fun z => _ + z) (if_pos h4)
        rw [e] at ih
        exact nm_r (nI_1 _) (nm_r (nI_1 _) ih)
      · have e : pd_sm (fun k => if n % k = 0 then 1 else 0) (d + 1) = pd_sm (fun k => if n % k = 0 then 1 else 0) d := congrArg (fun z => _ + z) (if_neg h4)
        rw [e] at ih
        exact nm_r (nI_1 _) ih

theorem pd_ys4 {post : Int32 → Prop} (hn : n < 32768) (h : post (nI (pd_S (fun d => d) n))) : ∀ m d, n < m + d → d ≤ n →
    wY_sum_4 post (nI n) m (nI (pd_sm (fun k => if n % k = 0 then k else 0) d)) (nI (d + 1)) := by
  intro m
  induction m with
  | zero => intro d h1 h2; omega
  | succ m ih =>
    intro d h1 h2
    refine pk_lt n (d + 1) (fun h3 => ?_) (fun h3 => ?_)
    · have e : d = n := by omega
      rw [e]
      exact h
    · have hml : n % (d + 1) < d + 1 := Nat.mod_lt _ (by omega)
      have ih := ih (d + 1) (by omega) (by omega)
      refine And.intro (nI_ne0 (by omega) (by omega)) ?_
      refine pk_eq (n % (d + 1)) 0 (fun h4 => ?_) (fun h4 => ?_) (hx := pk_rem (by omega) (by omega) (by omega))
      · have e : pd_sm (fun k => if n % k = 0 then k else 0) (d + 1) = pd_sm (fun k => if n % k = 0 then k else 0) d + (d + 1) := congrArg (fun z => _ + z) (if_pos h4)
        rw [e] at ih
        exact nm_r (nI_add _ _) (nm_r (nI_1 _) ih)
      · have e : pd_sm (fun k => if n % k = 0 then k else 0) (d + 1) = pd_sm (fun k => if n % k = 0 then k else 0) d := congrArg (fun z => _ + z) (if_neg h4)
        rw [e] at ih
        exact nm_r (nI_1 _) ih

theorem pd_yc4 {post : Int32 → Prop} (hn : n < 32768) (h : post (nI (pd_phi n))) : ∀ m d, n < m + d → d ≤ n →
    wY_coprimes_4 post (nI n) m (nI (pd_sm (fun k => if Nat.gcd k n = 1 then 1 else 0) d)) (nI (d + 1)) := by
  intro m
  induction m with
  | zero => intro d h1 h2; omega
  | succ m ih =>
    intro d h1 h2
    refine pk_lt n (d + 1) (fun h3 => ?_) (fun h3 => ?_)
    · have e : d = n := by omega
      rw [e]
      exact h
    · have ih := ih (d + 1) (by omega) (by omega)
      have hgl : Nat.gcd (d + 1) n ≤ d + 1 := Nat.gcd_le_left n (by omega)
      refine pd_ycom (by omega) (by omega) ?_
      refine pk_eq (Nat.gcd (d + 1) n) 1 (fun h4 => ?_) (fun h4 => ?_)
      · have e : pd_sm (fun k => if Nat.gcd k n = 1 then 1 else 0) (d + 1) = pd_sm (fun k => if Nat.gcd k n = 1 then 1 else 0) d + 1 := congrArg (fun z => _ + z) (if_pos h4)
        rw [e] at ih
        exact nm_r (nI_1 _) (nm_r (nI_1 _) ih)
      · have e : pd_sm (fun k => if Nat.gcd k n = 1 then 1 else 0) (d + 1) = pd_sm (fun k => if Nat.gcd k n = 1 then 1 else 0) d := congrArg (fun z => _ + z) (if_neg h4)
        rw [e] at ih
        exact nm_r (nI_1 _) ih
end
end
section
/-! the runs of equal factors -/
def pd_J (n : Nat) (L : List Nat) (k r m : Nat) : Prop := 0 < m ∧ ((k = L.length ∧ m = n) ∨ ∃ p, L[k]? = some p ∧ ¬ p ∣ m ∧ (L.take k).prod = m * p ^ r)

theorem pd_J0 {n : Nat} {L : List Nat} (hL : pd_L n L) : pd_J n L 0 0 1 := by
  refine ⟨Nat.one_pos, ?_⟩
  by_cases h : 0 < L.length
  · obtain ⟨p, hp⟩ := pd_at h
    refine Or.inr ⟨p, hp, fun z => ?_, ?_⟩
    · have := Nat.le_of_dvd (by decide) z
      have := (hL.2.1 p (List.mem_of_getElem? hp)).1
      omega
    · rw [Nat.pow_zero]
      rfl
  · refine Or.inl ⟨by omega, ?_⟩
    have e : L = [] := List.eq_nil_of_length_eq_zero (by omega)
    rw [← hL.2.2, e]
    rfl

theorem pd_Jp {n : Nat} {L : List Nat} {k r m p : Nat} (h : pd_J n L k r m) (hp : L[k]? = some p) : ¬ p ∣ m ∧ (L.take k).prod = m * p ^ r := by
  rcases h.2 with ⟨e, _⟩ | ⟨q, hq, h1, h2⟩
  · have := (List.getElem?_eq_some_iff.mp hp).1
    omega
  · rw [hp] at hq
    cases Option.some.inj hq
    exact ⟨h1, h2⟩

theorem pd_Jend {n : Nat} {L : List Nat} {k r m : Nat} (h : pd_J n L k r m) (hk : L.length ≤ k) : m = n := by
  rcases h.2 with ⟨_, e⟩ | ⟨q, hq, _⟩
  · exact e
  · have := (List.getElem?_eq_some_iff.mp hq).1
    omega

theorem pd_Jmul {n : Nat} {L : List Nat} {k r m p : Nat} (h : pd_J n L k r m) (hp : L[k]? = some p) : (L.take (k + 1)).prod = m * p ^ (r + 1) := by
  rw [pd_takeS hp, (pd_Jp h hp).2, Nat.pow_succ, Nat.mul_assoc]

theorem pd_Jsame {n : Nat} {L : List Nat} {k r m p : Nat} (h : pd_J n L k r m) (hp : L[k]? = some p) (hp' : L[k + 1]? = some p) : pd_J n L (k + 1) (r + 1) m :=
  ⟨h.1, Or.inr ⟨p, hp', (pd_Jp h hp).1, pd_Jmul h hp⟩⟩

theorem pd_Jnext {n : Nat} {L : List Nat} {k r m p : Nat} (hL : pd_L n L) (h : pd_J n L k r m) (hp : L[k]? = some p) (hn : k + 1 = L.length ∨ ∃ p', L[k + 1]? = some p' ∧ p ≠ p') : pd_J n L (k + 1) 0 (m * p ^ (r + 1)) := by
  have e := pd_Jmul h hp
  refine ⟨by rw [← e]; exact pd_takePos hL _, ?_⟩
  rcases hn with hn | ⟨p', hp', hne⟩
  · refine Or.inl ⟨hn, ?_⟩
    rw [← e, hn, List.take_length]
    exact hL.2.2
  · refine Or.inr ⟨p', hp', ?_, ?_⟩
    · rw [← e]
      exact pd_new hL hp hp' hne
    · rw [e, Nat.pow_zero, Nat.mul_one]

section
variable {f1 f2 f3 f4 : Int32} {a1 a2 : Nat → Int32} {n : Nat} {L : List Nat}

theorem pd_xd10 {post : Int32 → SX → Prop} (hL : pd_L n L) (hn : n < 32768) (hr : pd_rep a1 L) (h : post (nI (pd_S (fun _ => 1) n)) (f1, f2, nI L.length, f4, a1, a2)) : ∀ w k r m, L.length < w + k → k ≤ L.length → pd_J n L k r m →
    wX_divisors_10 post f1 f2 (nI L.length) f4 a1 a2 w (nI (pd_S (fun _ => 1) m)) (nI r) (nI k) := by
  intro w
  induction w with
  | zero => intro k r m h1 h2; omega
  | succ w ih =>
    intro k r m h1 h2 hJ
    have hl := pd_len hL hn
    refine pk_le L.length k (fun h3 => ?_) (fun h3 => ?_)
    · rw [pd_Jend hJ h3]
      exact h
    · obtain ⟨p, hp⟩ := pd_at h3
      have hpP := hL.2.1 p (List.mem_of_getElem? hp)
      have hpn := pd_memLe hL (List.mem_of_getElem? hp)
      have c1 : (nI k + 1).toNatClampNeg = k + 1 := pk_cl (k + 1) (nI_1 k)
      have c2 : (nI k).toNatClampNeg = k := nI_clamp (by omega)
      have v1 : vp_in (nI k) 20 := vp_in_nI (by omega) (by omega)
      have hX : nI (pd_S (fun _ => 1) m) * (nI (r + 1) + 1) = nI (pd_S (fun _ => 1) (m * p ^ (r + 1))) := by
        rw [nI_1, pk_mul, pd_Spow (f := fun _ => 1) (c := 1) hpP hJ.1 (pd_Jp hJ hp).1 (fun d => rfl), pd_G1]
      have h51 : (k + 1 = L.length ∨ ∃ p', L[k + 1]? = some p' ∧ p ≠ p') → wX_divisors_51 post (wX_divisors_10 post f1 f2 (nI L.length) f4 a1 a2 w) (nI (pd_S (fun _ => 1) m)) (nI (r + 1)) (nI k) f1 f2 (nI L.length) f4 a1 a2 := by
        intro hc
        refine nm_r hX ?_
        refine nm_r (nI_1 k) ?_
        exact ih (k + 1) 0 (m * p ^ (r + 1)) (by omega) (by omega) (pd_Jnext hL hJ hp hc)
      refine nm_r (nI_1 r) ?_
      refine pk_le L.length (k + 1) (fun h4 => ?_) (fun h4 => ?_) (hy := nI_1 k)
      · exact h51 (Or.inl (by omega))
      · obtain ⟨p', hp'⟩ := pd_at h4
        have hpn' := pd_memLe hL (List.mem_of_getElem? hp')
        refine And.intro (by rw [nI_1]; exact vp_in_nI (by omega) (by omega)) (And.intro v1 ?_)
        refine pk_eq p' p (fun h5 => ?_) (fun h5 => ?_) (hx := by rw [c1]; exact hr (k + 1) p' hp') (hy := by rw [c2]; exact hr k p hp)
        · rw [h5] at hp'
          refine nm_r (nI_1 k) ?_
          exact ih (k + 1) (r + 1) m (by omega) (by omega) (pd_Jsame hJ hp hp')
        · exact h51 (Or.inr ⟨p', hp', fun z => h5 z.symm⟩)

theorem pd_xs10 {post : Int32 → SX → Prop} (hL : pd_L n L) (hn : n < 32768) (hr : pd_rep a1 L) (h : post (nI (pd_S (fun d => d) n)) (f1, f2, nI L.length, f4, a1, a2)) : ∀ w k r m g, L.length < w + k → k ≤ L.length → pd_J n L k r m → (∀ p, L[k]? = some p → g = pd_G p r) →
    wX_sum_10 post f1 f2 (nI L.length) f4 a1 a2 w (nI (pd_S (fun d => d) m)) (nI g) (nI k) := by
  intro w
  induction w with
  | zero => intro k r m g h1 h2; omega
  | succ w ih =>
    intro k r m g h1 h2 hJ hg
    have hl := pd_len hL hn
    refine pk_le L.length k (fun h3 => ?_) (fun h3 => ?_)
    · rw [pd_Jend hJ h3]
      exact h
    · obtain ⟨p, hp⟩ := pd_at h3
      have hpP := hL.2.1 p (List.mem_of_getElem? hp)
      have hpn := pd_memLe hL (List.mem_of_getElem? hp)
      have c1 : (nI k + 1).toNatClampNeg = k + 1 := pk_cl (k + 1) (nI_1 k)
      have c2 : (nI k).toNatClampNeg = k := nI_clamp (by omega)
      have v1 : vp_in (nI k) 20 := vp_in_nI (by omega) (by omega)
      have hG : nI g * a1 (nI k).toNatClampNeg + 1 = nI (pd_G p (r + 1)) := by
        rw [c2, hr k p hp, pk_mul, nI_1, hg p hp, Nat.mul_comm]
        rfl
      have hX : nI (pd_S (fun d => d) m) * nI (pd_G p (r + 1)) = nI (pd_S (fun d => d) (m * p ^ (r + 1))) := by
        rw [pk_mul, pd_Spow (f := fun d => d) (c := p) hpP hJ.1 (pd_Jp hJ hp).1 (fun d => rfl)]
      have h59 : (k + 1 = L.length ∨ ∃ p', L[k + 1]? = some p' ∧ p ≠ p') → wX_sum_59 post (wX_sum_10 post f1 f2 (nI L.length) f4 a1 a2 w) (nI (pd_S (fun d => d) m)) (nI (pd_G p (r + 1))) (nI k) f1 f2 (nI L.length) f4 a1 a2 := by
        intro hc
        refine nm_r hX ?_
        refine nm_r (nI_1 k) ?_
        exact ih (k + 1) 0 (m * p ^ (r + 1)) 1 (by omega) (by omega) (pd_Jnext hL hJ hp hc) (fun _ _ => rfl)
      refine And.intro v1 ?_
      refine nm_r hG ?_
      refine pk_le L.length (k + 1) (fun h4 => ?_) (fun h4 => ?_) (hy := nI_1 k)
      · exact h59 (Or.inl (by omega))
      · obtain ⟨p', hp'⟩ := pd_at h4
        have hpn' := pd_memLe hL (List.mem_of_getElem? hp')
        refine And.intro (by rw [nI_1]; exact vp_in_nI (by omega) (by omega)) (And.intro v1 ?_)
        refine pk_eq p' p (fun h5 => ?_) (fun h5 => ?_) (hx := by rw [c1]; exact hr (k + 1) p' hp') (hy := by rw [c2]; exact hr k p hp)
        · rw [h5] at hp'
          refine nm_r (nI_1 k) ?_
          refine ih (k + 1) (r + 1) m _ (by omega) (by omega) (pd_Jsame hJ hp hp') (fun q hq => ?_)
          rw [hp'] at hq
          rw [Option.some.inj hq]
        · exact h59 (Or.inr ⟨p', hp', fun z => h5 z.symm⟩)

theorem pd_x43 {post : Int32 → SX → Prop} {J : Int32 → Int32 → Prop} {k p x y : Nat} (hk : k < 20) (hp : a1 k = nI p) (hp1 : 2 ≤ p) (hp2 : p < 32768) (hx : x < 2 ^ 31) (hy : x / p * (p - 1) = y) (h : J (nI y) (nI (k + 1))) :
    wX_coprimes_43 post J (nI x) (nI k) f1 f2 f3 f4 a1 a2 := by
  have c2 : (nI k).toNatClampNeg = k := nI_clamp (by omega)
  have v1 : vp_in (nI k) 20 := vp_in_nI hk (by omega)
  have hX : (nI x / a1 (nI k).toNatClampNeg) * (a1 (nI k).toNatClampNeg - 1) = nI y := by
    rw [c2, hp, pk_div hx (by omega) (by omega), pd_sub1 (by omega), pk_mul, hy]
  refine And.intro v1 (And.intro ?_ (And.intro v1 ?_))
  · rw [c2, hp]
    exact nI_ne0 (by omega) (by omega)
  · refine nm_r hX ?_
    refine nm_r (nI_1 k) ?_
    exact h

theorem pd_xc11 {post : Int32 → SX → Prop} (hL : pd_L n L) (hn : n < 32768) (hr : pd_rep a1 L) (h : post (nI (pd_phi n)) (f1, f2, nI L.length, f4, a1, a2)) : ∀ w k, L.length < w + k → k ≤ L.length →
    wX_coprimes_11 post f1 f2 (nI L.length) f4 a1 a2 w (nI (pd_phi (L.take k).prod * (L.drop k).prod)) (nI k) := by
  intro w
  induction w with
  | zero => intro k h1 h2; omega
  | succ w ih =>
    intro k h1 h2
    have hl := pd_len hL hn
    refine pk_le L.length k (fun h3 => ?_) (fun h3 => ?_)
    · have e : k = L.length := by omega
      rw [e, List.take_length, List.drop_length, List.prod_nil, Nat.mul_one, hL.2.2]
      exact h
    · obtain ⟨p, hp⟩ := pd_at h3
      have hpP := hL.2.1 p (List.mem_of_getElem? hp)
      have hp1 := hpP.1
      have hpn := pd_memLe hL (List.mem_of_getElem? hp)
      have c2 : (nI k).toNatClampNeg = k := nI_clamp (by omega)
      have v1 : vp_in (nI k) 20 := vp_in_nI (by omega) (by omega)
      have hb : pd_phi (L.take k).prod * (L.drop k).prod ≤ n := by
        rw [← hL.2.2, ← pd_td L k]
        exact Nat.mul_le_mul_right _ (pd_phiLe _)
      have ed : (L.drop k).prod = p * (L.drop (k + 1)).prod := by rw [pd_dropS hp, List.prod_cons]
      have et : (L.take (k + 1)).prod = p * (L.take k).prod := by rw [pd_takeS hp, Nat.mul_comm]
      have ih := ih (k + 1) (by omega) (by omega)
      have h43 : ¬ p ∣ (L.take k).prod → wX_coprimes_43 post (wX_coprimes_11 post f1 f2 (nI L.length) f4 a1 a2 w) (nI (pd_phi (L.take k).prod * (L.drop k).prod)) (nI k) f1 f2 (nI L.length) f4 a1 a2 := by
        intro hd
        refine pd_x43 (by omega) (hr k p hp) hp1 (by omega) (by omega) ?_ ih
        rw [et, pd_phi2 hpP hd, ed, Nat.mul_left_comm, Nat.mul_div_cancel_left _ (by omega), Nat.mul_comm _ (p - 1), Nat.mul_assoc]
      refine pk_le k 0 (fun h4 => ?_) (fun h4 => ?_)
      · refine h43 ?_
        have e : k = 0 := by omega
        rw [e]
        intro z
        have z : p ∣ 1 := z
        have := Nat.le_of_dvd (by decide) z
        omega
      · obtain ⟨j, rfl⟩ : ∃ j, k = j + 1 := ⟨k - 1, by omega⟩
        obtain ⟨p', hp'⟩ := pd_at (L := L) (k := j) (by omega)
        have hpn' := pd_memLe hL (List.mem_of_getElem? hp')
        have c3 : (nI (j + 1) - 1).toNatClampNeg = j := by rw [nI_pred]; exact nI_clamp (by omega)
        refine And.intro (by rw [nI_pred]; exact vp_in_nI (by omega) (by omega)) (And.intro v1 ?_)
        refine pk_eq p' p (fun h5 => ?_) (fun h5 => ?_) (hx := by rw [c3]; exact hr j p' hp') (hy := by rw [c2]; exact hr (j + 1) p hp)
        · refine nm_r (nI_1 (j + 1)) ?_
          have hd : p ∣ (L.take (j + 1)).prod := by
            rw [pd_takeS hp', h5]
            exact Nat.dvd_mul_left p _
          rw [et, pd_phi1 hd, Nat.mul_comm p, Nat.mul_assoc, ← ed] at ih
          exact ih
        · exact h43 (pd_new hL hp' hp h5)

theorem pd_xcop {post : Int32 → SX → Prop} (h1 : 1 ≤ n) (h2 : n ≤ 30000) (hs : f2 = 0 ∨ pd_F n f3 a1) (h : ∀ L g2 g4 b1 b2, pd_L n L → pd_rep b1 L → post (nI (pd_phi n)) (nI n, g2, nI L.length, g4, b1, b2)) :
    wpX_coprimes post (nI n, f2, f3, f4, a1, a2) := by
  refine pd_find h1 h2 hs (fun L g2 g4 b1 b2 hL hr => ?_)
  refine Exists.intro (L.length + 1) ?_
  have key := pd_xc11 (f1 := nI n) (f2 := g2) (f4 := g4) (a1 := b1) (a2 := b2) (post := post) hL (by omega) hr (h L g2 g4 b1 b2 hL hr) (L.length + 1) 0 (by omega) (by omega)
  have e : pd_phi (L.take 0).prod * (L.drop 0).prod = n := by
    rw [List.drop_zero, hL.2.2]
    show pd_phi 1 * n = n
    have e1 : pd_phi 1 = 1 := by decide
    rw [e1, Nat.one_mul]
  rw [e] at key
  exact key
end

theorem i_vc_factors {k : Nat} {u : SX} {v : SY} (I : i_Rel k u v) (hk : k + 3 ≤ 1536) : wpX_factors (fun r u' => wpY_factors (fun r' => r' = r ∧ i_Rel (k + 3) u' v) v) u := by
  obtain ⟨n, h1, h2, rfl, f2, f3, f4, a1, a2, rfl, hs⟩ := I
  refine pd_find h1 h2 hs (fun L g2 g4 b1 b2 hL hr => ?_)
  exact pd_yfactors hL (by omega) ⟨rfl, pd_mkL h1 h2 hL hr⟩

theorem i_vc_factor {k : Nat} {u : SX} {v : SY} (I : i_Rel k u v) (hk : k + 3 ≤ 1536) (v1 : Int32) : wpX_factor (fun r u' => wpY_factor (fun r' => r' = r ∧ i_Rel (k + 3) u' v) v v1) u v1 := by
  obtain ⟨n, h1, h2, rfl, f2, f3, f4, a1, a2, rfl, hs⟩ := I
  refine pd_find h1 h2 hs (fun L g2 g4 b1 b2 hL hr => ?_)
  have hl := pd_len hL (by omega)
  refine br_c (fun h0 => ?_) (fun h0 => ?_)
  · refine pd_yfactor hL (by omega) (fun c p hc e => ?_) (fun _ => ⟨rfl, pd_mkL h1 h2 hL hr⟩)
    have := (List.getElem?_eq_some_iff.mp hc).1
    rw [← e] at h0
    exact (nI_pos (by omega) h0).elim
  · obtain ⟨j, hj, rfl⟩ := nI_of h0
    refine pk_lt j L.length (fun h3 => ?_) (fun h3 => ?_)
    · obtain ⟨p, hp⟩ := pd_at h3
      refine And.intro (vp_in_nI (by omega) (by omega)) ?_
      rw [nI_clamp hj, hr j p hp]
      refine pd_yfactor hL (by omega) (fun c q hc e => ?_) (fun hn => (hn j h3 rfl).elim)
      have := (List.getElem?_eq_some_iff.mp hc).1
      rw [nI_eq (by omega) (by omega)] at e
      rw [e, hp] at hc
      rw [Option.some.inj hc]
      exact ⟨rfl, pd_mkL h1 h2 hL hr⟩
    · refine pd_yfactor hL (by omega) (fun c p hc e => ?_) (fun _ => ⟨rfl, pd_mkL h1 h2 hL hr⟩)
      have := (List.getElem?_eq_some_iff.mp hc).1
      rw [nI_eq (by omega) (by omega)] at e
      omega

theorem i_vc_divisors {k : Nat} {u : SX} {v : SY} (I : i_Rel k u v) (hk : k + 3 ≤ 1536) : wpX_divisors (fun r u' => wpY_divisors (fun r' => r' = r ∧ i_Rel (k + 3) u' v) v) u := by
  obtain ⟨n, h1, h2, rfl, f2, f3, f4, a1, a2, rfl, hs⟩ := I
  refine pd_find h1 h2 hs (fun L g2 g4 b1 b2 hL hr => ?_)
  refine Exists.intro (L.length + 1) ?_
  refine pd_xd10 hL (by omega) hr ?_ (L.length + 1) 0 0 1 (by omega) (by omega) (pd_J0 hL)
  refine Exists.intro (n + 1) ?_
  exact pd_yd4 (by omega) ⟨rfl, pd_mkL h1 h2 hL hr⟩ (n + 1) 0 (by omega) (by omega)

theorem i_vc_sum {k : Nat} {u : SX} {v : SY} (I : i_Rel k u v) (hk : k + 3 ≤ 1536) : wpX_sum (fun r u' => wpY_sum (fun r' => r' = r ∧ i_Rel (k + 3) u' v) v) u := by
  obtain ⟨n, h1, h2, rfl, f2, f3, f4, a1, a2, rfl, hs⟩ := I
  refine pd_find h1 h2 hs (fun L g2 g4 b1 b2 hL hr => ?_)
  refine Exists.intro (L.length + 1) ?_
  refine pd_xs10 hL (by omega) hr ?_ (L.length + 1) 0 0 1 1 (by omega) (by omega) (pd_J0 hL) (fun _ _ => rfl)
  refine Exists.intro (n + 1) ?_
  exact pd_ys4 (by omega) ⟨rfl, pd_mkL h1 h2 hL hr⟩ (n + 1) 0 (by omega) (by omega)

theorem i_vc_coprimes {k : Nat} {u : SX} {v : SY} (I : i_Rel k u v) (hk : k + 3 ≤ 1536) : wpX_coprimes (fun r u' => wpY_coprimes (fun r' => r' = r ∧ i_Rel (k + 3) u' v) v) u := by
  obtain ⟨n, h1, h2, rfl, f2, f3, f4, a1, a2, rfl, hs⟩ := I
  refine pd_xcop h1 h2 hs (fun L g2 g4 b1 b2 hL hr => ?_)
  refine Exists.intro (n + 1) ?_
  exact pd_yc4 (by omega) ⟨rfl, pd_mkL h1 h2 hL hr⟩ (n + 1) 0 (by omega) (by omega)
end
section
theorem pd_smGe {f : Nat → Nat} : ∀ n, 1 ≤ n → f 1 ≤ pd_sm f n := by
  intro n
  induction n with
  | zero => intro h; omega
  | succ n ih =>
    intro _
    show f 1 ≤ pd_sm f n + f (n + 1)
    by_cases h : 1 ≤ n
    · have := ih h
      omega
    · have e : n = 0 := by omega
      rw [e]
      exact Nat.le_add_left _ _

theorem pd_phiPos {n : Nat} (h : 1 ≤ n) : 1 ≤ pd_phi n := by
  have h1 := pd_smGe (f := fun k => if Nat.gcd k n = 1 then 1 else 0) n h
  have h2 : (if Nat.gcd 1 n = 1 then 1 else 0) = 1 := if_pos (Nat.gcd_one_left n)
  have h1 : (if Nat.gcd 1 n = 1 then 1 else 0) ≤ pd_phi n := h1
  rw [h2] at h1
  exact h1

/-- the result is a multiple of the order, by a number that divides the rest -/
def pd_K (o res rest : Nat) : Prop := 0 < rest ∧ rest ∣ res ∧ ∃ t, res = o * t ∧ t ∣ rest

theorem pd_Kdown {n a o res rest q : Nat} (hn : 2 ≤ n) (ho : pd_O n a o) (h : pd_K o res rest) (hq : pd_P q) (hd : q ∣ rest) (h1 : a ^ (res / q) % n = 1) : pd_K o (res / q) (rest / q) := by
  obtain ⟨h2, h3, t, h4, h5⟩ := h
  have hq2 := hq.1
  obtain ⟨r', rfl⟩ := hd
  obtain ⟨w, hw⟩ := h3
  have e1 : res = q * (r' * w) := by rw [hw, Nat.mul_assoc]
  have e2 : res / q = r' * w := by rw [e1, Nat.mul_div_cancel_left _ (by omega)]
  have e3 : q * r' / q = r' := Nat.mul_div_cancel_left _ (by omega)
  obtain ⟨t', ht'⟩ := pd_Odvd hn ho h1
  have e4 : t = q * t' := by
    have e5 : o * t = o * (q * t') := by rw [← h4, e1, ← e2, ht', Nat.mul_left_comm]
    exact Nat.eq_of_mul_eq_mul_left ho.1 e5
  rw [e3]
  refine ⟨Nat.pos_of_ne_zero (fun z => ?_), ?_, t', ht', ?_⟩
  · rw [z, Nat.mul_zero] at h2
    omega
  · rw [e2]
    exact Nat.dvd_mul_right _ _
  · rw [e4] at h5
    exact Nat.dvd_of_mul_dvd_mul_left (by omega) h5

theorem pd_Kstay {n a o res rest q : Nat} (hn : 2 ≤ n) (ho : pd_O n a o) (h : pd_K o res rest) (hq : pd_P q) (hd : q ∣ rest) (h1 : a ^ (res / q) % n ≠ 1) : pd_K o res (rest / q) := by
  obtain ⟨h2, h3, t, h4, h5⟩ := h
  have hq2 := hq.1
  obtain ⟨r', rfl⟩ := hd
  have e3 : q * r' / q = r' := Nat.mul_div_cancel_left _ (by omega)
  rw [e3]
  refine ⟨Nat.pos_of_ne_zero (fun z => ?_), Nat.dvd_trans (Nat.dvd_mul_left r' q) h3, t, h4, ?_⟩
  · rw [z, Nat.mul_zero] at h2
    omega
  · have hqt : ¬ q ∣ t := by
      rintro ⟨t', rfl⟩
      apply h1
      rw [h4, Nat.mul_left_comm, Nat.mul_div_cancel_left _ (by omega)]
      exact pd_Omul hn ho t'
    exact (pd_cop hq hqt).symm.dvd_of_dvd_mul_left h5

theorem pd_Kend {o res rest : Nat} (h : pd_K o res rest) (hr : rest ≤ 1) : res = o := by
  obtain ⟨h2, h3, t, h4, h5⟩ := h
  have e : rest = 1 := by omega
  rw [e] at h5
  rw [h4, Nat.eq_one_of_dvd_one h5, Nat.mul_one]

theorem pd_pLe {r p : Nat} (hr : 1 < r) (hs : ∀ s, pd_P s → s ∣ r → p ≤ s) : p ≤ r := by
  obtain ⟨s, h1, h2⟩ := pd_exP r hr
  exact Nat.le_trans (hs s h1 h2) (Nat.le_of_dvd (by omega) h2)

section
variable {f1 f2 f3 f4 : Int32} {a1 a2 : Nat → Int32} {n b o : Nat}

theorem pd_o65 {post : Int32 → SX → Prop} {J : Int32 → Int32 → Int32 → Prop} (hn : 2 ≤ n) (hn2 : n < 32768) (hb : b < 2 ^ 31) (ho : pd_O n b o) {q R : Nat} (hq : 2 ≤ q) (hqR : q < 32768) (hqP : q ∣ R → pd_P q)
    (hJ : ∀ res rest, res < 32768 → pd_K o res rest → rest ∣ R → ¬ q ∣ rest → J (nI res) (nI rest) (nI (q + 1))) : ∀ m res rest, rest < m → rest < 32768 → res < 32768 → pd_K o res rest → rest ∣ R →
    wX_order_65 post J (nI b) (nI q) (nI n) f2 f3 f4 a1 a2 m (nI res) (nI rest) := by
  intro m
  induction m with
  | zero => intro res rest h1; exact absurd h1 (Nat.not_lt_zero _)
  | succ m ih =>
    intro res rest h1 h2 h3 hK hR
    have hq0 := nI_ne0 (n := q) (by omega) (by omega)
    have hml : rest % q < q := Nat.mod_lt _ (by omega)
    have hpos := hK.1
    refine And.intro hq0 ?_
    refine pk_eq (rest % q) 0 (fun h4 => ?_) (fun h4 => ?_) (hx := pk_rem (by omega) (by omega) (by omega))
    · have hd := Nat.dvd_of_mod_eq_zero h4
      have hP := hqP (Nat.dvd_trans hd hR)
      have hlt : rest / q < rest := Nat.div_lt_self hpos hq
      have hrl : res / q ≤ res := Nat.div_le_self _ _
      have hR' : rest / q ∣ R := Nat.dvd_trans (Nat.div_dvd_of_dvd hd) hR
      refine And.intro hq0 ?_
      refine nm_r (pk_div (by omega) (by omega) (by omega)) ?_
      refine And.intro hq0 ?_
      rw [pk_div (a := res) (by omega) (by omega) (by omega)]
      refine pd_power hb (by omega) (by omega) (by omega) ?_
      have hl : b ^ (res / q) % n < n := Nat.mod_lt _ (by omega)
      refine pk_eq (b ^ (res / q) % n) 1 (fun h5 => ?_) (fun h5 => ?_)
      · refine And.intro hq0 ?_
        refine nm_e ?_
        exact ih (res / q) (rest / q) (by omega) (by omega) (by omega) (pd_Kdown hn ho hK hP hd h5) hR'
      · exact ih res (rest / q) (by omega) (by omega) (by omega) (pd_Kstay hn ho hK hP hd h5) hR'
    · refine nm_r (nI_1 q) ?_
      exact hJ res rest h3 hK hR (fun z => h4 (Nat.mod_eq_zero_of_dvd z))

theorem pd_o48 {post : Int32 → SX → Prop} (hn : 2 ≤ n) (hn2 : n < 32768) (hb : b < 2 ^ 31) (ho : pd_O n b o) (h : post (nI o) (nI n, f2, f3, f4, a1, a2)) : ∀ m res rest p, 1 ≤ m → rest + 2 ≤ m + p → 2 ≤ p → p < 2 ^ 16 → rest < 32768 → res < 32768 → pd_K o res rest → (∀ s, pd_P s → s ∣ rest → p ≤ s) →
    wX_order_48 post (nI b) (nI n) f2 f3 f4 a1 a2 m (nI res) (nI rest) (nI p) := by
  intro m
  induction m with
  | zero => intro res rest p h1; exact absurd h1 (by decide)
  | succ m ih =>
    intro res rest p h1 h2 h3 h3' h4 h5 hK hs
    refine pk_le rest 1 (fun h6 => ?_) (fun h6 => ?_)
    · rw [pd_Kend hK h6]
      exact h
    · have hple := pd_pLe h6 hs
      have hpp : p * p < 2 ^ 31 := by
        have : p * p ≤ 32768 * 32768 := Nat.mul_le_mul (by omega) (by omega)
        omega
      have key : ∀ q, ((p * p ≤ rest ∧ q = p) ∨ (rest < p * p ∧ q = rest)) → ∃ n65 : Nat, wX_order_65 post (wX_order_48 post (nI b) (nI n) f2 f3 f4 a1 a2 m) (nI b) (nI q) (nI n) f2 f3 f4 a1 a2 n65 (nI res) (nI rest) := by
        intro q hq
        obtain ⟨g1, g2, g3, g4⟩ := pd_next h6 h3 hs hq
        have hqle : q ≤ rest := by rcases hq with ⟨_, e⟩ | ⟨_, e⟩ <;> omega
        have hpq : p ≤ q := by rcases hq with ⟨_, e⟩ | ⟨_, e⟩ <;> omega
        refine ⟨rest + 1, pd_o65 hn hn2 hb ho g1 (by omega) g3 ?_ (rest + 1) res rest (by omega) h4 h5 hK (Nat.dvd_refl _)⟩
        intro res' rest' k1 k2 k3 k4
        have hle := Nat.le_of_dvd (by omega) k3
        refine ih res' rest' (q + 1) (by omega) (by omega) (by omega) (by omega) (by omega) k1 k2 (fun s hs1 hs2 => ?_)
        have := g2 s hs1 (Nat.dvd_trans hs2 k3)
        by_cases e : s = q
        · rw [e] at hs2
          exact (k4 hs2).elim
        · omega
      refine pk_le (p * p) rest (fun h7 => ?_) (fun h7 => ?_) (hx := pk_mul p p)
      · exact key p (Or.inl ⟨h7, rfl⟩)
      · exact key rest (Or.inr ⟨h7, rfl⟩)

theorem pd_yo9 {post : Int32 → Prop} (hn : 2 ≤ n) (hn2 : n ≤ 32768) (hb : b < 2 ^ 31) (ho : pd_O n b o) (ho2 : o < 2 ^ 31 - 1) (h : post (nI o)) : ∀ m e, o < m + e → 1 ≤ e → e ≤ o →
    wY_orderOf_9 post (nI b) (nI n) m (nI (b ^ e % n)) (nI e) := by
  intro m
  induction m with
  | zero => intro e h1 h2 h3; omega
  | succ m ih =>
    intro e h1 h2 h3
    have hn0 := nI_ne0 (n := n) (by omega) (by omega)
    have hl : b ^ e % n < n := Nat.mod_lt _ (by omega)
    refine pk_eq (b ^ e % n) 1 (fun h4 => ?_) (fun h4 => ?_)
    · have e1 : e = o := by
        by_cases z : e = o
        · exact z
        · exact (ho.2.2 e h2 (by omega) h4).elim
      rw [e1]
      exact h
    · have hne : e ≠ o := by
        intro z
        rw [z] at h4
        exact h4 ho.2.1
      refine And.intro hn0 (And.intro hn0 ?_)
      refine nm_r (pd_yStep (by omega) hn2 hl hb) ?_
      rw [pd_powS]
      refine nm_r (nI_1 _) ?_
      exact ih (e + 1) (by omega) (by omega) (by omega)

theorem pd_yord {post : Int32 → Prop} (hn : 2 ≤ n) (hn2 : n ≤ 32768) (hb : b < 2 ^ 31) (ho : pd_O n b o) (ho2 : o < 2 ^ 31 - 1) (h : post (nI o)) : wpY_orderOf post (nI n) (nI b) := by
  refine And.intro (nI_ne0 (by omega) (by omega)) ?_
  refine nm_r (pk_rem hb (by omega) (by omega)) ?_
  refine Exists.intro (o + 1) ?_
  have key := pd_yo9 hn hn2 hb ho ho2 h (o + 1) 1 (by omega) (by omega) ho.1
  rw [Nat.pow_one] at key
  exact key
end

theorem i_vc_order {k : Nat} {u : SX} {v : SY} (I : i_Rel k u v) (hk : k + 3 ≤ 1536) (v1 : Int32) : wpX_order (fun r u' => wpY_order (fun r' => r' = r ∧ i_Rel (k + 3) u' v) v v1) u v1 := by
  obtain ⟨n, h1, h2, rfl, f2, f3, f4, a1, a2, rfl, hs⟩ := I
  by_cases c1 : v1 < 1
  · exact br_t c1 (br_t c1 ⟨rfl, pd_mk h1 h2 hs⟩)
  · by_cases c2 : v1 ≤ 30000
    · obtain ⟨b, hb1, hb2, rfl⟩ := pd_arg1 c1 c2
      by_cases c3 : n = 1
      · have e : nI n = 1 := congrArg nI c3
        exact br_f c1 (br_t c2 (br_t e (br_f c1 (br_t c2 (br_t e ⟨rfl, pd_mk h1 h2 hs⟩)))))
      · have e : ¬ nI n = 1 := fun z => c3 ((nI_eq (a := n) (b := 1) (by omega) (by decide)).mp z)
        have hgl : Nat.gcd b n ≤ b := Nat.gcd_le_left n (by omega)
        refine br_f c1 (br_t c2 (br_f e ?_))
        refine pd_gcdX (by omega) (by omega) ?_
        refine pk_eq (Nat.gcd b n) 1 (fun h3 => ?_) (fun h3 => ?_)
        · refine pd_xcop h1 h2 hs (fun L g2 g4 b1 b2 hL hr => ?_)
          have hE : b ^ pd_phi n % n = 1 := by
            have := pd_euler L hL.2.1 (a := b) (by omega) (by rw [hL.2.2]; exact h3)
            rw [hL.2.2, pd_1mod (by omega)] at this
            exact this
          have hph := pd_phiPos h1
          have hphl := pd_phiLe n
          obtain ⟨o, ho, hol⟩ := pd_Oex hph hE
          refine Exists.intro (pd_phi n + 2) ?_
          refine pd_o48 (by omega) (by omega) (by omega) ho ?_ (pd_phi n + 2) (pd_phi n) (pd_phi n) 2 (by omega) (by omega) (by omega) (by omega) (by omega) (by omega) ?_ (fun s hs1 _ => hs1.1)
          · refine br_f c1 (br_t c2 (br_f e ?_))
            refine pd_ycom (by omega) (by omega) ?_
            refine br_t (by rw [h3]; rfl) ?_
            exact pd_yord (by omega) (by omega) (by omega) ho (by omega) ⟨rfl, pd_mkL h1 h2 hL hr⟩
          · obtain ⟨t, ht⟩ := pd_Odvd (by omega) ho hE
            exact ⟨by omega, Nat.dvd_refl _, t, ht, ⟨o, by rw [ht, Nat.mul_comm]⟩⟩
        · refine br_f c1 (br_t c2 (br_f e ?_))
          refine pd_ycom (by omega) (by omega) ?_
          refine br_f (fun z => h3 ((nI_eq (a := Nat.gcd b n) (b := 1) (by omega) (by decide)).mp z)) ?_
          exact ⟨rfl, pd_mk h1 h2 hs⟩
    · exact br_f c1 (br_f c2 (br_f c1 (br_f c2 ⟨rfl, pd_mk h1 h2 hs⟩)))
end
section
section
variable {f1 f2 f3 f4 : Int32} {a1 a2 : Nat → Int32} {n g : Nat}

theorem pd_g39 {post : Int32 → Prop} {J : Int32 → Int32 → Prop} (hn : 2 ≤ n) (hn2 : n < 32768) (hg : g < 2 ^ 31) {q R : Nat} (hq : 2 ≤ q) (hq2 : q < 32768) (h0 : g ^ ((n - 1) / q) % n = 1 → post 0)
    (h1 : g ^ ((n - 1) / q) % n ≠ 1 → ∀ r k, R = r * q ^ k → ¬ q ∣ r → J (nI r) (nI (q + 1))) : ∀ m r j, R = r * q ^ j → 0 < r → r < 32768 → r < m →
    wX_generates_39 post J (nI g) (nI (n - 1)) (nI q) (nI n) f2 f3 f4 a1 a2 m (nI r) := by
  intro m
  induction m with
  | zero => intro r j _ _ _ h; exact absurd h (Nat.not_lt_zero _)
  | succ m ih =>
    intro r j hR hr hr2 hm
    have hq0 := nI_ne0 (n := q) (by omega) (by omega)
    have hml : r % q < q := Nat.mod_lt _ (by omega)
    refine And.intro hq0 ?_
    refine pk_eq (r % q) 0 (fun h4 => ?_) (fun h4 => ?_) (hx := pk_rem (by omega) (by omega) (by omega))
    · have hd := Nat.dvd_of_mod_eq_zero h4
      have hle := Nat.le_of_dvd hr hd
      have hlt : r / q < r := Nat.div_lt_self hr hq
      refine And.intro hq0 ?_
      refine nm_r (pk_div (by omega) (by omega) (by omega)) ?_
      refine ih (r / q) (j + 1) ?_ (Nat.div_pos hle (by omega)) (by omega) (by omega)
      rw [hR, Nat.pow_succ, Nat.mul_comm (q ^ j) q, ← Nat.mul_assoc, Nat.div_mul_cancel hd]
    · have hdl : (n - 1) / q ≤ n - 1 := Nat.div_le_self _ _
      have hl : g ^ ((n - 1) / q) % n < n := Nat.mod_lt _ (by omega)
      refine And.intro hq0 ?_
      rw [pk_div (by omega) (by omega) (by omega)]
      refine pd_power hg (by omega) (by omega) (by omega) ?_
      refine pk_eq (g ^ ((n - 1) / q) % n) 1 (fun h5 => h0 h5) (fun h5 => ?_)
      refine nm_r (nI_1 q) ?_
      exact h1 h5 r j hR (fun z => h4 (Nat.mod_eq_zero_of_dvd z))

theorem pd_g12 {post : Int32 → Prop} (hn : 2 ≤ n) (hn2 : n < 32768) (hg : g < 2 ^ 31) (hG : pd_Gen n g → post 1) (hN : ¬ pd_Gen n g → post 0) : ∀ m r p, 1 ≤ m → r + 2 ≤ m + p → 2 ≤ p → p < 2 ^ 16 → r < 32768 → pd_I n g r p →
    wX_generates_12 post (nI g) (nI (n - 1)) (nI n) f2 f3 f4 a1 a2 m (nI r) (nI p) := by
  intro m
  induction m with
  | zero => intro r p h1; exact absurd h1 (by decide)
  | succ m ih =>
    intro r p h1 h2 h3 h3' h4 hI
    refine pk_le r 1 (fun h6 => ?_) (fun h6 => ?_)
    · exact hG (pd_I1 hI h6)
    · have hple := pd_pLe h6 hI.2.2.1
      have hpp : p * p < 2 ^ 31 := by
        have : p * p ≤ 32768 * 32768 := Nat.mul_le_mul (by omega) (by omega)
        omega
      have key : ∀ q, ((p * p ≤ r ∧ q = p) ∨ (r < p * p ∧ q = r)) → wX_generates_29 post (wX_generates_12 post (nI g) (nI (n - 1)) (nI n) f2 f3 f4 a1 a2 m) (nI g) (nI (n - 1)) (nI r) (nI q) (nI n) f2 f3 f4 a1 a2 := by
        intro q hq
        obtain ⟨g1, g2, g3, g4⟩ := pd_next h6 h3 hI.2.2.1 hq
        have hqle : q ≤ r := by rcases hq with ⟨_, e⟩ | ⟨_, e⟩ <;> omega
        have hpq : p ≤ q := by rcases hq with ⟨_, e⟩ | ⟨_, e⟩ <;> omega
        have hml : r % q < q := Nat.mod_lt _ (by omega)
        refine And.intro (nI_ne0 (by omega) (by omega)) ?_
        refine pk_eq (r % q) 0 (fun h7 => ?_) (fun h7 => ?_) (hx := pk_rem (by omega) (by omega) (by omega))
        · have hd := Nat.dvd_of_mod_eq_zero h7
          refine ⟨r + 1, pd_g39 (R := r) hn hn2 hg g1 (by omega) (fun h8 => hN (pd_Ino hI (g3 hd) hd h8)) ?_ (r + 1) r 0 (by rw [Nat.pow_zero, Nat.mul_one]) (by omega) h4 (by omega)⟩
          intro h8 r' k' hr' hnd
          have hle : r' ≤ r := Nat.le_of_dvd (by omega) ⟨q ^ k', hr'⟩
          exact ih r' (q + 1) (by omega) (by omega) (by omega) (by omega) (by omega) (pd_Ihit hI g2 (g3 hd) h8 hr' hnd)
        · refine nm_r (nI_1 q) ?_
          exact ih r (q + 1) (by omega) (by omega) (by omega) (by omega) h4 (pd_Iskip hI g2 (fun z => h7 (Nat.mod_eq_zero_of_dvd z)))
      refine pk_le (p * p) r (fun h7 => ?_) (fun h7 => ?_) (hx := pk_mul p p)
      · exact key p (Or.inl ⟨h7, rfl⟩)
      · exact key r (Or.inr ⟨h7, rfl⟩)

theorem pd_gens {post : Int32 → Prop} (hn : 2 ≤ n) (hn2 : n < 32768) (hg : g < 2 ^ 31) (hG : pd_Gen n g → post 1) (hN : ¬ pd_Gen n g → post 0) : wpX_generates post (nI n, f2, f3, f4, a1, a2) (nI g) := by
  refine nm_r (P := fun x => ∃ n12 : Nat, wX_generates_12 post (nI g) x (nI n) f2 f3 f4 a1 a2 n12 x 2) (pd_sub1 (by omega)) ?_
  exact ⟨n, pd_g12 hn hn2 hg hG hN n (n - 1) 2 (by omega) (by omega) (by omega) (by omega) (by omega) (pd_I0 hn)⟩

theorem pd_g28 {post : Int32 → Prop} {g0 : Nat} (hn : 2 ≤ n) (hn2 : n < 32768) (h0 : g0 < n) (hG : pd_Gen n g0) (hN : ∀ j, 1 ≤ j → j < g0 → ¬ pd_Gen n j) (h : post (nI g0)) : ∀ m g, g0 ≤ m + g → 1 ≤ g → g < g0 →
    wX_generator_28 post (nI n) f2 f3 f4 a1 a2 (m + 1) (nI g) 0 := by
  intro m
  induction m with
  | zero => intro g h1 h2 h3; omega
  | succ m ih =>
    intro g h1 h2 h3
    refine br_t rfl ?_
    refine nm_r (nI_1 g) ?_
    refine pd_gens hn hn2 (by omega) (fun h4 => ?_) (fun h4 => ?_)
    · have e : g + 1 = g0 := by
        by_cases z : g + 1 = g0
        · exact z
        · exact (hN (g + 1) (by omega) (by omega) h4).elim
      rw [e]
      exact br_f (by decide) h
    · have hne : g + 1 ≠ g0 := fun z => h4 (z ▸ hG)
      exact ih (g + 1) (by omega) (by omega) (by omega)

theorem pd_yg16' {post : Int32 → Prop} {g0 : Nat} (hP : pd_P n) (hn2 : n < 32768) (h0 : g0 < n) (hG : pd_Gen n g0) (hN : ∀ j, 1 ≤ j → j < g0 → ¬ pd_Gen n j) (h : post (nI g0)) : ∀ m g, g0 < m + g → 1 ≤ g → g ≤ g0 →
    wY_generator_16 post (nI n) m (nI g) := by
  intro m
  induction m with
  | zero => intro g h1 h2 h3; omega
  | succ m ih =>
    intro g h1 h2 h3
    have hn := hP.1
    have hg : ¬ n ∣ g := fun z => by have := Nat.le_of_dvd (by omega) z; omega
    have hF := pd_fermat hP hg
    rw [pd_1mod hn] at hF
    obtain ⟨o, ho, hol⟩ := pd_Oex (by omega) hF
    have hiff := pd_GenO hP hg ho
    refine pd_yord hn (by omega) (by omega) ho (by omega) ?_
    refine pk_eq o (n - 1) (fun h4 => ?_) (fun h4 => ?_) (hy := pd_sub1 (by omega))
    · have e : g = g0 := by
        by_cases z : g = g0
        · exact z
        · exact (hN g h2 (by omega) (hiff.mp h4)).elim
      rw [e]
      exact h
    · have hne : g ≠ g0 := fun z => h4 (hiff.mpr (z ▸ hG))
      refine nm_r (nI_1 g) ?_
      exact ih (g + 1) (by omega) (by omega) (by omega)
end

theorem i_vc_generator {k : Nat} {u : SX} {v : SY} (I : i_Rel k u v) (hk : k + 3 ≤ 1536) : wpX_generator (fun r => wpY_generator (fun r' => r' = r ∧ i_Rel (k + 3) u v) v) u := by
  obtain ⟨n, h1, h2, rfl, f2, f3, f4, a1, a2, rfl, hs⟩ := I
  refine pd_prime (by omega) (fun hP => ?_) (fun hP => ?_)
  · have hn := hP.1
    refine br_f (by decide) ?_
    refine pk_eq n 2 (fun h3 => ?_) (fun h3 => ?_)
    · refine pd_yprime (by omega) (fun _ => ?_) (fun z => (z hP).elim)
      refine br_f (by decide) ?_
      refine Exists.intro 1 ?_
      have ho : pd_O n 1 1 := ⟨Nat.le_refl 1, by rw [Nat.one_pow, pd_1mod hn], fun j hj hj2 => by omega⟩
      refine pd_yord (b := 1) (o := 1) hn (by omega) (by decide) ho (by decide) ?_
      refine br_t ?_ ⟨rfl, pd_mk h1 h2 hs⟩
      rw [h3]
      rfl
    · obtain ⟨gx, hx1, hx2, hx3⟩ := pd_gen (n := n) (by omega) hP (by omega)
      obtain ⟨g0, ⟨g1, g2⟩, g3⟩ := pk_least (fun g => 1 ≤ g ∧ pd_Gen n g) ⟨gx, by omega, hx3⟩
      have hg0 : g0 < n := by
        by_cases z : g0 ≤ gx
        · omega
        · exact (g3 gx (by omega) ⟨by omega, hx3⟩).elim
      have hN : ∀ j, 1 ≤ j → j < g0 → ¬ pd_Gen n j := fun j hj hj2 hG => g3 j hj2 ⟨hj, hG⟩
      have hg1 : g0 ≠ 1 := by
        intro z
        rw [z] at g2
        obtain ⟨q, hq1, hq2⟩ := pd_exP (n - 1) (by omega)
        refine g2 q hq1 hq2 ?_
        rw [Nat.one_pow, pd_1mod hn]
      refine Exists.intro (g0 + 1) ?_
      refine pd_g28 hn (by omega) hg0 g2 hN ?_ g0 1 (by omega) (by omega) (by omega)
      refine pd_yprime (by omega) (fun _ => ?_) (fun z => (z hP).elim)
      refine br_f (by decide) ?_
      refine Exists.intro (g0 + 1) ?_
      exact pd_yg16' hP (by omega) hg0 g2 hN ⟨rfl, pd_mk h1 h2 hs⟩ (g0 + 1) 1 (by omega) (by omega) (by omega)
  · refine br_t rfl ?_
    refine pd_yprime (by omega) (fun z => (hP z).elim) (fun _ => ?_)
    exact br_t rfl ⟨rfl, pd_mk h1 h2 hs⟩
end
section
theorem pd_neg1 {p : Nat} (h : 2 ≤ p) : (p - 1) * (p - 1) % p = 1 := by
  obtain ⟨z, rfl⟩ : ∃ z, p = z + 2 := ⟨p - 2, by omega⟩
  have e : (z + 2 - 1) * (z + 2 - 1) = (z + 2) * z + 1 := by
    show (z + 1) * (z + 1) = (z + 2) * z + 1
    grind
  rw [e, Nat.mul_add_mod]
  exact pd_1mod h

theorem pd_dbl (x p c : Nat) : (x ^ 2 ^ c % p) * (x ^ 2 ^ c % p) % p = x ^ 2 ^ (c + 1) % p := by
  rw [← Nat.mul_mod, ← Nat.pow_add, Nat.pow_succ, Nat.mul_two]

theorem pd_pow0 {x p : Nat} (h : x < p) : x ^ 2 ^ 0 % p = x := by
  rw [Nat.pow_zero, Nat.pow_one, Nat.mod_eq_of_lt h]

/-- what the search for a root keeps: helper h, root r, the factor o off it, the size s -/
def pd_T (p a h r o s : Nat) : Prop := h < p ∧ r < p ∧ o < p ∧ 1 ≤ s ∧ s < 100 ∧ r * r % p = a * o % p ∧ h ^ 2 ^ (s - 1) % p = p - 1 ∧ o ^ 2 ^ (s - 1) % p = 1

theorem pd_Tle {p a h r o s l : Nat} (hT : pd_T p a h r o s) (ho : o ≠ 1) (h1 : o ^ 2 ^ l % p = 1) (h2 : ∀ j, j < l → o ^ 2 ^ j % p ≠ 1) : 1 ≤ l ∧ l + 1 ≤ s := by
  obtain ⟨t1, t2, t3, t4, t5, t6, t7, t8⟩ := hT
  constructor
  · by_cases z : 1 ≤ l
    · exact z
    · have e : l = 0 := by omega
      rw [e, pd_pow0 t3] at h1
      exact (ho h1).elim
  · by_cases z : l + 1 ≤ s
    · exact z
    · exact (h2 (s - 1) (by omega) t8).elim

theorem pd_Tstep {p a h r o s l : Nat} (hp : pd_P p) (hT : pd_T p a h r o s) (ho : o ≠ 1) (h1 : o ^ 2 ^ l % p = 1) (h2 : ∀ j, j < l → o ^ 2 ^ j % p ≠ 1) :
    pd_T p a ((h ^ 2 ^ (s - l - 1) % p) * (h ^ 2 ^ (s - l - 1) % p) % p) (r * (h ^ 2 ^ (s - l - 1) % p) % p) (o * ((h ^ 2 ^ (s - l - 1) % p) * (h ^ 2 ^ (s - l - 1) % p) % p) % p) l := by
  have hp2 := hp.1
  obtain ⟨hl1, hl2⟩ := pd_Tle hT ho h1 h2
  obtain ⟨t1, t2, t3, t4, t5, t6, t7, t8⟩ := hT
  have hy : o ^ 2 ^ (l - 1) % p = p - 1 := by
    have hq : (o ^ 2 ^ (l - 1) % p) * (o ^ 2 ^ (l - 1) % p) % p = 1 := by
      rw [pd_dbl, show l - 1 + 1 = l by omega]
      exact h1
    rcases pd_sq1 hp (Nat.mod_lt _ (by omega)) hq with e | e
    · exact (h2 (l - 1) (by omega) e).elim
    · exact e
  have hh : (h ^ 2 ^ (s - l - 1) % p) * (h ^ 2 ^ (s - l - 1) % p) % p = h ^ 2 ^ (s - l) % p := by
    rw [pd_dbl, show s - l - 1 + 1 = s - l by omega]
  have hh2 : (h ^ 2 ^ (s - l) % p) ^ 2 ^ (l - 1) % p = p - 1 := by
    rw [← Nat.pow_mod, ← Nat.pow_mul, ← Nat.pow_add, show s - l + (l - 1) = s - 1 by omega]
    exact t7
  have hlt : ∀ x, x % p < p := fun x => Nat.mod_lt x (by omega)
  refine ⟨hlt _, hlt _, hlt _, hl1, by omega, ?_, ?_, ?_⟩
  · generalize h ^ 2 ^ (s - l - 1) % p = f
    have e1 : (r * f % p) * (r * f % p) % p = (r * f) * (r * f) % p := (Nat.mul_mod _ _ _).symm
    have e2 : (r * f) * (r * f) = (r * r) * (f * f) := by grind
    have e3 : (r * r) * (f * f) % p = (a * o) * (f * f) % p := pd_mulC t6 rfl
    have e4 : a * (o * (f * f % p) % p) % p = a * (o * (f * f)) % p := by
      refine pd_mulC rfl ?_
      rw [Nat.mod_mod]
      exact pd_mulC rfl (Nat.mod_mod _ _)
    rw [e1, e2, e3, e4, Nat.mul_assoc]
  · rw [hh]
    exact hh2
  · rw [hh, ← Nat.pow_mod, Nat.mul_pow, Nat.mul_mod, hy, hh2]
    exact pd_neg1 hp2

section
variable {f1 f2 f3 f4 : Int32} {a1 a2 : Nat → Int32} {p a : Nat}

theorem pd_lp5 {post : Int32 → Prop} {o l : Nat} (hp : 2 ≤ p) (hp2 : p < 32768) (hl : l < 100) (h1 : o ^ 2 ^ l % p = 1) (h2 : ∀ j, j < l → o ^ 2 ^ j % p ≠ 1) (h : post (nI l)) : ∀ m c, l < m + c → c ≤ l →
    wX_leastPower_5 post (nI p) f1 f2 f3 f4 a1 a2 m (nI c) (nI (o ^ 2 ^ c % p)) := by
  intro m
  induction m with
  | zero => intro c h3 h4; omega
  | succ m ih =>
    intro c h3 h4
    have hlt : o ^ 2 ^ c % p < p := Nat.mod_lt _ (by omega)
    refine pk_eq (o ^ 2 ^ c % p) 1 (fun h5 => ?_) (fun h5 => ?_)
    · have e : c = l := by
        by_cases z : c = l
        · exact z
        · exact (h2 c (by omega) h5).elim
      rw [e]
      exact h
    · have hne : c ≠ l := by
        intro z
        rw [z] at h5
        exact h5 h1
      refine pd_times (by omega) (by omega) (by omega) (by omega) ?_
      rw [pd_dbl]
      refine nm_r (nI_1 c) ?_
      exact ih (c + 1) (by omega) (by omega)

theorem pd_r106 {post : Int32 → Prop} {J : Int32 → Int32 → Int32 → Int32 → Prop} {h r o s l : Nat} (hp : 2 ≤ p) (hp2 : p < 32768) (hr : r < p) (ho : o < p) (hs : s < 100) (hl : l + 1 ≤ s)
    (hJ : J (nI ((h ^ 2 ^ (s - l - 1) % p) * (h ^ 2 ^ (s - l - 1) % p) % p)) (nI (r * (h ^ 2 ^ (s - l - 1) % p) % p)) (nI (o * ((h ^ 2 ^ (s - l - 1) % p) * (h ^ 2 ^ (s - l - 1) % p) % p) % p)) (nI l)) : ∀ m c, s - l - 1 < m + c → c ≤ s - l - 1 →
    wX_rootModulo_106 post J (nI p) (nI r) (nI o) (nI s) (nI l) f1 f2 f3 f4 a1 a2 m (nI (h ^ 2 ^ c % p)) (nI c) := by
  intro m
  induction m with
  | zero => intro c h3 h4; omega
  | succ m ih =>
    intro c h3 h4
    have hlt : h ^ 2 ^ c % p < p := Nat.mod_lt _ (by omega)
    have hb : (nI s - nI l) - 1 = nI (s - l - 1) := by rw [pk_sub (by omega), pd_sub1 (by omega)]
    refine pk_le (s - l - 1) c (fun h5 => ?_) (fun h5 => ?_) (hx := hb)
    · have e : c = s - l - 1 := by omega
      rw [e] at hlt ⊢
      have hlt2 : (h ^ 2 ^ (s - l - 1) % p) * (h ^ 2 ^ (s - l - 1) % p) % p < p := Nat.mod_lt _ (by omega)
      refine pd_times (by omega) (by omega) (by omega) (by omega) ?_
      refine pd_times (by omega) (by omega) (by omega) (by omega) ?_
      refine pd_times (by omega) (by omega) (by omega) (by omega) ?_
      exact hJ
    · refine pd_times (by omega) (by omega) (by omega) (by omega) ?_
      rw [pd_dbl]
      refine nm_r (nI_1 c) ?_
      exact ih (c + 1) (by omega) (by omega)

theorem pd_r84 {post : Int32 → Prop} (hp : pd_P p) (hp2 : p < 32768) (h0 : ∀ r, r < p → r * r % p = a % p → post (nI r)) : ∀ m h r o s, s < m → pd_T p a h r o s →
    wX_rootModulo_84 post (nI p) f1 f2 f3 f4 a1 a2 m (nI h) (nI r) (nI o) (nI s) := by
  intro m
  induction m with
  | zero => intro h r o s h1; exact absurd h1 (Nat.not_lt_zero _)
  | succ m ih =>
    intro h r o s hm hT
    have hp1 := hp.1
    have hT' := hT
    obtain ⟨t1, t2, t3, t4, t5, t6, t7, t8⟩ := hT'
    refine pk_eq o 1 (fun h3 => ?_) (fun h3 => ?_)
    · rw [h3, Nat.mul_one] at t6
      exact h0 r t2 t6
    · obtain ⟨l, hl1, hl2⟩ := pk_least (fun l => o ^ 2 ^ l % p = 1) ⟨s - 1, t8⟩
      obtain ⟨k1, k2⟩ := pd_Tle hT h3 hl1 hl2
      have hT2 := pd_Tstep hp hT h3 hl1 hl2
      have key := pd_lp5 (f1 := f1) (f2 := f2) (f3 := f3) (f4 := f4) (a1 := a1) (a2 := a2) (post := fun r_35 => ∃ n106 : Nat, wX_rootModulo_106 post (wX_rootModulo_84 post (nI p) f1 f2 f3 f4 a1 a2 m) (nI p) (nI r) (nI o) (nI s) r_35 f1 f2 f3 f4 a1 a2 n106 (nI h) 0) (o := o) (l := l) hp1 hp2 (by omega) hl1 hl2 ?_ (l + 1) 0 (by omega) (by omega)
      · rw [pd_pow0 t3] at key
        exact ⟨l + 1, key⟩
      · have key := pd_r106 (f1 := f1) (f2 := f2) (f3 := f3) (f4 := f4) (a1 := a1) (a2 := a2) (post := post) (J := wX_rootModulo_84 post (nI p) f1 f2 f3 f4 a1 a2 m) (h := h) hp1 hp2 t2 t3 t5 k2 (ih _ _ _ l (by omega) hT2) (s - l) 0 (by omega) (by omega)
        rw [pd_pow0 t1] at key
        exact ⟨s - l, key⟩

theorem pd_T0 {z o t : Nat} (hp : pd_P p) (ho : o % 2 = 1) (ht : 1 ≤ t) (ht2 : t < 100) (e : p - 1 = o * 2 ^ t) (hz : z ^ ((p - 1) / 2) % p = p - 1) (ha : a ^ ((p - 1) / 2) % p = 1) :
    pd_T p a (z ^ o % p) (a ^ ((o + 1) / 2) % p) (a ^ o % p) t := by
  have hp1 := hp.1
  have hlt : ∀ x, x % p < p := fun x => Nat.mod_lt x (by omega)
  have eh : (p - 1) / 2 = o * 2 ^ (t - 1) := by
    obtain ⟨j, rfl⟩ : ∃ j, t = j + 1 := ⟨t - 1, by omega⟩
    rw [e, Nat.pow_succ, ← Nat.mul_assoc, Nat.mul_div_cancel _ (by decide)]
    rfl
  refine ⟨hlt _, hlt _, hlt _, ht, ht2, ?_, ?_, ?_⟩
  · have e1 : (a ^ ((o + 1) / 2) % p) * (a ^ ((o + 1) / 2) % p) % p = a ^ ((o + 1) / 2) * a ^ ((o + 1) / 2) % p := (Nat.mul_mod _ _ _).symm
    have e2 : a ^ ((o + 1) / 2) * a ^ ((o + 1) / 2) = a * a ^ o := by
      rw [← Nat.pow_add, show (o + 1) / 2 + (o + 1) / 2 = o + 1 by omega, Nat.pow_succ, Nat.mul_comm]
    rw [e1, e2]
    exact pd_mulC rfl (Nat.mod_mod _ _).symm
  · rw [← Nat.pow_mod, ← Nat.pow_mul, ← eh]
    exact hz
  · rw [← Nat.pow_mod, ← Nat.pow_mul, ← eh]
    exact ha

theorem pd_half {p z : Nat} (hp : pd_P p) (h2 : p % 2 = 1) (hz : ¬ p ∣ z) (h : z ^ ((p - 1) / 2) % p ≠ 1) : z ^ ((p - 1) / 2) % p = p - 1 := by
  have hp1 := hp.1
  have hF := pd_fermat hp hz
  rw [pd_1mod hp1] at hF
  have e : (z ^ ((p - 1) / 2) % p) * (z ^ ((p - 1) / 2) % p) % p = 1 := by
    rw [← Nat.mul_mod, ← Nat.pow_add, show (p - 1) / 2 + (p - 1) / 2 = p - 1 by omega]
    exact hF
  rcases pd_sq1 hp (Nat.mod_lt _ (by omega)) e with e | e
  · exact (h e).elim
  · exact e

theorem pd_r26 {post : Int32 → Prop} {o t g : Nat} (hp : pd_P p) (hp2 : p < 32768) (hpo : p % 2 = 1) (ha : a < p) (hg : g < p) (hgn : g ^ ((p - 1) / 2) % p ≠ 1) (ho : o % 2 = 1) (ht : 1 ≤ t) (ht2 : t < 90) (ho2 : o < 32768) (e : p - 1 = o * 2 ^ t) (hap : a ^ ((p - 1) / 2) % p = 1)
    (h0 : ∀ r, r < p → r * r % p = a % p → post (nI r)) : ∀ m z, g < m + z → 2 ≤ z → z ≤ g →
    wX_rootModulo_26 post (nI a) (nI p) (nI o) (nI t) f1 f2 f3 f4 a1 a2 m (nI z) := by
  intro m
  induction m with
  | zero => intro z h1 h2 h3; omega
  | succ m ih =>
    intro z h1 h2 h3
    have hp1 := hp.1
    have hb1 : (nI p - 1) / 2 = nI ((p - 1) / 2) := by
      rw [pd_sub1 (by omega)]
      exact pk_div (d := 2) (by omega) (by omega) (by omega)
    have hb2 : (nI o + 1) / 2 = nI ((o + 1) / 2) := by
      rw [nI_1]
      exact pk_div (d := 2) (by omega) (by omega) (by omega)
    have hlt : z ^ ((p - 1) / 2) % p < p := Nat.mod_lt _ (by omega)
    refine And.intro (by decide) ?_
    rw [hb1]
    refine pd_power (by omega) (by omega) (by omega) (by omega) ?_
    refine pk_eq (z ^ ((p - 1) / 2) % p) 1 (fun h4 => ?_) (fun h4 => ?_)
    · have hne : z ≠ g := by
        intro w
        rw [w] at h4
        exact hgn h4
      refine nm_r (nI_1 z) ?_
      exact ih (z + 1) (by omega) (by omega) (by omega)
    · have hz : ¬ p ∣ z := fun w => by have := Nat.le_of_dvd (by omega) w; omega
      refine pd_power (by omega) (by omega) (by omega) (by omega) ?_
      refine And.intro (by decide) ?_
      rw [hb2]
      refine pd_power (by omega) (by omega) (by omega) (by omega) ?_
      refine pd_power (by omega) (by omega) (by omega) (by omega) ?_
      exact ⟨t + 1, pd_r84 hp hp2 h0 (t + 1) _ _ _ t (by omega) (pd_T0 hp ho ht (by omega) e (pd_half hp hpo hz h4) hap)⟩

theorem pd_r7 {post : Int32 → Prop} {g : Nat} (hp : pd_P p) (hp2 : p < 32768) (hpo : p % 2 = 1) (ha : a < p) (hg0 : 2 ≤ g) (hg : g < p) (hgn : g ^ ((p - 1) / 2) % p ≠ 1) (hap : a ^ ((p - 1) / 2) % p = 1)
    (h0 : ∀ r, r < p → r * r % p = a % p → post (nI r)) : ∀ m o t, o < 2 ^ m → 0 < o → o < 32768 → t + m < 90 → p - 1 = o * 2 ^ t →
    wX_rootModulo_7 post (nI a) (nI p) f1 f2 f3 f4 a1 a2 m (nI o) (nI t) := by
  intro m
  induction m with
  | zero =>
    intro o t h1 h2
    rw [Nat.pow_zero] at h1
    omega
  | succ m ih =>
    intro o t h1 h2 h3 h4 h5
    rw [Nat.pow_succ] at h1
    refine pk_eq (o % 2) 0 (fun h6 => ?_) (fun h6 => ?_) (hx := pd_and1 (by omega))
    · refine nm_r (pd_shr1 (by omega)) ?_
      refine nm_r (nI_1 t) ?_
      refine ih (o / 2) (t + 1) (by omega) (by omega) (by omega) (by omega) ?_
      rw [h5, Nat.pow_succ, Nat.mul_comm (2 ^ t) 2, ← Nat.mul_assoc, show o / 2 * 2 = o by omega]
    · have ht : 1 ≤ t := by
        by_cases z : 1 ≤ t
        · exact z
        · have e : t = 0 := by omega
          rw [e, Nat.pow_zero, Nat.mul_one] at h5
          omega
      exact ⟨g + 1, pd_r26 hp hp2 hpo ha hg hgn (by omega) ht (by omega) h3 h5 hap h0 (g + 1) 2 (by omega) (by omega) hg0⟩

theorem pd_rootX {post : Int32 → Prop} (hp : pd_P p) (hp2 : p < 32768) (hp3 : 3 ≤ p) (ha : a < p) (hap : a ^ ((p - 1) / 2) % p = 1) (h0 : ∀ r, r < p → r * r % p = a % p → post (nI r)) :
    wpX_rootModulo post (f1, f2, f3, f4, a1, a2) (nI a) (nI p) := by
  have hpo : p % 2 = 1 := by
    by_cases z : p % 2 = 1
    · exact z
    · have := pd_PP pd_P2 hp (Nat.dvd_of_mod_eq_zero (by omega))
      omega
  obtain ⟨g, hg1, hg2, hg3⟩ := pd_gen (n := p) (by omega) hp hp3
  have hgn := hg3 2 pd_P2 (Nat.dvd_of_mod_eq_zero (by omega))
  refine nm_r (P := fun x => ∃ n7 : Nat, wX_rootModulo_7 post (nI a) (nI p) f1 f2 f3 f4 a1 a2 n7 x 0) (pd_sub1 (by omega)) ?_
  exact ⟨16, pd_r7 hp hp2 hpo ha hg1 hg2 hgn hap h0 16 (p - 1) 0 (by omega) (by omega) (by omega) (by omega) (by rw [Nat.pow_zero, Nat.mul_one])⟩
end

theorem pd_yr15 {post : Int32 → Prop} {n a : Nat} (hP : pd_P n) (hn2 : n < 32767) (ha : a < 2 ^ 31) (h1 : ∀ x, x < n → x * x % n = a % n → (∀ y, y < x → y * y % n ≠ a % n) → post (nI x)) (h2 : (∀ y, y < n → y * y % n ≠ a % n) → post (-2)) :
    ∀ m x, n < m + x → x ≤ n → (∀ y, y < x → y * y % n ≠ a % n) → wY_root_15 post (nI a) (nI n) m (nI x) := by
  intro m
  induction m with
  | zero => intro x h3 h4; omega
  | succ m ih =>
    intro x h3 h4 h5
    have hn := hP.1
    have hn0 := nI_ne0 (n := n) (by omega) (by omega)
    refine pk_le n x (fun h6 => ?_) (fun h6 => ?_)
    · have e : x = n := by omega
      rw [e] at h5
      exact h2 h5
    · have l1 : x * x % n < n := Nat.mod_lt _ (by omega)
      have l2 : a % n < n := Nat.mod_lt _ (by omega)
      have l3 : x * x < 2 ^ 31 := pd_mulLt (n := n) h6 h6 (by omega)
      have hx : (nI x * nI x) - (nI x * nI x) / nI n * nI n = nI (x * x % n) := by
        rw [pk_mul]
        exact pk_rem l3 (by omega) (by omega)
      refine pd_yprime hn2 (fun _ => ?_) (fun z => (z hP).elim)
      refine br_f (by decide) ?_
      refine And.intro hn0 (And.intro hn0 ?_)
      refine pk_eq (x * x % n) (a % n) (fun h7 => ?_) (fun h7 => ?_) (hx := hx) (hy := pk_rem ha (by omega) (by omega))
      · exact h1 x h6 h7 h5
      · refine nm_r (nI_1 x) ?_
        refine ih (x + 1) (by omega) (by omega) (fun y hy => ?_)
        by_cases e : y = x
        · rw [e]
          exact h7
        · exact h5 y (by omega)

theorem pd_yroot {post : Int32 → Prop} {n a : Nat} (hP : pd_P n) (hn2 : n < 32767) (ha : a ≤ 30000) (h1 : ∀ x, x < n → x * x % n = a % n → (∀ y, y < x → y * y % n ≠ a % n) → post (nI x)) (h2 : (∀ y, y < n → y * y % n ≠ a % n) → post (-2)) :
    wpY_root post (nI n) (nI a) := by
  refine br_f (nI_pos (by omega)) ?_
  refine br_t (nI_le (b := 30000) ha (by decide)) ?_
  exact ⟨n + 1, pd_yr15 hP hn2 (by omega) h1 h2 (n + 1) 0 (by omega) (by omega) (fun y hy => by omega)⟩

theorem pd_sqNeg {n r : Nat} (h : r ≤ n) : (n - r) * (n - r) % n = r * r % n := by
  obtain ⟨c, rfl⟩ : ∃ c, n = c + r := ⟨n - r, by omega⟩
  rw [Nat.add_sub_cancel]
  have e : c * c + (c + r) * r = r * r + (c + r) * c := by grind
  have e1 : (c * c + (c + r) * r) % (c + r) = c * c % (c + r) := Nat.add_mul_mod_self_left _ _ _
  have e2 : (r * r + (c + r) * c) % (c + r) = r * r % (c + r) := Nat.add_mul_mod_self_left _ _ _
  rw [← e1, e, e2]

theorem i_vc_root {k : Nat} {u : SX} {v : SY} (I : i_Rel k u v) (hk : k + 3 ≤ 1536) (v1 : Int32) : wpX_root (fun r => wpY_root (fun r' => r' = r ∧ i_Rel (k + 3) u v) v v1) u v1 := by
  obtain ⟨n, h1, h2, rfl, f2, f3, f4, a1, a2, rfl, hs⟩ := I
  by_cases c1 : v1 < 0
  · exact br_t c1 (br_t c1 ⟨rfl, pd_mk h1 h2 hs⟩)
  · by_cases c2 : v1 ≤ 30000
    · obtain ⟨a, ha, rfl⟩ := pd_arg0 c1 c2
      refine br_f c1 (br_t c2 ?_)
      refine pd_prime (by omega) (fun hP => ?_) (fun hP => ?_)
      · have hn := hP.1
        have hl : a % n < n := Nat.mod_lt _ (by omega)
        have hmm : a % n % n = a % n := Nat.mod_mod _ _
        refine br_f (by decide) ?_
        refine And.intro (nI_ne0 (by omega) (by omega)) ?_
        refine nm_r (pk_rem (by omega) (by omega) (by omega)) ?_
        refine pk_eq n 2 (fun h3 => ?_) (fun h3 => ?_)
        · refine pd_yroot hP (by omega) ha (fun x hx1 hx2 hx3 => ?_) (fun hno => ?_)
          · have e : x = a % n := by
              rw [h3] at hx1 hx2 ⊢
              have : x = 0 ∨ x = 1 := by omega
              rcases this with e | e
              · rw [e] at hx2 ⊢
                exact hx2
              · rw [e] at hx2 ⊢
                exact hx2
            rw [e]
            exact ⟨rfl, pd_mk h1 h2 hs⟩
          · exfalso
            refine hno (a % n) hl ?_
            rw [h3]
            have : a % 2 = 0 ∨ a % 2 = 1 := by omega
            rcases this with e | e <;> rw [e]
        · refine pk_eq (a % n) 0 (fun h4 => ?_) (fun h4 => ?_)
          · refine pd_yroot hP (by omega) ha (fun x hx1 hx2 hx3 => ?_) (fun hno => ?_)
            · have e : x = 0 := by
                by_cases z : x = 0
                · exact z
                · refine (hx3 0 (by omega) ?_).elim
                  rw [h4, Nat.mul_zero, Nat.zero_mod]
              rw [e, h4]
              exact ⟨rfl, pd_mk h1 h2 hs⟩
            · exfalso
              refine hno 0 (by omega) ?_
              rw [h4, Nat.mul_zero, Nat.zero_mod]
          · have hb1 : (nI n - 1) / 2 = nI ((n - 1) / 2) := by
              rw [pd_sub1 (by omega)]
              exact pk_div (d := 2) (by omega) (by omega) (by omega)
            have hlt : (a % n) ^ ((n - 1) / 2) % n < n := Nat.mod_lt _ (by omega)
            refine And.intro (by decide) ?_
            rw [hb1]
            refine pd_power (by omega) (by omega) (by omega) (by omega) ?_
            refine pk_eq ((a % n) ^ ((n - 1) / 2) % n) 1 (fun h5 => ?_) (fun h5 => ?_)
            · refine pd_rootX hP (by omega) (by omega) hl h5 (fun r hr1 hr2 => ?_)
              rw [hmm] at hr2
              have hr0 : r ≠ 0 := by
                intro z
                rw [z, Nat.mul_zero, Nat.zero_mod] at hr2
                exact h4 hr2.symm
              rw [pk_sub (by omega)]
              have hneg := pd_sqNeg (n := n) (r := r) (by omega)
              rw [hr2] at hneg
              refine pk_lt (n - r) r (fun h6 => ?_) (fun h6 => ?_)
              · refine pd_yroot hP (by omega) ha (fun x hx1 hx2 hx3 => ?_) (fun hno => (hno r hr1 hr2).elim)
                have hxle : x ≤ n - r := by
                  by_cases z : x ≤ n - r
                  · exact z
                  · exact (hx3 (n - r) (by omega) hneg).elim
                have e : x = n - r := by
                  rcases pd_sqE hP hr1 (y := x) (by omega) (by rw [hr2, hx2]) with e | e <;> omega
                rw [e]
                exact ⟨rfl, pd_mk h1 h2 hs⟩
              · refine pd_yroot hP (by omega) ha (fun x hx1 hx2 hx3 => ?_) (fun hno => (hno r hr1 hr2).elim)
                have hxle : x ≤ r := by
                  by_cases z : x ≤ r
                  · exact z
                  · exact (hx3 r (by omega) hr2).elim
                have e : x = r := by
                  rcases pd_sqE hP hr1 (y := x) (by omega) (by rw [hr2, hx2]) with e | e <;> omega
                rw [e]
                exact ⟨rfl, pd_mk h1 h2 hs⟩
            · refine pd_yroot hP (by omega) ha (fun x hx1 hx2 hx3 => ?_) (fun _ => ⟨rfl, pd_mk h1 h2 hs⟩)
              exfalso
              apply h5
              have hx0 : ¬ n ∣ x := by
                intro z
                rw [Nat.mod_eq_zero_of_dvd (Nat.dvd_mul_right_of_dvd z x)] at hx2
                exact h4 hx2.symm
              have hno2 : (n - 1) / 2 + (n - 1) / 2 = n - 1 := by
                by_cases z : n % 2 = 1
                · omega
                · have := pd_PP pd_P2 hP (Nat.dvd_of_mod_eq_zero (by omega))
                  omega
              rw [← hx2, ← Nat.pow_mod, Nat.mul_pow, ← Nat.pow_add, hno2, pd_fermat hP hx0, pd_1mod hn]
      · refine br_t rfl ?_
        refine br_f c1 (br_t c2 ?_)
        refine Exists.intro 1 ?_
        refine pk_le n 0 (fun z => by omega) (fun _ => ?_)
        refine pd_yprime (by omega) (fun z => (hP z).elim) (fun _ => ?_)
        exact br_t rfl ⟨rfl, pd_mk h1 h2 hs⟩
    · exact br_f c1 (br_f c2 (br_f c1 (br_f c2 ⟨rfl, pd_mk h1 h2 hs⟩)))
end
