section
/-- n is the exact order of g by P -/
def dl_ord (P g n : Nat) : Prop := 0 < n ∧ g ^ n % P = 1 ∧ ∀ m, g ^ m % P = 1 → n ∣ m
/-- c is a primitive root by P -/
def dl_G (P c : Nat) : Prop := dl_ord P c (P - 1) ∧ ∀ h, 0 < h → h < P → ∃ b, c ^ b % P = h
theorem dl_padd (P g a b : Nat) : (g ^ a % P) * (g ^ b % P) % P = g ^ (a + b) % P := by
  rw [← Nat.mul_mod, ← Nat.pow_add]
theorem dl_ppow (P g a b : Nat) : (g ^ a % P) ^ b % P = g ^ (a * b) % P := by
  rw [← Nat.pow_mod, ← Nat.pow_mul]
theorem dl_k1 {P g n : Nat} (hP : 1 < P) (h : g ^ n % P = 1) (k : Nat) : g ^ (n * k) % P = 1 := by
  rw [Nat.pow_mul, Nat.pow_mod, h, Nat.one_pow, Nat.mod_eq_of_lt hP]
theorem dl_addk {P g n : Nat} (hP : 1 < P) (h : g ^ n % P = 1) (a k : Nat) : g ^ (a + n * k) % P = g ^ a % P := by
  rw [Nat.pow_add, Nat.mul_mod, dl_k1 hP h k, Nat.mul_one, Nat.mod_mod]
theorem dl_modn {P g n : Nat} (hP : 1 < P) (h : g ^ n % P = 1) (a : Nat) : g ^ a % P = g ^ (a % n) % P := by
  have e := dl_addk hP h (a % n) (a / n)
  rw [Nat.mod_add_div] at e
  exact e
theorem dl_pos {P g n : Nat} (hP : 1 < P) (hn : 0 < n) (h : g ^ n % P = 1) (x : Nat) : 0 < g ^ x % P := by
  rcases Nat.eq_zero_or_pos (g ^ x % P) with z | z
  · have e := dl_ppow P g x n
    rw [z, Nat.zero_pow hn, Nat.zero_mod, Nat.mul_comm, dl_k1 hP h x] at e
    exact absurd e (by decide)
  · exact z
theorem dl_gcd1 {P g : Nat} (hP : 1 < P) (m n : Nat) : g ^ m % P = 1 → g ^ n % P = 1 → g ^ (Nat.gcd m n) % P = 1 := by
  induction m, n using Nat.gcd.induction with
  | H0 n =>
    intro _ h
    rw [Nat.gcd_zero_left]
    exact h
  | H1 m n hm ih =>
    intro h1 h2
    rw [Nat.gcd_rec]
    exact ih (by rw [← dl_modn hP h1 n]; exact h2) h1
theorem dl_cancel {P g n a b : Nat} (hP : 1 < P) (hn : 0 < n) (h : g ^ n % P = 1) (hab : a ≤ b) (e : g ^ a % P = g ^ b % P) : g ^ (b - a) % P = 1 := by
  have e1 : g ^ (a + a * (n - 1)) % P = g ^ (b + a * (n - 1)) % P := by
    rw [← dl_padd, e, dl_padd]
  have e2 : a + a * (n - 1) = n * a := by
    obtain ⟨k, rfl⟩ : ∃ k, n = k + 1 := ⟨n - 1, by omega⟩
    rw [Nat.add_sub_cancel, Nat.add_mul, Nat.one_mul, Nat.mul_comm a k, Nat.add_comm]
  have e3 : b + a * (n - 1) = (b - a) + n * a := by omega
  rw [e2, e3, dl_k1 hP h, dl_addk hP h] at e1
  exact e1.symm
theorem dl_inj {P g n a b : Nat} (hP : 1 < P) (h : dl_ord P g n) (ha : a < n) (hb : b < n) (e : g ^ a % P = g ^ b % P) : a = b := by
  rcases Nat.le_total a b with z | z
  · have d := h.2.2 _ (dl_cancel hP h.1 h.2.1 z e)
    have := Nat.eq_zero_of_dvd_of_lt d (by omega)
    omega
  · have d := h.2.2 _ (dl_cancel hP h.1 h.2.1 z e.symm)
    have := Nat.eq_zero_of_dvd_of_lt d (by omega)
    omega
theorem dl_eqm {P g n : Nat} (hP : 1 < P) (h : dl_ord P g n) {a b : Nat} (e : g ^ a % P = g ^ b % P) : a % n = b % n := by
  rw [dl_modn hP h.2.1 a, dl_modn hP h.2.1 b] at e
  exact dl_inj hP h (Nat.mod_lt _ h.1) (Nat.mod_lt _ h.1) e
theorem dl_ordk {P g k m : Nat} (hk : 0 < k) (h : dl_ord P g (k * m)) : dl_ord P (g ^ k % P) m := by
  refine ⟨?_, ?_, fun j hj => ?_⟩
  · rcases Nat.eq_zero_or_pos m with z | z
    · have := h.1
      rw [z, Nat.mul_zero] at this
      omega
    · exact z
  · rw [dl_ppow]
    exact h.2.1
  · rw [dl_ppow] at hj
    exact Nat.dvd_of_mul_dvd_mul_left hk (h.2.2 _ hj)
/-- n places into n places, no two alike: every place is met -/
theorem dl_php : ∀ (n : Nat) (f : Nat → Nat), (∀ i, i < n → f i < n) → (∀ i j, i < n → j < n → f i = f j → i = j) → ∀ h, h < n → ∃ i, i < n ∧ f i = h := by
  intro n
  induction n with
  | zero =>
    intro f _ _ h hh
    exact absurd hh (by omega)
  | succ n ih =>
    intro f hf hi h hh
    have key : ∀ k, k < n → ∃ i, i < n ∧ (if f i = n then f n else f i) = k := by
      refine ih (fun i => if f i = n then f n else f i) ?_ ?_
      · intro i hin
        show (if f i = n then f n else f i) < n
        by_cases e : f i = n
        · rw [if_pos e]
          have := hf n (by omega)
          rcases Nat.lt_or_ge (f n) n with z | z
          · exact z
          · exact absurd (hi i n (by omega) (by omega) (by omega)) (by omega)
        · rw [if_neg e]
          have := hf i (by omega)
          omega
      · intro i j hin hjn e
        have e' : (if f i = n then f n else f i) = (if f j = n then f n else f j) := e
        by_cases a : f i = n
        · by_cases b : f j = n
          · exact hi i j (by omega) (by omega) (by omega)
          · rw [if_pos a, if_neg b] at e'
            exact absurd (hi n j (by omega) (by omega) e') (by omega)
        · by_cases b : f j = n
          · rw [if_neg a, if_pos b] at e'
            exact absurd (hi i n (by omega) (by omega) e') (by omega)
          · rw [if_neg a, if_neg b] at e'
            exact hi i j (by omega) (by omega) e'
    rcases Nat.lt_or_ge h n with z | z
    · obtain ⟨i, hin, e⟩ := key h z
      by_cases a : f i = n
      · rw [if_pos a] at e
        exact ⟨n, by omega, e⟩
      · rw [if_neg a] at e
        exact ⟨i, by omega, e⟩
    · have hn : h = n := by omega
      rw [hn]
      by_cases v : f n = n
      · exact ⟨n, by omega, v⟩
      · have := hf n (by omega)
        obtain ⟨i, hin, e⟩ := key (f n) (by omega)
        by_cases a : f i = n
        · exact ⟨i, by omega, a⟩
        · rw [if_neg a] at e
          exact absurd (hi i n (by omega) (by omega) e) (by omega)
/-- Bezout, up to multiples of M + 1 -/
theorem dl_bez (M m n : Nat) : ∃ u v k, m * u + n * v = Nat.gcd m n + (M + 1) * k := by
  induction m, n using Nat.gcd.induction with
  | H0 n => exact ⟨0, 1, 0, by simp⟩
  | H1 m n hm ih =>
    obtain ⟨u, v, k, e⟩ := ih
    refine ⟨v + (n / m) * M * u, u, k + m * (n / m) * u, ?_⟩
    rw [Nat.gcd_rec]
    have d := Nat.div_add_mod n m
    generalize Nat.gcd (n % m) m = g at *
    generalize n / m = q at *
    generalize n % m = r at *
    subst d
    grind
/-- what an exponent n kills lies among the powers of an element of order n -/
theorem dl_sub {P c g n h : Nat} (hP : 1 < P) (G : dl_G P c) (hg0 : 0 < g) (hg : g < P) (ho : dl_ord P g n) (h0 : 0 < h) (h1 : h < P) (e : h ^ n % P = 1) : ∃ X, X < n ∧ g ^ X % P = h := by
  obtain ⟨i, hi⟩ := G.2 g hg0 hg
  obtain ⟨b, hb⟩ := G.2 h h0 h1
  have d1 : P - 1 ∣ b * n := by
    rw [← hb, dl_ppow] at e
    exact G.1.2.2 _ e
  have d2 : n ∣ (P - 1) / Nat.gcd i (P - 1) := by
    apply ho.2.2
    rw [← hi, dl_ppow]
    have q : i * ((P - 1) / Nat.gcd i (P - 1)) = (P - 1) * (i / Nat.gcd i (P - 1)) := by
      rw [← Nat.mul_div_assoc _ (Nat.gcd_dvd_right i (P - 1)), Nat.mul_comm, Nat.mul_div_assoc _ (Nat.gcd_dvd_left i (P - 1))]
    rw [q]
    exact dl_k1 hP G.1.2.1 _
  have d3 : Nat.gcd i (P - 1) ∣ b := by
    have w : Nat.gcd i (P - 1) * n ∣ P - 1 := by
      obtain ⟨t, ht⟩ := d2
      exact ⟨t, by rw [Nat.mul_assoc, ← ht, Nat.mul_div_cancel' (Nat.gcd_dvd_right _ _)]⟩
    exact Nat.dvd_of_mul_dvd_mul_right ho.1 (Nat.dvd_trans w d1)
  obtain ⟨t, ht⟩ := d3
  obtain ⟨u, v, k, eq⟩ := dl_bez (P - 2) i (P - 1)
  rw [show P - 2 + 1 = P - 1 by omega] at eq
  refine ⟨(u * t) % n, Nat.mod_lt _ ho.1, ?_⟩
  rw [← dl_modn hP ho.2.1, ← hi, dl_ppow, ← hb]
  have q : i * (u * t) + (P - 1) * (v * t) = b + (P - 1) * (k * t) := by
    have w := congrArg (fun z => z * t) eq
    have w' : (i * u + (P - 1) * v) * t = (Nat.gcd i (P - 1) + (P - 1) * k) * t := w
    rw [Nat.add_mul, Nat.add_mul, ← ht, Nat.mul_assoc, Nat.mul_assoc, Nat.mul_assoc] at w'
    exact w'
  rw [← dl_addk hP G.1.2.1 (i * (u * t)) (v * t), q, dl_addk hP G.1.2.1]
theorem dl_fermat {P c h : Nat} (hP : 1 < P) (G : dl_G P c) (h0 : 0 < h) (h1 : h < P) : h ^ (P - 1) % P = 1 := by
  obtain ⟨b, hb⟩ := G.2 h h0 h1
  rw [← hb, dl_ppow, Nat.mul_comm]
  exact dl_k1 hP G.1.2.1 b
theorem dl_unit {P c h : Nat} (hP : 1 < P) (G : dl_G P c) (h0 : 0 < h) (h1 : h < P) (x : Nat) : 0 < h ^ x % P :=
  dl_pos hP (by omega) (dl_fermat hP G h0 h1) x
theorem dl_munit {P c a b : Nat} (hP : 1 < P) (G : dl_G P c) (a0 : 0 < a) (a1 : a < P) (b0 : 0 < b) (b1 : b < P) : 0 < a * b % P := by
  obtain ⟨i, hi⟩ := G.2 a a0 a1
  obtain ⟨j, hj⟩ := G.2 b b0 b1
  rw [← hi, ← hj, dl_padd]
  exact dl_pos hP G.1.1 G.1.2.1 _
end
section
def dl_al (f : Nat → Bool) : Nat → Bool
  | 0 => true
  | n + 1 => f n && dl_al f n
def dl_an (f : Nat → Bool) : Nat → Bool
  | 0 => false
  | n + 1 => f n || dl_an f n
theorem dl_al_get {f : Nat → Bool} {n : Nat} : dl_al f n = true → ∀ k, k < n → f k = true := by
  induction n with
  | zero =>
    intro _ k hk
    exact absurd hk (by omega)
  | succ n ih =>
    intro h k hk
    have h' : (f n && dl_al f n) = true := h
    rw [Bool.and_eq_true] at h'
    rcases Nat.lt_or_ge k n with z | z
    · exact ih h'.2 k z
    · rw [show k = n by omega]
      exact h'.1
theorem dl_an_get {f : Nat → Bool} {n : Nat} : dl_an f n = true → ∃ k, k < n ∧ f k = true := by
  induction n with
  | zero =>
    intro h
    have h' : false = true := h
    exact absurd h' (by decide)
  | succ n ih =>
    intro h
    have h' : (f n || dl_an f n) = true := h
    rw [Bool.or_eq_true] at h'
    rcases h' with z | z
    · exact ⟨n, by omega, z⟩
    · obtain ⟨k, hk, e⟩ := ih z
      exact ⟨k, by omega, e⟩
/-- q is no divisor of N from 2 on, or c to the N / q is not 1 -/
def dl_tq (P c q : Nat) : Bool := Nat.ble q 1 || (!(Nat.beq ((P - 1) % q) 0) || !(Nat.beq (c ^ ((P - 1) / q) % P) 1))
def dl_tc (P c : Nat) : Bool := Nat.beq (c ^ (P - 1) % P) 1 && dl_al (fun j => dl_tq P c (P - j)) P
def dl_td (P d : Nat) : Bool := Nat.ble 2 d && (Nat.ble (d * d) P && Nat.beq (P % d) 0)
def dl_ck (P : Nat) : Bool := Nat.ble P 2 || (dl_an (fun j => dl_td P (50 - j)) 51 || dl_an (fun j => dl_tc P (25 - j)) 25)
theorem dl_cert : dl_al dl_ck 2040 = true := by decide +kernel
theorem dl_prim {P : Nat} (h3 : 3 ≤ P) (hP : P < 2040) (hd : ∀ d, 2 ≤ d → d < 50 → d * d ≤ P → P % d ≠ 0) : ∃ c, dl_G P c := by
  have k : (Nat.ble P 2 || (dl_an (fun j => dl_td P (50 - j)) 51 || dl_an (fun j => dl_tc P (25 - j)) 25)) = true := dl_al_get dl_cert P hP
  rw [Bool.or_eq_true, Bool.or_eq_true] at k
  rcases k with k | k | k
  · have := Nat.le_of_ble_eq_true k
    omega
  · obtain ⟨j, hj, e⟩ := dl_an_get k
    have e' : (Nat.ble 2 (50 - j) && (Nat.ble ((50 - j) * (50 - j)) P && Nat.beq (P % (50 - j)) 0)) = true := e
    rw [Bool.and_eq_true, Bool.and_eq_true] at e'
    have e1 := Nat.le_of_ble_eq_true e'.1
    have e2 := Nat.le_of_ble_eq_true e'.2.1
    have e3 := Nat.eq_of_beq_eq_true e'.2.2
    rcases Nat.eq_zero_or_pos j with z | z
    · subst z
      omega
    · exact absurd e3 (hd (50 - j) e1 (by omega) e2)
  · obtain ⟨j, hj, e⟩ := dl_an_get k
    have e' : (Nat.beq ((25 - j) ^ (P - 1) % P) 1 && dl_al (fun i => dl_tq P (25 - j) (P - i)) P) = true := e
    generalize 25 - j = c at e'
    rw [Bool.and_eq_true] at e'
    have e1 := Nat.eq_of_beq_eq_true e'.1
    have e2 : ∀ q, 2 ≤ q → q ≤ P - 1 → (P - 1) % q = 0 → c ^ ((P - 1) / q) % P ≠ 1 := by
      intro q q2 qP q0 hc
      have w : dl_tq P c (P - (P - q)) = true := dl_al_get e'.2 (P - q) (by omega)
      rw [show P - (P - q) = q by omega] at w
      have w' : (Nat.ble q 1 || (!(Nat.beq ((P - 1) % q) 0) || !(Nat.beq (c ^ ((P - 1) / q) % P) 1))) = true := w
      rw [q0, hc] at w'
      rw [Bool.or_eq_true] at w'
      rcases w' with w' | w'
      · have := Nat.le_of_ble_eq_true w'
        omega
      · exact absurd w' (by decide)
    have ho : dl_ord P c (P - 1) := by
      refine ⟨by omega, e1, fun m hm => ?_⟩
      have g1 := dl_gcd1 (by omega) (P - 1) m e1 hm
      obtain ⟨q, hq⟩ := Nat.gcd_dvd_left (P - 1) m
      have gp : 0 < Nat.gcd (P - 1) m := Nat.gcd_pos_of_pos_left m (by omega)
      have gm := Nat.gcd_dvd_right (P - 1) m
      generalize Nat.gcd (P - 1) m = d at *
      rcases Nat.lt_or_ge q 2 with z | z
      · have q1 : q = 1 := by
          rcases Nat.eq_zero_or_pos q with y | y
          · subst y
            omega
          · omega
        subst q1
        rw [hq, Nat.mul_one]
        exact gm
      · have r := e2 q z (by rw [hq]; exact Nat.le_mul_of_pos_left q gp) (by rw [hq]; exact Nat.mul_mod_left d q)
        rw [hq, Nat.mul_div_cancel d (by omega)] at r
        exact absurd g1 r
    refine ⟨c, ho, fun h h0 h1 => ?_⟩
    obtain ⟨i, _, hi⟩ := dl_php (P - 1) (fun b => c ^ b % P - 1) (fun b _ => by
        have := Nat.mod_lt (c ^ b) (show P > 0 by omega)
        show c ^ b % P - 1 < P - 1
        omega) (fun a b ha hb w => by
        have p1 := dl_pos (by omega) ho.1 e1 a
        have p2 := dl_pos (by omega) ho.1 e1 b
        have w' : c ^ a % P - 1 = c ^ b % P - 1 := w
        exact dl_inj (by omega) ho ha hb (by omega)) (h - 1) (by omega)
    have p1 := dl_pos (by omega) ho.1 e1 i
    have hi' : c ^ i % P - 1 = h - 1 := hi
    exact ⟨i, by omega⟩
end
section
def dl_pr (q : Nat) : Prop := 2 ≤ q ∧ ∀ e, e ∣ q → e = 1 ∨ e = q
theorem dl_cop {q m : Nat} (h : dl_pr q) (hm : ¬ q ∣ m) : Nat.Coprime m q := by
  rcases h.2 _ (Nat.gcd_dvd_right m q) with z | z
  · exact z
  · have d := Nat.gcd_dvd_left m q
    rw [z] at d
    exact absurd d hm
theorem dl_prne {p q : Nat} (hp : dl_pr p) (hq : dl_pr q) (h : p ≠ q) : ¬ p ∣ q := by
  intro d
  rcases hq.2 _ d with z | z
  · have := hp.1
    omega
  · exact h z
/-- the bases B and the exponents T of N -/
def dl_F (N F : Nat) (B T : Nat → Nat) : Prop :=
  F ≤ 5 ∧ (∀ j, j < F → dl_pr (B j) ∧ B j ^ T j ∣ N ∧ ¬ B j ^ (T j + 1) ∣ N ∧ 0 < T j) ∧ (∀ i j, i < F → j < F → B i = B j → i = j) ∧ (∀ m, m ∣ N → m ≠ 1 → ∃ j, j < F ∧ B j ∣ m)
def dl_fc : Nat → Nat
  | 0 => 1
  | n + 1 => (n + 2) * dl_fc n
/-- factor()'s outer loop at the candidate d, the rest r, f bases found -/
def dl_FI (N d r f : Nat) (B T : Nat → Nat) : Prop :=
  0 < r ∧ f + 2 ≤ d ∧ (∀ e, 2 ≤ e → e < d → ¬ e ∣ r) ∧ (∀ j, j < f → dl_pr (B j) ∧ B j < d ∧ B j ^ T j ∣ N ∧ ¬ B j ^ (T j + 1) ∣ N ∧ 0 < T j) ∧ (∀ i j, i < f → j < f → B i = B j → i = j) ∧ ∃ Q, N = r * Q ∧ dl_fc f ≤ Q ∧ ∀ m, (∀ j, j < f → ¬ B j ∣ m) → Nat.Coprime m Q
theorem dl_FI_0 {N : Nat} (hN : 0 < N) (B T : Nat → Nat) : dl_FI N 2 N 0 B T :=
  ⟨hN, by omega, fun e h1 h2 => absurd h2 (by omega), fun j h => absurd h (by omega), fun i j h => absurd h (by omega), 1, (Nat.mul_one N).symm, Nat.le_refl 1, fun m _ => Nat.coprime_one_right m⟩
theorem dl_FI_no {N d r f : Nat} {B T : Nat → Nat} (h : dl_FI N d r f B T) (hd : ¬ d ∣ r) : dl_FI N (d + 1) r f B T := by
  obtain ⟨h1, h2, h3, h4, h5, h6⟩ := h
  refine ⟨h1, by omega, fun e e2 e3 => ?_, fun j hj => ?_, h5, h6⟩
  · by_cases z : e = d
    · rw [z]
      exact hd
    · exact h3 e e2 (by omega)
  · obtain ⟨a, b, c⟩ := h4 j hj
    exact ⟨a, by omega, c⟩
theorem dl_FI_lt5 {N d r f : Nat} {B T : Nat → Nat} (hN : N < 2039) (hf : f ≤ 5) (h : dl_FI N d r f B T) (hd : d ∣ r) : f < 5 := by
  obtain ⟨h1, h2, h3, h4, h5, Q, hQ, hq, hc⟩ := h
  rcases Nat.lt_or_ge f 5 with z | z
  · exact z
  · have f5 : f = 5 := by omega
    subst f5
    have hq' : 720 ≤ Q := hq
    have rd := Nat.le_of_dvd h1 hd
    have := Nat.mul_le_mul (show 7 ≤ r by omega) hq'
    omega
theorem dl_FI_yes {N d r0 r k f : Nat} {B T B' T' : Nat → Nat} (h : dl_FI N d r0 f B T) (hr : 0 < r) (hk : 0 < k) (e0 : r * d ^ k = r0) (hd : ¬ d ∣ r) (hB : ∀ j, j < f → B' j = B j ∧ T' j = T j) (hBf : B' f = d) (hTf : T' f = k) : dl_FI N (d + 1) r (f + 1) B' T' := by
  obtain ⟨h1, h2, h3, h4, h5, Q, hQ, hq, hc⟩ := h
  have hdk : d ∣ d ^ k := by
    have w := Nat.pow_dvd_pow d (show 1 ≤ k from hk)
    rw [Nat.pow_one] at w
    exact w
  have dr0 : d ∣ r0 := by
    rw [← e0]
    exact Nat.dvd_trans hdk (Nat.dvd_mul_left _ _)
  have rr0 : r ∣ r0 := by
    rw [← e0]
    exact Nat.dvd_mul_right _ _
  have dp : dl_pr d := by
    refine ⟨by omega, fun e he => ?_⟩
    have e1 := Nat.le_of_dvd (by omega) he
    have e2 := Nat.pos_of_dvd_of_pos he (by omega)
    by_cases z : e = 1
    · exact Or.inl z
    · by_cases y : e = d
      · exact Or.inr y
      · exact absurd (Nat.dvd_trans he dr0) (h3 e (by omega) (by omega))
  have cd : Nat.Coprime d Q := by
    refine hc d (fun j hj w => ?_)
    have a := (h4 j hj).1.1
    have b := (h4 j hj).2.1
    rcases dp.2 _ w with z | z
    · omega
    · omega
  have hrN : N = r * d ^ k * Q := by
    rw [e0]
    exact hQ
  have dk : 0 < d ^ k := Nat.pow_pos (by omega)
  refine ⟨hr, by omega, fun e e2 e3 => ?_, fun j hj => ?_, fun i j hi hj e => ?_, d ^ k * Q, by rw [hrN, Nat.mul_assoc], ?_, fun m hm => ?_⟩
  · by_cases z : e = d
    · rw [z]
      exact hd
    · exact fun w => h3 e e2 (by omega) (Nat.dvd_trans w rr0)
  · by_cases z : j = f
    · rw [z, hBf, hTf]
      refine ⟨dp, by omega, ⟨r * Q, by rw [hrN]; ac_rfl⟩, fun w => ?_, hk⟩
      rw [hQ] at w
      have v := Nat.Coprime.dvd_of_dvd_mul_right (Nat.Coprime.pow_left (k + 1) cd) w
      rw [← e0, Nat.pow_succ, Nat.mul_comm r] at v
      exact hd (Nat.dvd_of_mul_dvd_mul_left dk v)
    · have hj' : j < f := by omega
      rw [(hB j hj').1, (hB j hj').2]
      obtain ⟨a, b, c⟩ := h4 j hj'
      exact ⟨a, by omega, c⟩
  · by_cases y : i = f
    · by_cases z : j = f
      · omega
      · have hj' : j < f := by omega
        rw [y, hBf, (hB j hj').1] at e
        have := (h4 j hj').2.1
        omega
    · have hi' : i < f := by omega
      by_cases z : j = f
      · rw [z, hBf, (hB i hi').1] at e
        have := (h4 i hi').2.1
        omega
      · have hj' : j < f := by omega
        rw [(hB i hi').1, (hB j hj').1] at e
        exact h5 i j hi' hj' e
  · show (f + 2) * dl_fc f ≤ d ^ k * Q
    have := Nat.le_of_dvd dk hdk
    exact Nat.mul_le_mul (by omega) hq
  · refine Nat.Coprime.mul_right (Nat.Coprime.pow_right k (dl_cop dp ?_)) (hc m (fun j hj => ?_))
    · have w := hm f (by omega)
      rw [hBf] at w
      exact w
    · have w := hm j (by omega)
      rw [(hB j hj).1] at w
      exact w
theorem dl_FI_end {N d f : Nat} {B T : Nat → Nat} (hf : f ≤ 5) (h : dl_FI N d 1 f B T) : dl_F N f B T := by
  obtain ⟨h1, h2, h3, h4, h5, Q, hQ, hq, hc⟩ := h
  refine ⟨hf, fun j hj => ⟨(h4 j hj).1, (h4 j hj).2.2⟩, h5, fun m hm m1 => ?_⟩
  rw [Nat.one_mul] at hQ
  rw [hQ] at hm
  by_cases z : ∃ j, j < f ∧ B j ∣ m
  · exact z
  · exact absurd (Nat.Coprime.eq_one_of_dvd (hc m (fun j hj w => z ⟨j, hj, w⟩)) hm) m1
theorem dl_FI_last {N d r f : Nat} {B T : Nat → Nat} (hN : N < 2039) (hd : 2039 < d) (h : dl_FI N d r f B T) : r = 1 := by
  obtain ⟨h1, h2, h3, h4, h5, Q, hQ, hq, hc⟩ := h
  have q0 : 0 < Q := by
    rcases Nat.eq_zero_or_pos Q with z | z
    · subst z
      have := hc 2 (fun j hj w => by
        have a := (h4 j hj).1
        have := Nat.le_of_dvd (by omega) w
        have a1 := a.1
        exact absurd (show B j < 2039 by omega) (fun _ => by
          have b := (h4 j hj).2.2.2.1
          exact b ⟨0, by rw [hQ, Nat.mul_zero, Nat.mul_zero]⟩))
      exact absurd this (by decide)
    · exact z
  have rN : r ≤ N := by
    rw [hQ]
    exact Nat.le_mul_of_pos_right r q0
  rcases Nat.lt_or_ge r 2 with z | z
  · omega
  · exact absurd (Nat.dvd_refl r) (h3 r z (by omega))
theorem dl_ordc {P g n F : Nat} {B : Nat → Nat} (hP : 1 < P) (hn : 0 < n) (h1 : g ^ n % P = 1) (hd : ∀ d, d ∣ n → d ≠ 1 → ∃ f, f < F ∧ B f ∣ d) (hB : ∀ f, f < F → 0 < B f) (hf : ∀ f, f < F → B f ∣ n → g ^ (n / B f) % P ≠ 1) : dl_ord P g n := by
  refine ⟨hn, h1, fun m hm => ?_⟩
  have g1 := dl_gcd1 hP n m h1 hm
  have gm := Nat.gcd_dvd_right n m
  obtain ⟨q, hq⟩ := Nat.gcd_dvd_left n m
  generalize Nat.gcd n m = d at *
  by_cases z : q = 1
  · rw [z, Nat.mul_one] at hq
    rw [hq]
    exact gm
  · obtain ⟨f, hF, r, hr⟩ := hd q ⟨d, by rw [hq, Nat.mul_comm]⟩ z
    have e : n / B f = d * r := by
      rw [hq, hr, ← Nat.mul_assoc, Nat.mul_comm d, Nat.mul_assoc, Nat.mul_div_cancel_left _ (hB f hF)]
    exact absurd (by rw [e]; exact dl_k1 hP g1 r) (hf f hF ⟨d * r, by rw [hq, hr]; ac_rfl⟩)
/-- orderOf's outer loop -/
def dl_OI (P g N F : Nat) (B T : Nat → Nat) (i n : Nat) : Prop :=
  0 < n ∧ n ∣ N ∧ g ^ n % P = 1 ∧ (∀ j, j < i → B j ∣ n → g ^ (n / B j) % P ≠ 1) ∧ (∀ j, i ≤ j → j < F → B j ^ T j ∣ n)
/-- its inner loop: m is 'more' -/
def dl_OJ (P g N F : Nat) (B T : Nat → Nat) (i k n m : Nat) : Prop :=
  0 < n ∧ n ∣ N ∧ g ^ n % P = 1 ∧ (∀ j, j < i → B j ∣ n → g ^ (n / B j) % P ≠ 1) ∧ (∀ j, i < j → j < F → B j ^ T j ∣ n) ∧ ((m = 1 ∧ B i ^ (T i - k) ∣ n ∧ B i ^ k * n ∣ N) ∨ (m = 0 ∧ g ^ (n / B i) % P ≠ 1))
theorem dl_OI_0 {P g N F : Nat} {B T : Nat → Nat} (hN : 0 < N) (hF : dl_F N F B T) (h : g ^ N % P = 1) : dl_OI P g N F B T 0 N :=
  ⟨hN, Nat.dvd_refl N, h, fun j hj => absurd hj (by omega), fun j _ hj => (hF.2.1 j hj).2.1⟩
theorem dl_OJ_0 {P g N F : Nat} {B T : Nat → Nat} {i n : Nat} (hi : i < F) (h : dl_OI P g N F B T i n) : dl_OJ P g N F B T i 0 n 1 := by
  obtain ⟨h1, h2, h3, h4, h5⟩ := h
  refine ⟨h1, h2, h3, h4, fun j h hj => h5 j (by omega) hj, Or.inl ⟨rfl, h5 i (by omega) hi, ?_⟩⟩
  rw [Nat.pow_zero, Nat.one_mul]
  exact h2
theorem dl_OJ_1 {P g N F : Nat} {B T : Nat → Nat} {i k n : Nat} (hP : 1 < P) (hF : dl_F N F B T) (hi : i < F) (hk : k < T i) (h : dl_OJ P g N F B T i k n 1) (hg : g ^ (n / B i) % P = 1) : dl_OJ P g N F B T i (k + 1) (n / B i) 1 := by
  obtain ⟨h1, h2, h3, h4, h5, h6⟩ := h
  have pq := (hF.2.1 i hi).1
  have q0 : 0 < B i := by
    have := pq.1
    omega
  rcases h6 with ⟨_, h6, h7⟩ | ⟨z, _⟩
  · have e : T i - k = (T i - (k + 1)) + 1 := by omega
    rw [e] at h6
    have qn : B i ∣ n := Nat.dvd_trans (by rw [Nat.pow_succ]; exact Nat.dvd_mul_left _ _) h6
    obtain ⟨n', hn⟩ := qn
    have en : n / B i = n' := by rw [hn, Nat.mul_div_cancel_left _ q0]
    rw [en] at hg ⊢
    have n0 : 0 < n' := by
      rcases Nat.eq_zero_or_pos n' with z | z
      · rw [z, Nat.mul_zero] at hn
        omega
      · exact z
    have nn : n' ∣ n := ⟨B i, by rw [hn, Nat.mul_comm]⟩
    refine ⟨n0, Nat.dvd_trans nn h2, hg, fun j hj hd w => ?_, fun j hj hjF => ?_, Or.inl ⟨rfl, ?_, ?_⟩⟩
    · have j0 : 0 < B j := by
        have := (hF.2.1 j (by omega)).1.1
        omega
      obtain ⟨t, ht⟩ := hd
      have e1 : n' / B j = t := by rw [ht, Nat.mul_div_cancel_left _ j0]
      have e2 : n / B j = t * B i := by
        rw [hn, ht, Nat.mul_left_comm, Nat.mul_div_cancel_left _ j0, Nat.mul_comm]
      rw [e1] at w
      refine h4 j hj (Nat.dvd_trans ⟨t, ht⟩ nn) ?_
      rw [e2]
      exact dl_k1 hP w _
    · have w := h5 j hj hjF
      rw [hn] at w
      refine Nat.Coprime.dvd_of_dvd_mul_left (Nat.Coprime.pow_left (T j) (dl_cop pq (dl_prne pq (hF.2.1 j hjF).1 ?_))) w
      intro z
      have := hF.2.2.1 i j hi hjF z
      omega
    · rw [hn, Nat.pow_succ, Nat.mul_comm] at h6
      exact Nat.dvd_of_mul_dvd_mul_left q0 h6
    · rw [Nat.pow_succ, Nat.mul_assoc, ← hn]
      exact h7
  · exact absurd z (by decide)
theorem dl_OJ_2 {P g N F : Nat} {B T : Nat → Nat} {i k n : Nat} (h : dl_OJ P g N F B T i k n 1) (hg : g ^ (n / B i) % P ≠ 1) : dl_OJ P g N F B T i (k + 1) n 0 := by
  obtain ⟨h1, h2, h3, h4, h5, h6⟩ := h
  exact ⟨h1, h2, h3, h4, h5, Or.inr ⟨rfl, hg⟩⟩
theorem dl_OJ_end {P g N F : Nat} {B T : Nat → Nat} {i k n m : Nat} (hF : dl_F N F B T) (hi : i < F) (hk : m = 1 → k = T i) (h : dl_OJ P g N F B T i k n m) : dl_OI P g N F B T (i + 1) n := by
  obtain ⟨h1, h2, h3, h4, h5, h6⟩ := h
  refine ⟨h1, h2, h3, fun j hj hd => ?_, fun j hj hjF => h5 j (by omega) hjF⟩
  by_cases z : j = i
  · rw [z] at hd ⊢
    rcases h6 with ⟨y, _, h7⟩ | ⟨_, y⟩
    · rw [hk y] at h7
      refine absurd (Nat.dvd_trans ?_ h7) (hF.2.1 i hi).2.2.1
      rw [Nat.pow_succ]
      exact Nat.mul_dvd_mul_left _ hd
    · exact y
  · exact h4 j (by omega) hd
theorem dl_OI_end {P g N F : Nat} {B T : Nat → Nat} {n : Nat} (hP : 1 < P) (hF : dl_F N F B T) (h : dl_OI P g N F B T F n) : dl_ord P g n ∧ n ∣ N := by
  obtain ⟨h1, h2, h3, h4, _⟩ := h
  exact ⟨dl_ordc hP h1 h3 (fun d hd d1 => hF.2.2.2 d (Nat.dvd_trans hd h2) d1) (fun f hf => by
    have := (hF.2.1 f hf).1.1
    omega) h4, h2⟩
theorem dl_Bd {N F : Nat} {B T : Nat → Nat} (hF : dl_F N F B T) {j : Nat} (hj : j < F) : B j ∣ N := by
  obtain ⟨_, a, _, b⟩ := hF.2.1 j hj
  have w := Nat.pow_dvd_pow (B j) (show 1 ≤ T j from b)
  rw [Nat.pow_one] at w
  exact Nat.dvd_trans w a
theorem dl_Tl {N F : Nat} {B T : Nat → Nat} (hN : 0 < N) (hF : dl_F N F B T) {j : Nat} (hj : j < F) : T j < N := by
  obtain ⟨p, a, _, b⟩ := hF.2.1 j hj
  have w := Nat.le_of_dvd hN a
  have v : 2 ^ T j ≤ B j ^ T j := Nat.pow_le_pow_left p.1 (T j)
  have u : T j < 2 ^ T j := Nat.lt_two_pow_self
  omega
end
section
theorem dl_sl : ∀ n, n < 32 → ((nI n &&& 31).toBitVec.smod 32).toNat = n := by decide
theorem dl_bit {x i : Nat} (hx : x < 2 ^ 31) (hi : i < 31) : (nI x >>> (nI i &&& 31)) &&& 1 = nI (x / 2 ^ i % 2) := by
  have l := Nat.div_le_self x (2 ^ i)
  rw [pk_shrN hx _ i (dl_sl i (by omega))]
  exact pk_andN (by omega) 1 (by decide)
/-- what the solver's fields hold -/
def dl_S (P F : Nat) (a1 a2 : Nat → Int32) : Prop :=
  3 ≤ P ∧ P < 2040 ∧ (∃ c, dl_G P c) ∧ ∃ B T : Nat → Nat, dl_F (P - 1) F B T ∧ ∀ j, j < F → a1 j = nI (B j) ∧ a2 j = nI (T j)
theorem dl_mul {post : Int32 → Prop} {P a b : Nat} {o f : Int32} {a1 a2 a3 a4 : Nat → Int32} (hP : 1 < P) (hP2 : P < 2040) (ha : a < P) (hb : b < P) (hp : post (nI (a * b % P))) : wpX_mul post (nI P, o, f, a1, a2, a3, a4) (nI a) (nI b) := by
  have h : a * b < 2 ^ 31 := Nat.lt_of_le_of_lt (Nat.mul_le_mul (show a ≤ 2040 by omega) (show b ≤ 2040 by omega)) (by decide)
  refine br_f (nI_nle (by omega) (by omega)) ⟨nI_ne0 (by omega) (by omega), ?_⟩
  rw [pk_mul, pk_rem h (by omega) (by omega)]
  exact hp
theorem dl_pow {post : Int32 → Prop} {P g x : Nat} {o f : Int32} {a1 a2 a3 a4 : Nat → Int32} (hP : 1 < P) (hP2 : P < 2040) (hg : g < P) (hx : x < 2 ^ 31) (hp : post (nI (g ^ x % P))) : wpX_pow post (nI P, o, f, a1, a2, a3, a4) (nI g) (nI x) := by
  refine pk_loop (σ := Nat × Nat) (fun n i s => wX_pow_8 post (nI x) (nI P) o f a1 a2 a3 a4 n (nI s.1) (nI s.2) (nI i)) (fun i s => s.1 = g ^ (x % 2 ^ i) % P ∧ s.2 = g ^ (2 ^ i) % P) 31 0 (1, g) (by omega) ?_ ?_ ?_
  · refine ⟨?_, ?_⟩
    · show 1 = g ^ (x % 2 ^ 0) % P
      rw [Nat.pow_zero, Nat.mod_one, Nat.pow_zero, Nat.mod_eq_of_lt hP]
    · show g = g ^ (2 ^ 0) % P
      rw [Nat.pow_zero, Nat.pow_one, Nat.mod_eq_of_lt hg]
  · intro n s h
    refine pk_le 31 31 (fun _ => ?_) (fun z => absurd z (by omega))
    rw [h.1, Nat.mod_eq_of_lt hx]
    exact hp
  · intro n i s hi h hw
    obtain ⟨r, q⟩ := s
    have hr : r = g ^ (x % 2 ^ i) % P := h.1
    have hq : q = g ^ (2 ^ i) % P := h.2
    have lr : r < P := by
      rw [hr]
      exact Nat.mod_lt _ (by omega)
    have lq : q < P := by
      rw [hq]
      exact Nat.mod_lt _ (by omega)
    have hq2 : q * q % P = g ^ (2 ^ (i + 1)) % P := by
      rw [hq, dl_padd, ← Nat.two_mul, Nat.pow_succ, Nat.mul_comm]
    have hm : x % 2 ^ (i + 1) = x % 2 ^ i + 2 ^ i * (x / 2 ^ i % 2) := by
      rw [Nat.pow_succ, Nat.mod_mul]
    refine pk_le 31 i (fun z => absurd z (by omega)) (fun _ => ?_)
    by_cases b : x / 2 ^ i % 2 = 1
    · refine br_t (by rw [dl_bit hx hi, b]; rfl) ?_
      refine dl_mul hP hP2 lr lq ?_
      unfold wX_pow_33
      refine dl_mul hP hP2 lq lq ?_
      refine nm_r (nI_1 i) (hw (r * q % P, q * q % P) ⟨?_, hq2⟩)
      show r * q % P = g ^ (x % 2 ^ (i + 1)) % P
      rw [hm, b, Nat.mul_one, hr, hq, dl_padd]
    · have b0 : x / 2 ^ i % 2 = 0 := by omega
      refine br_f (by rw [dl_bit hx hi, b0]; decide) ?_
      unfold wX_pow_33
      refine dl_mul hP hP2 lq lq ?_
      refine nm_r (nI_1 i) (hw (r, q * q % P) ⟨?_, hq2⟩)
      show r = g ^ (x % 2 ^ (i + 1)) % P
      rw [hm, b0, Nat.mul_zero, Nat.add_zero]
      exact hr
theorem dl_notUnit {post : Int32 → Prop} {P g : Nat} {o f : Int32} {a1 a2 a3 a4 : Nat → Int32} (hP2 : P < 2040) (g0 : 0 < g) (g1 : g < P) (hp : post 0) : wpX_notUnit post (nI P, o, f, a1, a2, a3, a4) (nI g) :=
  pk_lt g 1 (fun z => absurd z (by omega)) (fun _ => pk_lt g P (fun _ => hp) (fun z => absurd z (by omega)))
theorem dl_power {post : Int32 → Prop} {P g x : Nat} {o f : Int32} {a1 a2 a3 a4 : Nat → Int32} (hP : 1 < P) (hP2 : P < 2040) (g0 : 0 < g) (g1 : g < P) (hx : x ≤ 1000000) (hp : post (nI (g ^ x % P))) : wpX_power post (nI P, o, f, a1, a2, a3, a4) (nI g) (nI x) := by
  unfold wpX_power
  dsimp only
  refine dl_notUnit hP2 g0 g1 (br_t rfl ?_)
  refine pk_lt x 0 (fun z => absurd z (by omega)) (fun _ => pk_le x 1000000 (fun _ => ?_) (fun z => absurd z (by omega)))
  exact dl_pow hP hP2 g1 (by omega) hp
theorem dl_invert {post : Int32 → Prop} {P g : Nat} {o f : Int32} {a1 a2 a3 a4 : Nat → Int32} (hP : 1 < P) (hP2 : P < 2040) (g1 : g < P) (hp : post (nI (g ^ (P - 2) % P))) : wpX_invert post (nI P, o, f, a1, a2, a3, a4) (nI g) := by
  have e : nI P - 2 = nI (P - 2) := pk_sub (b := 2) (by omega)
  unfold wpX_invert
  dsimp only
  rw [e]
  exact dl_pow hP hP2 g1 (by omega) hp
theorem dl_orderOf {post : Int32 → Prop} {P F g : Nat} {a1 a2 a3 a4 : Nat → Int32} (h : dl_S P F a1 a2) (g0 : 0 < g) (g1 : g < P) (hp : ∀ n, dl_ord P g n → n ∣ P - 1 → post (nI n)) : wpX_orderOf post (nI P, nI (P - 1), nI F, a1, a2, a3, a4) (nI g) := by
  obtain ⟨h3, hP2, ⟨c, G⟩, B, T, hF, hA⟩ := h
  have hP : 1 < P := by omega
  have hF5 := hF.1
  refine pk_loop (σ := Nat) (fun m i s => wX_orderOf_7 post (nI g) (nI P) (nI (P - 1)) (nI F) a1 a2 a3 a4 m (nI s) (nI i)) (dl_OI P g (P - 1) F B T) F 0 (P - 1) (by omega) (dl_OI_0 (by omega) hF (dl_fermat hP G g0 g1)) ?_ ?_
  · intro m n hI
    refine pk_le F F (fun _ => ?_) (fun z => absurd z (by omega))
    obtain ⟨a, b⟩ := dl_OI_end hP hF hI
    exact hp n a b
  · intro m i n hi hI hw
    have hc : (nI i).toNatClampNeg = i := nI_clamp (by omega)
    have hx1 : a1 (nI i).toNatClampNeg = nI (B i) := by
      rw [hc]
      exact (hA i hi).1
    have hx2 : a2 (nI i).toNatClampNeg = nI (T i) := by
      rw [hc]
      exact (hA i hi).2
    have bl := Nat.le_of_dvd (by omega) (dl_Bd hF hi)
    have b0 := (hF.2.1 i hi).1.1
    have tl := dl_Tl (by omega) hF hi
    refine pk_le F i (fun z => absurd z (by omega)) (fun _ => ⟨pk_in i 5 (by omega), nm_r hx1 ?_⟩)
    refine pk_loop (σ := Nat × Nat) (fun m' k s => wX_orderOf_29 post (wX_orderOf_7 post (nI g) (nI P) (nI (P - 1)) (nI F) a1 a2 a3 a4 m) (nI g) (nI i) (nI (B i)) (nI P) (nI (P - 1)) (nI F) a1 a2 a3 a4 m' (nI s.1) (nI s.2) (nI k)) (fun k s => dl_OJ P g (P - 1) F B T i k s.1 s.2) (T i) 0 (n, 1) (by omega) (dl_OJ_0 hi hI) ?_ ?_
    · intro m' s hJ
      exact ⟨pk_in i 5 (by omega), pk_le (T i) (T i) (fun _ => nm_r (nI_1 i) (hw s.1 (dl_OJ_end hF hi (fun _ => rfl) hJ))) (fun z => absurd z (by omega)) hx2⟩
    · intro m' k s hk hJ hw'
      obtain ⟨n', mo⟩ := s
      have hJ' : dl_OJ P g (P - 1) F B T i k n' mo := hJ
      have nl := Nat.le_of_dvd (by omega) hJ'.2.1
      refine ⟨pk_in i 5 (by omega), pk_le (T i) k (fun z => absurd z (by omega)) (fun _ => ?_) hx2⟩
      have mo2 : mo = 1 ∨ mo = 0 := by
        rcases hJ'.2.2.2.2.2 with ⟨e, _⟩ | ⟨e, _⟩
        · exact Or.inl e
        · exact Or.inr e
      rcases mo2 with e | e
      · subst e
        refine pk_eq 1 0 (fun z => absurd z (by omega)) (fun _ => ⟨nI_ne0 (by omega) (by omega), nm_r (pk_div (by omega) (by omega) (by omega)) ?_⟩)
        have dl := Nat.div_le_self n' (B i)
        have lp := Nat.mod_lt (g ^ (n' / B i)) (show P > 0 by omega)
        refine dl_pow hP hP2 g1 (show n' / B i < 2 ^ 31 by omega) ?_
        refine pk_eq (g ^ (n' / B i) % P) 1 (fun z => ?_) (fun z => ?_)
        · unfold wX_orderOf_71
          exact br_f (by decide) (nm_r (nI_1 k) (hw' (n' / B i, 1) (dl_OJ_1 hP hF hi hk hJ' z)))
        · unfold wX_orderOf_71
          exact br_t rfl (nm_r (nI_1 k) (hw' (n', 0) (dl_OJ_2 hJ' z)))
      · subst e
        exact pk_eq 0 0 (fun _ => nm_r (nI_1 i) (hw n' (dl_OJ_end hF hi (fun z => absurd z (by decide)) hJ'))) (fun z => absurd rfl z)
theorem dl_order {post : Int32 → Prop} {P F g : Nat} {a1 a2 a3 a4 : Nat → Int32} (h : dl_S P F a1 a2) (g0 : 0 < g) (g1 : g < P) (hp : ∀ n, dl_ord P g n → n ∣ P - 1 → post (nI n)) : wpX_order post (nI P, nI (P - 1), nI F, a1, a2, a3, a4) (nI g) := by
  have hP2 := h.2.1
  unfold wpX_order
  dsimp only
  exact dl_notUnit hP2 g0 g1 (br_t rfl (dl_orderOf h g0 g1 hp))
end
section
theorem dl_clear {post : St1 → Prop} {p o f : Int32} {a1 a2 a3 a4 : Nat → Int32} (hp : ∀ a3' : Nat → Int32, (∀ j, j < 128 → a3' j = 0) → post (p, o, f, a1, a2, a3', a4)) : wpX_clearTable post (p, o, f, a1, a2, a3, a4) := by
  refine pk_loop (σ := Nat → Int32) (fun n i s => wX_clearTable_2 post p o f n (nI i) a1 a2 s a4) (fun i s => ∀ j, j < i → s j = 0) 128 0 a3 (by omega) (fun j hj => absurd hj (by omega)) ?_ ?_
  · intro n s h
    exact pk_le 128 128 (fun _ => hp s h) (fun z => absurd z (by omega))
  · intro n i s hi h hw
    refine pk_le 128 i (fun z => absurd z (by omega)) (fun _ => ⟨pk_in i 128 hi, nm_e (nm_r (nI_1 i) (hw _ (fun j hj => ?_)))⟩)
    rw [nI_clamp (by omega)]
    by_cases e : j = i
    · rw [e, pk_us]
    · rw [pk_un e]
      exact h j (by omega)
theorem dl_rootUp {post : Int32 → Prop} {q : Nat} {p o f : Int32} {a1 a2 a3 a4 : Nat → Int32} (q0 : 0 < q) (hq : q < 2040) (hp : ∀ m, 0 < m → q ≤ m * m → (m - 1) * (m - 1) < q → post (nI m)) : wpX_rootUp post (p, o, f, a1, a2, a3, a4) (nI q) := by
  refine pk_loop (σ := Unit) (fun n i _ => wX_rootUp_4 post (nI q) p o f a1 a2 a3 a4 n (nI (i + 1)) (nI i)) (fun i _ => i * i < q) 50 0 () (by omega) (by omega) ?_ ?_
  · intro n _ h
    exact absurd h (by omega)
  · intro n i _ hi h hw
    have l : (i + 1) * (i + 1) ≤ 50 * 50 := Nat.mul_le_mul (by omega) (by omega)
    refine pk_le 50 i (fun z => absurd z (by omega)) (fun _ => pk_le q ((i + 1) * (i + 1)) (fun z => hp (i + 1) (by omega) z h) (fun z => nm_r (nI_1 (i + 1)) (nm_r (nI_1 i) (hw () z))) rfl (pk_mul _ _))
/-- the probe for k ends after d steps -/
def dl_at (K : Nat → Nat) (k d : Nat) : Prop :=
  d < 128 ∧ (∀ e, e < d → K ((k * 37 + e) % 128) ≠ 0 ∧ K ((k * 37 + e) % 128) ≠ k) ∧ (K ((k * 37 + d) % 128) = 0 ∨ K ((k * 37 + d) % 128) = k)
theorem dl_at_ex {K : Nat → Nat} (k : Nat) {s : Nat} (hs : s < 128) (h0 : K s = 0) : ∃ d, dl_at K k d := by
  have w : (k * 37 + (s + (128 - k * 37 % 128)) % 128) % 128 = s := by omega
  obtain ⟨d, hd, hm⟩ := pk_least (fun d => K ((k * 37 + d) % 128) = 0 ∨ K ((k * 37 + d) % 128) = k) ⟨(s + (128 - k * 37 % 128)) % 128, Or.inl (by rw [w]; exact h0)⟩
  refine ⟨d, ?_, fun e he => ⟨fun z => hm e he (Or.inl z), fun z => hm e he (Or.inr z)⟩, hd⟩
  rcases Nat.lt_or_ge d 128 with z | z
  · exact z
  · exact absurd (Or.inl (by rw [w]; exact h0)) (hm ((s + (128 - k * 37 % 128)) % 128) (by omega))
theorem dl_cellOf {post : Int32 → Prop} {K : Nat → Nat} {k d : Nat} {p o f : Int32} {a1 a2 a3 a4 : Nat → Int32} (hk : k < 2040) (hK : ∀ j, j < 128 → K j < 2040 ∧ a3 j = nI (K j)) (hd : dl_at K k d) (hp : post (nI ((k * 37 + d) % 128))) : wpX_cellOf post (p, o, f, a1, a2, a3, a4) (nI k) := by
  obtain ⟨d1, d2, d3⟩ := hd
  have e0 : nI k * 37 &&& 127 = nI (k * 37 % 128) := by
    rw [show (37 : Int32) = nI 37 from rfl, pk_mul]
    exact pk_andN (by omega) 7 (by decide)
  unfold wpX_cellOf
  dsimp only
  refine nm_r e0 ?_
  refine pk_loop (σ := Unit) (fun n i _ => wX_cellOf_10 post (nI k) p o f a1 a2 a3 a4 n (nI ((k * 37 + i) % 128)) (nI i)) (fun _ _ => True) d 0 () (by omega) trivial ?_ ?_
  · intro n _ _
    have hl : (k * 37 + d) % 128 < 128 := Nat.mod_lt _ (by omega)
    have kl := (hK _ hl).1
    have hx : a3 (nI ((k * 37 + d) % 128)).toNatClampNeg = nI (K ((k * 37 + d) % 128)) := by
      rw [nI_clamp (by omega)]
      exact (hK _ hl).2
    exact pk_le 128 d (fun z => absurd z (by omega)) (fun _ => ⟨pk_in _ 128 hl, pk_eq (K ((k * 37 + d) % 128)) 0 (fun _ => hp) (fun z => ⟨pk_in _ 128 hl, pk_eq (K ((k * 37 + d) % 128)) k (fun _ => hp) (fun y => absurd d3 (by omega)) hx⟩) hx⟩)
  · intro n i _ hi _ hw
    have hl : (k * 37 + i) % 128 < 128 := Nat.mod_lt _ (by omega)
    have kl := (hK _ hl).1
    have hx : a3 (nI ((k * 37 + i) % 128)).toNatClampNeg = nI (K ((k * 37 + i) % 128)) := by
      rw [nI_clamp (by omega)]
      exact (hK _ hl).2
    have e1 : nI ((k * 37 + i) % 128) + 1 &&& 127 = nI ((k * 37 + (i + 1)) % 128) := by
      rw [nI_1, show (k * 37 + (i + 1)) % 128 = ((k * 37 + i) % 128 + 1) % 128 by omega]
      exact pk_andN (by omega) 7 (by decide)
    exact pk_le 128 i (fun z => absurd z (by omega)) (fun _ => ⟨pk_in _ 128 hl, pk_eq (K ((k * 37 + i) % 128)) 0 (fun z => absurd z (d2 i hi).1) (fun z => ⟨pk_in _ 128 hl, pk_eq (K ((k * 37 + i) % 128)) k (fun y => absurd y (d2 i hi).2) (fun y => nm_r e1 (nm_r (nI_1 i) (hw () trivial))) hx⟩) hx⟩)
/-- how many of the first n cells are taken -/
def dl_cn (K : Nat → Nat) : Nat → Nat
  | 0 => 0
  | n + 1 => (if K n = 0 then 0 else 1) + dl_cn K n
def dl_up (K : Nat → Nat) (c v : Nat) : Nat → Nat := fun j => if j = c then v else K j
theorem dl_up_s {K : Nat → Nat} {c v : Nat} : dl_up K c v c = v := if_pos rfl
theorem dl_up_n {K : Nat → Nat} {c v j : Nat} (h : j ≠ c) : dl_up K c v j = K j := if_neg h
theorem dl_cn_0 {K : Nat → Nat} {n : Nat} (h : ∀ s, s < n → K s = 0) : dl_cn K n = 0 := by
  induction n with
  | zero => rfl
  | succ n ih =>
    show (if K n = 0 then 0 else 1) + dl_cn K n = 0
    rw [if_pos (h n (by omega)), ih (fun s hs => h s (by omega))]
theorem dl_cn_up (K : Nat → Nat) (c v n : Nat) : dl_cn (dl_up K c v) n ≤ dl_cn K n + (if c < n then 1 else 0) := by
  induction n with
  | zero => exact Nat.zero_le _
  | succ n ih =>
    show (if dl_up K c v n = 0 then 0 else 1) + dl_cn (dl_up K c v) n ≤ (if K n = 0 then 0 else 1) + dl_cn K n + (if c < n + 1 then 1 else 0)
    by_cases e : n = c
    · rw [if_neg (show ¬ c < n by omega)] at ih
      rw [if_pos (show c < n + 1 by omega)]
      have : (if dl_up K c v n = 0 then 0 else 1) ≤ 1 := by
        split
        · omega
        · omega
      omega
    · rw [dl_up_n e]
      by_cases z : c < n
      · rw [if_pos z] at ih
        rw [if_pos (show c < n + 1 by omega)]
        omega
      · rw [if_neg z] at ih
        rw [if_neg (show ¬ c < n + 1 by omega)]
        omega
theorem dl_cn_free {K : Nat → Nat} {n : Nat} (h : dl_cn K n < n) : ∃ s, s < n ∧ K s = 0 := by
  induction n with
  | zero => exact absurd h (by omega)
  | succ n ih =>
    by_cases e : K n = 0
    · exact ⟨n, by omega, e⟩
    · have h' : (if K n = 0 then 0 else 1) + dl_cn K n < n + 1 := h
      rw [if_neg e] at h'
      obtain ⟨s, hs, hz⟩ := ih (by omega)
      exact ⟨s, by omega, hz⟩
/-- the table after j small steps of r -/
def dl_T (P r j : Nat) (K : Nat → Nat) (a4 : Nat → Int32) : Prop :=
  (∀ s, s < 128 → K s = 0 ∨ ∃ i, i < j ∧ K s = r ^ i % P) ∧ (∀ i, i < j → ∃ d, dl_at K (r ^ i % P) d ∧ K ((r ^ i % P * 37 + d) % 128) = r ^ i % P ∧ a4 ((r ^ i % P * 37 + d) % 128) = nI i) ∧ dl_cn K 128 ≤ j
theorem dl_T_0 {P r : Nat} {a4 : Nat → Int32} : dl_T P r 0 (fun _ => 0) a4 :=
  ⟨fun s _ => Or.inl rfl, fun i hi => absurd hi (by omega), by rw [dl_cn_0 (fun s _ => rfl)]; exact Nat.le_refl 0⟩
theorem dl_T_add {P r j d : Nat} {K : Nat → Nat} {a4 : Nat → Int32} (hT : dl_T P r j K a4) (hne : ∀ i, i < j → r ^ i % P ≠ r ^ j % P) (h0 : ∀ i, 0 < r ^ i % P) (hd : dl_at K (r ^ j % P) d) : K ((r ^ j % P * 37 + d) % 128) = 0 ∧ dl_T P r (j + 1) (dl_up K ((r ^ j % P * 37 + d) % 128) (r ^ j % P)) (upd a4 ((r ^ j % P * 37 + d) % 128) (nI j)) := by
  obtain ⟨t1, t2, t3⟩ := hT
  obtain ⟨d1, d2, d3⟩ := hd
  have hl : (r ^ j % P * 37 + d) % 128 < 128 := Nat.mod_lt _ (by omega)
  have k0 : K ((r ^ j % P * 37 + d) % 128) = 0 := by
    rcases t1 _ hl with z | ⟨i, hi, z⟩
    · exact z
    · rcases d3 with y | y
      · exact y
      · rw [z] at y
        exact absurd y (hne i hi)
  refine ⟨k0, ?_⟩
  generalize hc : (r ^ j % P * 37 + d) % 128 = c at *
  have nc : ∀ s, K s ≠ 0 → s ≠ c := fun s hs e => hs (by rw [e]; exact k0)
  refine ⟨fun s hs => ?_, fun i hi => ?_, ?_⟩
  · by_cases e : s = c
    · rw [e, dl_up_s]
      exact Or.inr ⟨j, by omega, rfl⟩
    · rw [dl_up_n e]
      rcases t1 s hs with z | ⟨i, hi, z⟩
      · exact Or.inl z
      · exact Or.inr ⟨i, by omega, z⟩
  · by_cases e : i = j
    · subst e
      refine ⟨d, ⟨d1, fun e he => ?_, Or.inr ?_⟩, ?_, ?_⟩
      · rw [dl_up_n (nc _ (d2 e he).1)]
        exact d2 e he
      · rw [hc, dl_up_s]
      · rw [hc, dl_up_s]
      · rw [hc, pk_us]
    · obtain ⟨d', ⟨p1, p2, p3⟩, p4, p5⟩ := t2 i (by omega)
      have n4 : K ((r ^ i % P * 37 + d') % 128) ≠ 0 := by
        have := h0 i
        omega
      refine ⟨d', ⟨p1, fun e he => ?_, Or.inr ?_⟩, ?_, ?_⟩
      · rw [dl_up_n (nc _ (p2 e he).1)]
        exact p2 e he
      · rw [dl_up_n (nc _ n4)]
        exact p4
      · rw [dl_up_n (nc _ n4)]
        exact p4
      · rw [pk_un (nc _ n4)]
        exact p5
  · have := dl_cn_up K c (r ^ j % P) 128
    rw [if_pos hl] at this
    omega
end
section
theorem dl_sl2 {post : Int32 → St1 → Prop} {P q r m D h bk : Nat} {K : Nat → Nat} {o f : Int32} {a1 a2 a3 a4 : Nat → Int32} (hP : 1 < P) (hP2 : P < 2040) (hN : r ^ (P - 1) % P = 1) (ho : dl_ord P r q) (m0 : 0 < m) (m46 : m ≤ 46) (mq : m ≤ q) (hD : D < q) (hDm : D < m * m) (hh : h = r ^ D % P) (hbk : bk = r ^ (m * (P - 2)) % P) (hK : ∀ j, j < 128 → K j < 2040 ∧ a3 j = nI (K j)) (hT : dl_T P r m K a4) (hp : post (nI D) (nI P, o, f, a1, a2, a3, a4)) : ∃ n, wX_smallLog_89 post (nI m) (nI bk) (nI P) o f a1 a2 a3 a4 n (nI h) 0 := by
  have i0 : D / m < m := Nat.div_lt_of_lt_mul hDm
  have hpos : ∀ i, 0 < r ^ i % P := dl_pos hP ho.1 ho.2.1
  have hbl : bk < P := by
    rw [hbk]
    exact Nat.mod_lt _ (by omega)
  refine pk_loop (σ := Nat) (fun n i b => wX_smallLog_89 post (nI m) (nI bk) (nI P) o f a1 a2 a3 a4 n (nI b) (nI i)) (fun i b => b = r ^ (D - m * i) % P) (D / m) 0 h (Nat.zero_le _) ?_ ?_ ?_
  · show h = r ^ (D - m * 0) % P
    rw [Nat.mul_zero, Nat.sub_zero]
    exact hh
  · intro n b hb
    have hb' : b = r ^ (D % m) % P := by
      have w := Nat.div_add_mod D m
      have v : b = r ^ (D - m * (D / m)) % P := hb
      rw [show D - m * (D / m) = D % m by omega] at v
      exact v
    obtain ⟨d, q1, q2, q3⟩ := hT.2.1 (D % m) (Nat.mod_lt _ m0)
    rw [← hb'] at q1 q2 q3
    have bl : b < P := by
      rw [hb']
      exact Nat.mod_lt _ (by omega)
    have hl : (b * 37 + d) % 128 < 128 := Nat.mod_lt _ (by omega)
    have hc : (nI ((b * 37 + d) % 128)).toNatClampNeg = (b * 37 + d) % 128 := nI_clamp (by omega)
    refine pk_le m (D / m) (fun z => absurd z (by omega)) (fun _ => dl_cellOf (K := K) (by omega) hK q1 ⟨pk_in _ 128 hl, br_t ?_ ⟨pk_in _ 128 hl, ?_⟩⟩)
    · rw [hc, (hK _ hl).2, q2]
    · rw [hc, q3, pk_mul, nI_add, Nat.mul_comm, Nat.div_add_mod]
      exact hp
  · intro n i b hi hb hw
    have hb' : b = r ^ (D - m * i) % P := hb
    have mi : m * (i + 1) ≤ D := Nat.le_trans (Nat.mul_le_mul_left m (show i + 1 ≤ D / m from hi)) (Nat.mul_div_le D m)
    have ms : m * (i + 1) = m * i + m := Nat.mul_succ m i
    have bl : b < P := by
      rw [hb']
      exact Nat.mod_lt _ (by omega)
    have b0 : 0 < b := by
      rw [hb']
      exact hpos _
    obtain ⟨s, hs, hz⟩ := dl_cn_free (K := K) (n := 128) (by have := hT.2.2; omega)
    obtain ⟨d, hd⟩ := dl_at_ex b hs hz
    have hl : (b * 37 + d) % 128 < 128 := Nat.mod_lt _ (by omega)
    have hc : (nI ((b * 37 + d) % 128)).toNatClampNeg = (b * 37 + d) % 128 := nI_clamp (by omega)
    have kn : K ((b * 37 + d) % 128) ≠ b := by
      intro e
      rcases hT.1 _ hl with z | ⟨i', hi', z⟩
      · omega
      · rw [e, hb'] at z
        have := dl_inj hP ho (by omega) (by omega) z
        omega
    refine pk_le m i (fun z => absurd z (by omega)) (fun _ => dl_cellOf (K := K) (by omega) hK hd ⟨pk_in _ 128 hl, br_f ?_ ?_⟩)
    · rw [hc, (hK _ hl).2]
      intro e
      have kl := (hK _ hl).1
      exact kn ((nI_eq (by omega) (by omega)).mp e)
    · refine dl_mul hP hP2 bl hbl (nm_r (nI_1 i) (hw _ ?_))
      show b * bk % P = r ^ (D - m * (i + 1)) % P
      have w2 : (P - 1) * m = m * (P - 2) + m := by
        rw [show P - 1 = (P - 2) + 1 by omega, Nat.add_mul, Nat.one_mul, Nat.mul_comm]
      have e : D - m * i + m * (P - 2) = (D - m * (i + 1)) + (P - 1) * m := by omega
      rw [hb', hbk, dl_padd, e, dl_addk hP hN]
theorem dl_smallLog {post : Int32 → St1 → Prop} {P q r h Y : Nat} {o f : Int32} {a1 a2 a3 a4 : Nat → Int32} (hP : 1 < P) (hP2 : P < 2040) (rl : r < P) (hN : r ^ (P - 1) % P = 1) (ho : dl_ord P r q) (hq : q < 2040) (hh : h = r ^ Y % P) (hp : ∀ a3' a4' : Nat → Int32, post (nI (Y % q)) (nI P, o, f, a1, a2, a3', a4')) : wpX_smallLog post (nI P, o, f, a1, a2, a3, a4) (nI r) (nI h) (nI q) := by
  have q0 := ho.1
  have hpos : ∀ i, 0 < r ^ i % P := dl_pos hP ho.1 ho.2.1
  unfold wpX_smallLog
  dsimp only
  refine dl_clear (fun b3 h0 => ?_)
  dsimp only
  refine dl_rootUp q0 hq (fun m m0 hm1 hm2 => ?_)
  have m46 : m ≤ 46 := by
    rcases Nat.lt_or_ge m 47 with z | z
    · omega
    · have := Nat.mul_le_mul (show 46 ≤ m - 1 by omega) (show 46 ≤ m - 1 by omega)
      omega
  have mq : m ≤ q := by
    rcases Nat.lt_or_ge (m - 1) 1 with z | z
    · omega
    · have := Nat.le_mul_of_pos_left (m - 1) z
      omega
  refine pk_loop (σ := Nat × (Nat → Int32) × (Nat → Int32)) (fun n j s => wX_smallLog_17 post (nI r) (nI h) (nI m) (nI P) o f n (nI s.1) (nI j) a1 a2 s.2.1 s.2.2) (fun j s => s.1 = r ^ j % P ∧ ∃ K : Nat → Nat, (∀ c, c < 128 → K c < 2040 ∧ s.2.1 c = nI (K c)) ∧ dl_T P r j K s.2.2) m 0 (1, b3, a4) (by omega) ⟨?_, fun _ => 0, fun c hc => ⟨by show 0 < 2040; omega, h0 c hc⟩, dl_T_0⟩ ?_ ?_
  · show 1 = r ^ 0 % P
    rw [Nat.pow_zero, Nat.mod_eq_of_lt hP]
  · intro n s hs
    obtain ⟨a, c3, c4⟩ := s
    obtain ⟨ha, K, hK, hT⟩ := hs
    have ha' : a = r ^ m % P := ha
    have al : a < P := by
      rw [ha']
      exact Nat.mod_lt _ (by omega)
    refine pk_le m m (fun _ => dl_invert hP hP2 al ?_) (fun z => absurd z (by omega))
    have Dl := Nat.mod_lt Y q0
    exact dl_sl2 (D := Y % q) hP hP2 hN ho m0 m46 mq Dl (by omega) (by rw [hh]; exact dl_modn hP ho.2.1 Y) (by rw [ha', dl_ppow]) hK hT (hp _ _)
  · intro n j s hj hs hw
    obtain ⟨a, c3, c4⟩ := s
    obtain ⟨ha, K, hK, hT⟩ := hs
    have ha' : a = r ^ j % P := ha
    subst ha'
    have hK' : ∀ c, c < 128 → K c < 2040 ∧ c3 c = nI (K c) := hK
    have al : r ^ j % P < P := Nat.mod_lt _ (by omega)
    obtain ⟨s, hs, hz⟩ := dl_cn_free (K := K) (n := 128) (by have := hT.2.2; omega)
    obtain ⟨d, hd⟩ := dl_at_ex (r ^ j % P) hs hz
    obtain ⟨k0, hT'⟩ := dl_T_add hT (fun i hi e => by have := dl_inj hP ho (by omega) (by omega) e; omega) hpos hd
    have hl : (r ^ j % P * 37 + d) % 128 < 128 := Nat.mod_lt _ (by omega)
    have hc : (nI ((r ^ j % P * 37 + d) % 128)).toNatClampNeg = (r ^ j % P * 37 + d) % 128 := nI_clamp (by omega)
    refine pk_le m j (fun z => absurd z (by omega)) (fun _ => dl_cellOf (K := K) (by omega) hK' hd ⟨pk_in _ 128 hl, br_t ?_ ⟨pk_in _ 128 hl, nm_e ⟨pk_in _ 128 hl, nm_e ?_⟩⟩⟩)
    · show c3 (nI ((r ^ j % P * 37 + d) % 128)).toNatClampNeg = 0
      rw [hc, (hK' _ hl).2, k0]
      rfl
    · unfold wX_smallLog_60
      refine dl_mul hP hP2 al rl (nm_r (nI_1 j) (hw (_, _, _) ⟨?_, dl_up K ((r ^ j % P * 37 + d) % 128) (r ^ j % P), fun c hcl => ?_, ?_⟩))
      · show r ^ j % P * r % P = r ^ (j + 1) % P
        rw [Nat.mod_mul_mod, Nat.pow_succ]
      · show dl_up K ((r ^ j % P * 37 + d) % 128) (r ^ j % P) c < 2040 ∧ upd c3 (nI ((r ^ j % P * 37 + d) % 128)).toNatClampNeg (nI (r ^ j % P)) c = nI (dl_up K ((r ^ j % P * 37 + d) % 128) (r ^ j % P) c)
        rw [hc]
        by_cases e : c = (r ^ j % P * 37 + d) % 128
        · rw [e, dl_up_s, pk_us]
          exact ⟨by omega, rfl⟩
        · rw [dl_up_n e, pk_un e]
          exact hK' c hcl
      · show dl_T P r (j + 1) (dl_up K ((r ^ j % P * 37 + d) % 128) (r ^ j % P)) (upd c4 (nI ((r ^ j % P * 37 + d) % 128)).toNatClampNeg (nI j))
        rw [hc]
        exact hT'
theorem dl_pl2 {post : Int32 → St1 → Prop} {P c g X q e rt bk h : Nat} {o f : Int32} {a1 a2 a3 a4 : Nat → Int32} (hP : 1 < P) (hP2 : P < 2040) (G : dl_G P c) (g0 : 0 < g) (g1 : g < P) (ho : dl_ord P g (q ^ e)) (e0 : 0 < e) (hq : 2 ≤ q) (hql : q ^ e < 2040) (hh : h = g ^ X % P) (hrt : rt = g ^ (q ^ (e - 1)) % P) (hbk : bk = g ^ (P - 2) % P) (hp : ∀ a3' a4' : Nat → Int32, post (nI (X % q ^ e)) (nI P, o, f, a1, a2, a3', a4')) : ∃ n, wX_powerLog_54 post (nI h) (nI q) (nI e) (nI rt) (nI bk) n 0 1 (nI (q ^ (e - 1))) 0 (nI P) o f a1 a2 a3 a4 := by
  have hN := dl_fermat hP G g0 g1
  have el : e < 2 ^ e := Nat.lt_two_pow_self
  have el2 : 2 ^ e ≤ q ^ e := Nat.pow_le_pow_left hq e
  have qe : q ^ e = q ^ (e - 1) * q := by
    rw [← Nat.pow_succ, show (e - 1).succ = e by omega]
  have qp : 0 < q ^ (e - 1) := Nat.pow_pos (by omega)
  have ql : q < 2040 := by
    have := Nat.le_mul_of_pos_left q qp
    omega
  have rl : rt < P := by
    rw [hrt]
    exact Nat.mod_lt _ (by omega)
  have bl : bk < P := by
    rw [hbk]
    exact Nat.mod_lt _ (by omega)
  have hl : h < P := by
    rw [hh]
    exact Nat.mod_lt _ (by omega)
  have ro : dl_ord P rt q := by
    rw [hrt]
    refine dl_ordk qp ?_
    rw [← qe]
    exact ho
  have rN : rt ^ (P - 1) % P = 1 := by
    rw [hrt, dl_ppow, Nat.mul_comm]
    exact dl_k1 hP hN _
  have hel : q ^ (e - 1) < 2040 := by
    have := Nat.le_mul_of_pos_right (q ^ (e - 1)) (show 0 < q by omega)
    omega
  refine pk_loop (σ := Nat × Nat × Nat × (Nat → Int32) × (Nat → Int32)) (fun n j s => wX_powerLog_54 post (nI h) (nI q) (nI e) (nI rt) (nI bk) n (nI s.1) (nI s.2.1) (nI s.2.2.1) (nI j) (nI P) o f a1 a2 s.2.2.2.1 s.2.2.2.2) (fun j s => s.1 = X % q ^ j ∧ s.2.1 = q ^ j ∧ s.2.2.1 = q ^ (e - 1) / q ^ j) e 0 (0, 1, q ^ (e - 1), a3, a4) (by omega) ?_ ?_ ?_
  · refine ⟨?_, ?_, ?_⟩
    · show 0 = X % q ^ 0
      rw [Nat.pow_zero, Nat.mod_one]
    · show 1 = q ^ 0
      rw [Nat.pow_zero]
    · show q ^ (e - 1) = q ^ (e - 1) / q ^ 0
      rw [Nat.pow_zero, Nat.div_one]
  · intro n s hs
    obtain ⟨x, w, t, b3, b4⟩ := s
    have hx : x = X % q ^ e := hs.1
    refine pk_le e e (fun _ => ?_) (fun z => absurd z (by omega))
    show post (nI x) (nI P, o, f, a1, a2, b3, b4)
    rw [hx]
    exact hp b3 b4
  · intro n j s hj hs hw
    obtain ⟨x, w, t, b3, b4⟩ := s
    have hx : x = X % q ^ j := hs.1
    have hwt : w = q ^ j := hs.2.1
    have ht : t = q ^ (e - 1) / q ^ j := hs.2.2
    have jp : 0 < q ^ j := Nat.pow_pos (by omega)
    have jl : q ^ j ≤ q ^ e := Nat.pow_le_pow_right (by omega) (by omega)
    have xl : x < q ^ j := by
      rw [hx]
      exact Nat.mod_lt _ jp
    have tl : t ≤ q ^ (e - 1) := by
      rw [ht]
      exact Nat.div_le_self _ _
    have jt : q ^ j * t = q ^ (e - 1) := by
      rw [ht]
      exact Nat.mul_div_cancel' (Nat.pow_dvd_pow q (by omega))
    have hrest : h * (bk ^ x % P) % P = g ^ (q ^ j * (X / q ^ j)) % P := by
      have v := Nat.div_add_mod X (q ^ j)
      have u : (P - 1) * x = (P - 2) * x + x := by
        rw [show P - 1 = (P - 2) + 1 by omega, Nat.add_mul, Nat.one_mul]
      have e1 : X + (P - 2) * x = q ^ j * (X / q ^ j) + (P - 1) * x := by omega
      rw [hh, hbk, dl_ppow, dl_padd, e1, dl_addk hP hN]
    have hlift : (h * (bk ^ x % P) % P) ^ t % P = rt ^ (X / q ^ j) % P := by
      rw [hrest, hrt, dl_ppow, dl_ppow, Nat.mul_right_comm, jt]
    have ul : bk ^ x % P < P := Nat.mod_lt _ (by omega)
    have vl : h * (bk ^ x % P) % P < P := Nat.mod_lt _ (by omega)
    refine pk_le e j (fun z => absurd z (by omega)) (fun _ => ?_)
    refine dl_pow hP hP2 bl (show x < 2 ^ 31 by omega) ?_
    refine dl_mul hP hP2 hl ul ?_
    refine dl_pow hP hP2 vl (show t < 2 ^ 31 by omega) ?_
    refine dl_smallLog hP hP2 rl rN ro ql hlift (fun c3 c4 => ?_)
    have ex : nI x + nI (X / q ^ j % q) * nI w = nI (x + X / q ^ j % q * w) := by
      rw [pk_mul, nI_add]
    have ew : nI w * nI q = nI (w * q) := pk_mul w q
    have et : nI t / nI q = nI (t / q) := pk_div (by omega) (by omega) (by omega)
    refine nm_r ex (nm_r ew (pk_le q 0 (fun z => absurd z (by omega)) (fun _ => ⟨nI_ne0 (by omega) (by omega), nm_r et (nm_r (nI_1 j) (hw (_, _, _, c3, c4) ⟨?_, ?_, ?_⟩))⟩)))
    · show x + X / q ^ j % q * w = X % q ^ (j + 1)
      rw [Nat.pow_succ, Nat.mod_mul, hx, hwt, Nat.mul_comm (q ^ j)]
    · show w * q = q ^ (j + 1)
      rw [Nat.pow_succ, hwt]
    · show t / q = q ^ (e - 1) / q ^ (j + 1)
      rw [ht, Nat.div_div_eq_div_mul, Nat.pow_succ]
theorem dl_powerLog {post : Int32 → St1 → Prop} {P c g X q e h : Nat} {o f : Int32} {a1 a2 a3 a4 : Nat → Int32} (hP : 1 < P) (hP2 : P < 2040) (G : dl_G P c) (g0 : 0 < g) (g1 : g < P) (ho : dl_ord P g (q ^ e)) (e0 : 0 < e) (hq : 2 ≤ q) (hql : q ^ e < 2040) (hh : h = g ^ X % P) (hp : ∀ a3' a4' : Nat → Int32, post (nI (X % q ^ e)) (nI P, o, f, a1, a2, a3', a4')) : wpX_powerLog post (nI P, o, f, a1, a2, a3, a4) (nI g) (nI h) (nI q) (nI e) := by
  have el : e < 2 ^ e := Nat.lt_two_pow_self
  have el2 : 2 ^ e ≤ q ^ e := Nat.pow_le_pow_left hq e
  have hel : q ^ (e - 1) ≤ q ^ e := Nat.pow_le_pow_right (by omega) (by omega)
  refine pk_loop (σ := Nat) (fun n i t => wX_powerLog_6 post (nI g) (nI h) (nI q) (nI e) (nI P) o f a1 a2 a3 a4 n (nI t) (nI i)) (fun i t => 1 ≤ i ∧ t = q ^ (i - 1)) e 1 1 (by omega) ⟨by omega, by rfl⟩ ?_ ?_
  · intro n t ht
    have ht' : t = q ^ (e - 1) := ht.2
    subst ht'
    refine pk_le e e (fun _ => ?_) (fun z => absurd z (by omega))
    refine dl_pow hP hP2 g1 (by omega) ?_
    refine dl_invert hP hP2 g1 ?_
    exact dl_pl2 hP hP2 G g0 g1 ho e0 hq hql hh rfl rfl hp
  · intro n i t hi ht hw
    have i1 : 1 ≤ i := ht.1
    have ht' : t = q ^ (i - 1) := ht.2
    refine pk_le e i (fun z => absurd z (by omega)) (fun _ => nm_r (pk_mul t q) (nm_r (nI_1 i) (hw _ ⟨by omega, ?_⟩)))
    rw [ht', ← Nat.pow_succ, show (i - 1).succ = i + 1 - 1 by omega]
end
section
/-- the extended Euclid of invertBy at turn i -/
def dl_E (a m i r0 r1 : Nat) (s0 s1 : Int) : Prop :=
  r1 < r0 ∧ Nat.gcd r0 r1 = 1 ∧ r0 * r1 * 2 ^ i ≤ 2 ^ 24 ∧ (∃ c : Int, s0 * a = r0 + c * m) ∧ (∃ c : Int, s1 * a = r1 + c * m) ∧ ∃ u0 u1 : Nat, r0 * u1 + r1 * u0 = m ∧ u0 ≤ u1 ∧ -(u0 : Int) ≤ s0 ∧ s0 ≤ u0 ∧ -(u1 : Int) ≤ s1 ∧ s1 ≤ u1
theorem dl_half {r0 r1 : Nat} (h0 : 0 < r1) (h : r1 ≤ r0) : 2 * (r0 % r1) ≤ r0 := by
  have a := Nat.div_add_mod r0 r1
  have b := Nat.mod_lt r0 h0
  have c : 1 ≤ r0 / r1 := (Nat.one_le_div_iff h0).mpr h
  have d := Nat.mul_le_mul_left r1 c
  omega
theorem dl_halve {r0 r1 i : Nat} (h0 : 0 < r1) (h : r1 ≤ r0) : r1 * (r0 % r1) * 2 ^ (i + 1) ≤ r0 * r1 * 2 ^ i := by
  have a := dl_half h0 h
  have b : r1 * (r0 % r1) * 2 ^ (i + 1) = r1 * 2 ^ i * (2 * (r0 % r1)) := by
    rw [Nat.pow_succ]
    ac_rfl
  have c : r0 * r1 * 2 ^ i = r1 * 2 ^ i * r0 := by ac_rfl
  rw [b, c]
  exact Nat.mul_le_mul_left _ a
theorem dl_E_0 {a m : Nat} (m0 : 0 < m) (hm : m < 2040) (hg : Nat.gcd a m = 1) : dl_E a m 0 m (a % m) 0 1 := by
  have l := Nat.mod_lt a m0
  refine ⟨l, ?_, ?_, ⟨-1, by omega⟩, ⟨((a / m : Nat) : Int), ?_⟩, 0, 1, by omega, by omega, by omega, by omega, by omega, by omega⟩
  · rw [Nat.gcd_comm, ← Nat.gcd_rec, Nat.gcd_comm]
    exact hg
  · have := Nat.mul_le_mul (show m ≤ 2040 by omega) (show a % m ≤ 2040 by omega)
    omega
  · have e := Nat.div_add_mod a m
    have e' : ((a % m + a / m * m : Nat) : Int) = (a : Int) := by
      rw [Nat.mul_comm, Nat.add_comm, e]
    rw [Int.one_mul, ← e']
    simp
theorem dl_E_s {a m i r0 r1 : Nat} {s0 s1 : Int} (h : dl_E a m i r0 r1 s0 s1) (h0 : 0 < r1) : dl_E a m (i + 1) r1 (r0 % r1) s1 (s0 - ((r0 / r1 : Nat) : Int) * s1) := by
  obtain ⟨h1, h2, h3, ⟨c0, h4⟩, ⟨c1, h5⟩, u0, u1, h6, h7, h8, h9, h10, h11⟩ := h
  have a1 := Nat.div_add_mod r0 r1
  have q1 : 1 ≤ r0 / r1 := (Nat.one_le_div_iff h0).mpr (by omega)
  refine ⟨Nat.mod_lt _ h0, ?_, Nat.le_trans (dl_halve h0 (by omega)) h3, ⟨c1, h5⟩, ⟨c0 - ((r0 / r1 : Nat) : Int) * c1, ?_⟩, u1, u0 + r0 / r1 * u1, ?_, ?_, h10, h11, ?_, ?_⟩
  · rw [Nat.gcd_comm, ← Nat.gcd_rec, Nat.gcd_comm]
    exact h2
  · generalize r0 / r1 = q at *
    generalize r0 % r1 = r at *
    have a2 : ((r1 : Int) * q + r) = r0 := by exact_mod_cast a1
    grind
  · generalize r0 / r1 = q at *
    generalize r0 % r1 = r at *
    subst a1
    rw [← h6]
    grind
  · have := Nat.mul_le_mul_right u1 q1
    omega
  · have w := Int.mul_le_mul_of_nonneg_left h11 (show (0 : Int) ≤ ((r0 / r1 : Nat) : Int) by omega)
    have v : ((u0 + r0 / r1 * u1 : Nat) : Int) = u0 + ((r0 / r1 : Nat) : Int) * u1 := by simp
    rw [v]
    omega
  · have w := Int.mul_le_mul_of_nonneg_left h10 (show (0 : Int) ≤ ((r0 / r1 : Nat) : Int) by omega)
    have v : ((u0 + r0 / r1 * u1 : Nat) : Int) = u0 + ((r0 / r1 : Nat) : Int) * u1 := by simp
    rw [v]
    rw [Int.mul_neg] at w
    omega
theorem dl_E_end {a m i r0 : Nat} {s0 s1 : Int} (h : dl_E a m i r0 0 s0 s1) : -(m : Int) ≤ s0 ∧ s0 ≤ m ∧ ∃ c : Int, s0 * a = 1 + c * m := by
  obtain ⟨h1, h2, h3, ⟨c0, h4⟩, ⟨c1, h5⟩, u0, u1, h6, h7, h8, h9, h10, h11⟩ := h
  rw [Nat.gcd_zero_right] at h2
  subst h2
  refine ⟨by omega, by omega, c0, ?_⟩
  rw [h4]
  rfl
theorem dl_E_64 {a m r0 r1 : Nat} {s0 s1 : Int} (h : dl_E a m 64 r0 r1 s0 s1) : r1 = 0 := by
  obtain ⟨h1, _, h3, _⟩ := h
  rcases Nat.eq_zero_or_pos r1 with z | z
  · exact z
  · have := Nat.mul_le_mul_right (2 ^ 64) (show 1 ≤ r0 * r1 from Nat.mul_pos (by omega) z)
    omega
theorem dl_inv_nat {a m v : Nat} {c : Int} (h : (v : Int) * a = 1 + c * m) : a * v % m = 1 % m := by
  have e : ((a * v % m : Nat) : Int) = ((1 % m : Nat) : Int) := by
    rw [Int.natCast_emod, Int.natCast_emod, Int.natCast_mul, Int.mul_comm, h]
    exact Int.add_mul_emod_self_right _ _ _
  exact_mod_cast e
theorem dl_ofI {z : Int} (h1 : -(2 ^ 31) ≤ z) (h2 : z < 2 ^ 31) : (0 ≤ Int32.ofInt z) ↔ 0 ≤ z := by
  rw [Int32.le_iff_toInt_le, Int32.toInt_ofInt_of_le h1 h2]
  exact Iff.rfl
theorem dl_invertBy {post : Int32 → Prop} {a m : Nat} {p o f : Int32} {a1 a2 a3 a4 : Nat → Int32} (m0 : 0 < m) (hm : m < 2040) (ha : a < 2 ^ 31) (hg : Nat.gcd a m = 1) (hp : ∀ v, v ≤ m → a * v % m = 1 % m → post (nI v)) : wpX_invertBy post (p, o, f, a1, a2, a3, a4) (nI a) (nI m) := by
  have hend : ∀ (i r0 : Nat) (s0 s1 : Int), dl_E a m i r0 0 s0 s1 → wX_invertBy_82 post (nI m) (Int32.ofInt s0) p o f a1 a2 a3 a4 := by
    intro i r0 s0 s1 h
    obtain ⟨e1, e2, c, e3⟩ := dl_E_end h
    unfold wX_invertBy_82
    refine ek_if (dl_ofI (by omega) (by omega)) (fun z => ?_) (fun z => ?_)
    · obtain ⟨v, hv⟩ := Int.eq_ofNat_of_zero_le z
      subst hv
      rw [Int32.ofInt_eq_ofNat]
      exact hp v (by omega) (dl_inv_nat e3)
    · obtain ⟨v, hv⟩ := Int.eq_ofNat_of_zero_le (show 0 ≤ s0 + m by omega)
      have e4 : Int32.ofInt s0 + nI m = nI v := by
        have : nI m = Int32.ofInt (m : Int) := Int32.ofInt_eq_ofNat.symm
        rw [this, ← Int32.ofInt_add, hv, Int32.ofInt_eq_ofNat]
        rfl
      rw [e4]
      refine hp v (by omega) (dl_inv_nat (c := c + a) ?_)
      rw [← hv, Int.add_mul, e3, Int.add_mul, Int.mul_comm (m : Int) a]
      omega
  have key : ∃ n, wX_invertBy_24 post (nI m) p o f a1 a2 a3 a4 n (nI m) (nI (a % m)) (Int32.ofInt 0) (Int32.ofInt 1) (nI 0) := by
    refine pk_loop (σ := Nat × Nat × Int × Int) (fun n i s => wX_invertBy_24 post (nI m) p o f a1 a2 a3 a4 n (nI s.1) (nI s.2.1) (Int32.ofInt s.2.2.1) (Int32.ofInt s.2.2.2) (nI i)) (fun i s => s.1 ≤ m ∧ dl_E a m i s.1 s.2.1 s.2.2.1 s.2.2.2) 64 0 (m, a % m, 0, 1) (by omega) ⟨Nat.le_refl m, dl_E_0 m0 hm hg⟩ ?_ ?_
    · intro n s hs
      obtain ⟨r0, r1, s0, s1⟩ := s
      have h' : dl_E a m 64 r0 r1 s0 s1 := hs.2
      have z := dl_E_64 h'
      subst z
      exact pk_le 64 64 (fun _ => hend 64 r0 s0 s1 h') (fun z => absurd z (by omega))
    · intro n i s hi hs hw
      obtain ⟨r0, r1, s0, s1⟩ := s
      have h' : dl_E a m i r0 r1 s0 s1 := hs.2
      have rm : r0 ≤ m := hs.1
      have r10 := h'.1
      refine pk_le 64 i (fun z => absurd z (by omega)) (fun _ => pk_eq r1 0 (fun z => ?_) (fun z => ?_) rfl rfl (show r1 < 2 ^ 31 by omega))
      · subst z
        exact hend i r0 s0 s1 h'
      · have z0 : 0 < r1 := by omega
        have ed : nI r0 / nI r1 = nI (r0 / r1) := pk_div (by omega) z0 (by omega)
        have er : nI r0 - nI (r0 / r1) * nI r1 = nI (r0 % r1) := by
          rw [← ed]
          exact pk_rem (by omega) z0 (by omega)
        have es : Int32.ofInt s0 - nI (r0 / r1) * Int32.ofInt s1 = Int32.ofInt (s0 - ((r0 / r1 : Nat) : Int) * s1) := by
          rw [Int32.ofInt_sub, Int32.ofInt_mul, Int32.ofInt_eq_ofNat]
          rfl
        refine ⟨nI_ne0 z0 (show r1 < 2 ^ 31 by omega), nm_r ed (nm_r er (nm_r es (nm_r (nI_1 i) (hw (r1, r0 % r1, s1, s0 - ((r0 / r1 : Nat) : Int) * s1) ⟨?_, dl_E_s h' z0⟩))))⟩
        show r1 ≤ m
        omega
  rw [show Int32.ofInt 0 = 0 by decide, show Int32.ofInt 1 = 1 by decide] at key
  unfold wpX_invertBy
  dsimp only
  exact pk_le m 0 (fun z => absurd z (by omega)) (fun _ => ⟨nI_ne0 m0 (by omega), nm_r (pk_rem ha m0 (by omega)) key⟩)
theorem dl_timesBy {post : Int32 → Prop} {a b m : Nat} {p o f : Int32} {a1 a2 a3 a4 : Nat → Int32} (ha : a ≤ 2040) (hb : b ≤ 2040) (m0 : 0 < m) (hm : m < 2040) (hp : post (nI (a * b % m))) : wpX_timesBy post (p, o, f, a1, a2, a3, a4) (nI a) (nI b) (nI m) := by
  have ab := Nat.mul_le_mul ha hb
  have e : (nI a).toInt64 * (nI b).toInt64 = lN (a * b) := by
    rw [nI_l (by omega), nI_l (by omega), lN_mul]
  have em : (nI m).toInt64 = lN m := nI_l (by omega)
  unfold wpX_timesBy
  dsimp only
  rw [em]
  refine pk_le 1 m (fun _ => nm_r e ⟨?_, ?_⟩) (fun z => absurd z (by omega))
  · intro z
    have := (pk_lEQ (a := m) (b := 0) (by omega) (by omega)).mp z
    omega
  · rw [pk_lRem (by omega) m0 (by omega), lN_i]
    exact hp
theorem dl_nrem {w n : Nat} (hw : w < 2 ^ 30) (n0 : 0 < n) (hn : n < 2 ^ 30) : (-nI w) - (-nI w) / nI n * nI n = -nI (w % n) := by
  have l := Nat.div_le_self w n
  have d : (-nI w) / nI n = -nI (w / n) := by
    apply Int32.toInt_inj.mp
    rw [Int32.toInt_div, sb_negT (by omega), nI_toInt (by omega), sb_negT (by omega), Int.neg_tdiv, Int.tdiv_eq_ediv_of_nonneg (by omega), ← Int.natCast_ediv]
    generalize w / n = t at *
    exact Int.bmod_eq_of_le (by omega) (by omega)
  have r := pk_rem (a := w) (d := n) (by omega) n0 (by omega)
  rw [pk_div (by omega) n0 (by omega)] at r
  rw [d, ← r]
  grind
end
section
/-- what the last step of join makes of a gap g -/
theorem dl_j29 {post : Int32 → Prop} {X m n v g : Nat} {p o f : Int32} {a1 a2 a3 a4 : Nat → Int32} (n0 : 0 < n) (hnl : n < 2040) (hv : v ≤ n) (hi : m * v % n = 1 % n) (gl : g < n) (hg : g % n = m * (X / m) % n) (hp : post (nI (X % (m * n)))) : wX_join_29 post (nI (X % m)) (nI m) (nI n) (nI v) (nI g) p o f a1 a2 a3 a4 := by
  have e : g * v % n = X / m % n := by
    rw [Nat.mul_mod, hg, ← Nat.mul_mod, Nat.mul_right_comm, Nat.mul_mod, hi, ← Nat.mul_mod, Nat.one_mul]
  unfold wX_join_29
  refine dl_timesBy (by omega) (by omega) n0 hnl ?_
  rw [pk_mul, nI_add, e, ← Nat.mod_mul]
  exact hp
theorem dl_join {post : Int32 → Prop} {X m n : Nat} {p o f : Int32} {a1 a2 a3 a4 : Nat → Int32} (m0 : 0 < m) (hml : m < 2040) (n0 : 0 < n) (hnl : n < 2040) (cop : Nat.gcd m n = 1) (hp : post (nI (X % (m * n)))) : wpX_join post (p, o, f, a1, a2, a3, a4) (nI (X % m)) (nI m) (nI (X % n)) (nI n) := by
  have xl := Nat.mod_lt X m0
  have yl := Nat.mod_lt X n0
  have ex := Nat.div_add_mod X m
  have ey := Nat.div_add_mod X n
  unfold wpX_join
  dsimp only
  refine dl_invertBy n0 hnl (by omega) cop (fun v hv hi => ⟨nI_ne0 n0 (by omega), ?_⟩)
  rcases Nat.lt_or_ge (X % n) (X % m) with z | z
  · have e1 : nI (X % n) - nI (X % m) = -nI (X % m - X % n) := by
      rw [← pk_sub (show X % n ≤ X % m by omega)]
      grind
    rw [e1]
    refine nm_r (dl_nrem (by omega) n0 (by omega)) ?_
    have ew := Nat.div_add_mod (X % m - X % n) n
    have wl := Nat.mod_lt (X % m - X % n) n0
    have kM : m * (X / m) + (X % m - X % n) = n * (X / n) := by omega
    by_cases y : (X % m - X % n) % n = 0
    · rw [y]
      refine br_t (by decide) ?_
      refine dl_j29 (g := 0) n0 hnl hv hi n0 ?_ hp
      rw [y] at ew
      have k2 : m * (X / m) = n * (X / n) - n * ((X % m - X % n) / n) := by omega
      rw [k2, ← Nat.mul_sub, Nat.mul_mod_right, Nat.zero_mod]
    · have e2 : -nI ((X % m - X % n) % n) + nI n = nI (n - (X % m - X % n) % n) := by
        rw [← pk_sub (show (X % m - X % n) % n ≤ n by omega)]
        grind
      refine br_f ?_ (nm_r e2 ?_)
      · rw [Int32.le_iff_toInt_le, sb_negT (by omega), show (0 : Int32).toInt = 0 by decide]
        omega
      · refine dl_j29 n0 hnl hv hi (by omega) ?_ hp
        have k2 : m * (X / m) + n * ((X % m - X % n) / n) + n = (n - (X % m - X % n) % n) + n * (X / n) := by omega
        have k3 : (m * (X / m) + n * ((X % m - X % n) / n) + n) % n = m * (X / m) % n := by
          rw [Nat.add_mod_right, Nat.add_mul_mod_self_left]
        rw [← k3, k2, Nat.add_mul_mod_self_left]
  · have e1 : nI (X % n) - nI (X % m) = nI (X % n - X % m) := pk_sub z
    rw [e1]
    refine nm_r (pk_rem (by omega) n0 (by omega)) ?_
    have gl := Nat.mod_lt (X % n - X % m) n0
    refine br_t (nI_pos' (by omega)) ?_
    refine dl_j29 n0 hnl hv hi gl ?_ hp
    have k2 : m * (X / m) = n * (X / n) + (X % n - X % m) := by omega
    rw [Nat.mod_mod, k2, Nat.mul_add_mod]
/-- leastLog's outer loop: m has taken in the first f bases of n -/
def dl_LI (n F : Nat) (B : Nat → Nat) (f m : Nat) : Prop :=
  m ∣ n ∧ (∀ j, j < f → ¬ B j ∣ n / m) ∧ (∀ j, f ≤ j → j < F → Nat.Coprime m (B j))
theorem dl_LI_0 {n F : Nat} {B : Nat → Nat} : dl_LI n F B 0 1 :=
  ⟨Nat.one_dvd n, fun j hj => absurd hj (by omega), fun j _ _ => Nat.coprime_one_left (B j)⟩
theorem dl_LI_no {n F f m : Nat} {B : Nat → Nat} (h : dl_LI n F B f m) (hq : ¬ B f ∣ n) : dl_LI n F B (f + 1) m := by
  obtain ⟨h1, h2, h3⟩ := h
  refine ⟨h1, fun j hj d => ?_, fun j h hj => h3 j (by omega) hj⟩
  by_cases e : j = f
  · rw [e] at d
    exact hq (Nat.dvd_trans d (Nat.div_dvd_of_dvd h1))
  · exact h2 j (by omega) d
theorem dl_LI_yes {N n F f m e : Nat} {B T : Nat → Nat} (hF : dl_F N F B T) (hf : f < F) (n0 : 0 < n) (h : dl_LI n F B f m) (h1 : B f ^ e ∣ n) (h2 : ¬ B f ^ (e + 1) ∣ n) : dl_LI n F B (f + 1) (m * B f ^ e) ∧ Nat.gcd m (B f ^ e) = 1 := by
  obtain ⟨k1, k2, k3⟩ := h
  have cq : Nat.Coprime m (B f ^ e) := Nat.Coprime.pow_right e (k3 f (by omega) hf)
  have pq := (hF.2.1 f hf).1
  have md : m * B f ^ e ∣ n := Nat.Coprime.mul_dvd_of_dvd_of_dvd cq k1 h1
  refine ⟨⟨md, fun j hj d => ?_, fun j hj hjF => ?_⟩, cq⟩
  · have m0 : 0 < m * B f ^ e := Nat.pos_of_dvd_of_pos md n0
    by_cases y : j = f
    · rw [y] at d
      refine h2 (Nat.dvd_trans ?_ ((Nat.dvd_div_iff_mul_dvd md).mp d))
      rw [Nat.pow_succ, Nat.mul_assoc]
      exact Nat.dvd_mul_left _ _
    · refine k2 j (by omega) (Nat.dvd_trans d ?_)
      rw [← Nat.div_div_eq_div_mul]
      refine Nat.div_dvd_of_dvd ((Nat.dvd_div_iff_mul_dvd k1).mpr md)
  · refine Nat.Coprime.mul_left (k3 j (by omega) hjF) (Nat.Coprime.pow_left e (Nat.Coprime.symm (dl_cop pq (dl_prne pq (hF.2.1 j hjF).1 ?_))))
    intro z
    have := hF.2.2.1 f j hf hjF z
    omega
theorem dl_LI_end {N n F m : Nat} {B T : Nat → Nat} (hF : dl_F N F B T) (hn : n ∣ N) (h : dl_LI n F B F m) : m = n := by
  obtain ⟨k1, k2, _⟩ := h
  by_cases z : n / m = 1
  · have := Nat.div_mul_cancel k1
    rw [z, Nat.one_mul] at this
    exact this
  · obtain ⟨j, hj, d⟩ := hF.2.2.2 (n / m) (Nat.dvd_trans (Nat.div_dvd_of_dvd k1) hn) z
    exact absurd d (k2 j hj)
end
section
theorem dl_l92 {post : Int32 → St1 → Prop} {J : Int32 → Int32 → Int32 → Int32 → Int32 → Int32 → (Nat → Int32) → (Nat → Int32) → (Nat → Int32) → (Nat → Int32) → Prop} {P F c g h n X f m e x : Nat} {B T : Nat → Nat} {a1 a2 a3 a4 : Nat → Int32} (hP : 1 < P) (hP2 : P < 2040) (G : dl_G P c) (g0 : 0 < g) (g1 : g < P) (hF : dl_F (P - 1) F B T) (hf : f < F) (ho : dl_ord P g n) (hn : n ∣ P - 1) (hX : h = g ^ X % P) (hL : dl_LI n F B f m) (hx : x = X % m) (h1 : B f ^ e ∣ n) (h2 : ¬ B f ^ (e + 1) ∣ n)
    (hJ : ∀ (m' : Nat) (b3 b4 : Nat → Int32), dl_LI n F B (f + 1) m' → J (nI (X % m')) (nI m') (nI (f + 1)) (nI P) (nI (P - 1)) (nI F) a1 a2 b3 b4) :
    wX_leastLog_92 post J (nI g) (nI h) (nI n) (nI x) (nI m) (nI f) (nI (B f)) (nI e) (nI (B f ^ e)) (nI P) (nI (P - 1)) (nI F) a1 a2 a3 a4 := by
  subst hx
  have n0 := ho.1
  have nl := Nat.le_of_dvd (by omega) hn
  have ml := Nat.le_of_dvd n0 hL.1
  have m0 := Nat.pos_of_dvd_of_pos hL.1 n0
  have sl := Nat.le_of_dvd n0 h1
  have s0 := Nat.pos_of_dvd_of_pos h1 n0
  have pq := (hF.2.1 f hf).1
  have el : e < 2 ^ e := Nat.lt_two_pow_self
  have el2 : 2 ^ e ≤ B f ^ e := Nat.pow_le_pow_left pq.1 e
  have hl : h < P := by
    rw [hX]
    exact Nat.mod_lt _ (by omega)
  have dl := Nat.div_le_self n (B f ^ e)
  have ed : nI n / nI (B f ^ e) = nI (n / B f ^ e) := pk_div (by omega) s0 (by omega)
  have sn : ¬ nI (B f ^ e) = 0 := nI_ne0 s0 (by omega)
  unfold wX_leastLog_92
  rw [ed]
  refine pk_le e 0 (fun z => nm_r (nI_1 f) (hJ m a3 a4 (dl_LI_no hL ?_))) (fun z => ⟨sn, dl_pow hP hP2 g1 (by omega) ⟨sn, dl_pow hP hP2 hl (by omega) ?_⟩⟩)
  · have e0 : e = 0 := by omega
    subst e0
    rw [Nat.zero_add, Nat.pow_one] at h2
    exact h2
  · obtain ⟨hL', cop⟩ := dl_LI_yes hF hf n0 hL h1 h2
    have es : n / B f ^ e * B f ^ e = n := Nat.div_mul_cancel h1
    have go : dl_ord P (g ^ (n / B f ^ e) % P) (B f ^ e) := by
      refine dl_ordk (Nat.div_pos sl s0) ?_
      rw [es]
      exact ho
    refine dl_powerLog hP hP2 G (dl_unit hP G g0 g1 _) (Nat.mod_lt _ (by omega)) go z pq.1 (by omega) (X := X) ?_ (fun b3 b4 => ?_)
    · rw [hX, dl_ppow, dl_ppow, Nat.mul_comm]
    · refine dl_join m0 (by omega) s0 (by omega) cop ?_
      exact nm_r (pk_mul m (B f ^ e)) (nm_r (nI_1 f) (hJ _ b3 b4 hL'))
theorem dl_leastLog {post : Int32 → St1 → Prop} {P F g h : Nat} {a1 a2 a3 a4 : Nat → Int32} (hS : dl_S P F a1 a2) (g0 : 0 < g) (g1 : g < P) (h0 : 0 < h) (h1 : h < P)
    (hp1 : ∀ n X, dl_ord P g n → n ∣ P - 1 → X < n → g ^ X % P = h → ∀ b3 b4 : Nat → Int32, post (nI X) (nI P, nI (P - 1), nI F, a1, a2, b3, b4))
    (hp2 : (∀ X, g ^ X % P ≠ h) → post (-4) (nI P, nI (P - 1), nI F, a1, a2, a3, a4)) :
    wpX_leastLog post (nI P, nI (P - 1), nI F, a1, a2, a3, a4) (nI g) (nI h) := by
  have hS' := hS
  obtain ⟨h3, hP2, ⟨c, G⟩, B, T, hF, hA⟩ := hS'
  have hP : 1 < P := by omega
  have hF5 := hF.1
  unfold wpX_leastLog
  dsimp only
  refine dl_orderOf hS g0 g1 (fun n ho hn => ?_)
  have nl := Nat.le_of_dvd (by omega) hn
  refine dl_pow hP hP2 h1 (by omega) ?_
  have fl := Nat.mod_lt (h ^ n) (show P > 0 by omega)
  refine pk_eq (h ^ n % P) 1 (fun z => ?_) (fun z => hp2 (fun X e => z ?_))
  · obtain ⟨X, Xl, eX⟩ := dl_sub hP G g0 g1 ho h0 h1 z
    refine pk_loop (σ := Nat × Nat × (Nat → Int32) × (Nat → Int32)) (fun k f s => wX_leastLog_32 post (nI g) (nI h) (nI n) k (nI s.1) (nI s.2.1) (nI f) (nI P) (nI (P - 1)) (nI F) a1 a2 s.2.2.1 s.2.2.2) (fun f s => s.1 = X % s.2.1 ∧ dl_LI n F B f s.2.1) F 0 (0, 1, a3, a4) (by omega) ⟨?_, dl_LI_0⟩ ?_ ?_
    · show 0 = X % 1
      omega
    · intro k s hs
      obtain ⟨x, m, b3, b4⟩ := s
      have hx : x = X % m := hs.1
      have hL : dl_LI n F B F m := hs.2
      have mn := dl_LI_end hF hn hL
      subst mn
      rw [Nat.mod_eq_of_lt Xl] at hx
      subst hx
      exact pk_le F F (fun _ => hp1 m x ho hn Xl eX b3 b4) (fun z => absurd z (by omega))
    · intro k f s hf hs hw
      obtain ⟨x, m, b3, b4⟩ := s
      have hx : x = X % m := hs.1
      have hL : dl_LI n F B f m := hs.2
      have hx1 : a1 (nI f).toNatClampNeg = nI (B f) := by
        rw [nI_clamp (by omega)]
        exact (hA f hf).1
      have pq := (hF.2.1 f hf).1
      have p2 := pq.1
      have bl := Nat.le_of_dvd (by omega) (dl_Bd hF hf)
      refine pk_le F f (fun z => absurd z (by omega)) (fun _ => ⟨pk_in f 5 (by omega), nm_r hx1 ?_⟩)
      refine pk_loop (σ := Unit) (fun k' i _ => wX_leastLog_59 post (wX_leastLog_32 post (nI g) (nI h) (nI n) k) (nI g) (nI h) (nI n) (nI x) (nI m) (nI f) (nI (B f)) (nI P) (nI (P - 1)) (nI F) a1 a2 b3 b4 k' (nI i) (nI (B f ^ i)) (nI i)) (fun i _ => B f ^ i ∣ n) 12 0 () (by omega) (by rw [Nat.pow_zero]; exact Nat.one_dvd n) ?_ ?_
      · intro k' _ hi
        have l1 := Nat.le_of_dvd ho.1 hi
        have l2 : 2 ^ 12 ≤ B f ^ 12 := Nat.pow_le_pow_left p2 12
        omega
      · intro k' i _ hi hd hw'
        have hd' : B f ^ i ∣ n := hd
        have l1 := Nat.le_of_dvd ho.1 hd'
        have l0 := Nat.pos_of_dvd_of_pos hd' ho.1
        have l2 : 0 < B f ^ i * B f := Nat.mul_pos l0 (by omega)
        have l3 : B f ^ i * B f ≤ 2040 * 2040 := Nat.mul_le_mul (by omega) (by omega)
        have ep : nI (B f ^ i) * nI (B f) = nI (B f ^ (i + 1)) := by rw [pk_mul, Nat.pow_succ]
        have en : ¬ nI (B f ^ i) * nI (B f) = 0 := by
          rw [pk_mul]
          exact nI_ne0 l2 (by omega)
        have er : nI n - nI n / (nI (B f ^ i) * nI (B f)) * (nI (B f ^ i) * nI (B f)) = nI (n % (B f ^ i * B f)) := by
          rw [pk_mul]
          exact pk_rem (by omega) l2 (by omega)
        have rl := Nat.mod_lt n l2
        refine pk_le 12 i (fun z => absurd z (by omega)) (fun _ => ⟨en, pk_eq (n % (B f ^ i * B f)) 0 (fun z => nm_r ep (nm_r (nI_1 i) (nm_r (nI_1 i) (hw' () ?_)))) (fun z => ?_) er⟩)
        · show B f ^ (i + 1) ∣ n
          rw [Nat.pow_succ]
          exact Nat.dvd_of_mod_eq_zero z
        · refine dl_l92 hP hP2 G g0 g1 hF hf ho hn eX.symm hL hx hd' (fun d => z ?_) (fun m' d3 d4 hL' => hw (X % m', m', d3, d4) ⟨rfl, hL'⟩)
          rw [Nat.pow_succ] at d
          exact Nat.mod_eq_zero_of_dvd d
  · rw [← e, dl_ppow, Nat.mul_comm]
    exact dl_k1 hP ho.2.1 X
theorem dl_log {post : Int32 → St1 → Prop} {P F g h : Nat} {a1 a2 a3 a4 : Nat → Int32} (hS : dl_S P F a1 a2) (g0 : 0 < g) (g1 : g < P) (h0 : 0 < h) (h1 : h < P)
    (hp1 : ∀ n X, dl_ord P g n → n ∣ P - 1 → X < n → g ^ X % P = h → ∀ b3 b4 : Nat → Int32, post (nI X) (nI P, nI (P - 1), nI F, a1, a2, b3, b4))
    (hp2 : (∀ X, g ^ X % P ≠ h) → post (-4) (nI P, nI (P - 1), nI F, a1, a2, a3, a4)) :
    wpX_log post (nI P, nI (P - 1), nI F, a1, a2, a3, a4) (nI g) (nI h) := by
  have hP2 := hS.2.1
  unfold wpX_log
  dsimp only
  exact dl_notUnit hP2 g0 g1 (br_t rfl (dl_notUnit hP2 h0 h1 (br_t rfl (dl_leastLog hS g0 g1 h0 h1 hp1 hp2))))
end
section
theorem dl_gcd {post : Int32 → Prop} {a b : Nat} {p o f : Int32} {a1 a2 a3 a4 : Nat → Int32} (ha : a < 2040) (hb : b < 2040) (hp : post (nI (Nat.gcd a b))) : wpX_gcd post (p, o, f, a1, a2, a3, a4) (nI a) (nI b) := by
  have hend : ∀ x : Nat, Nat.gcd x 0 = Nat.gcd a b → post (nI x) := by
    intro x e
    rw [Nat.gcd_zero_right] at e
    rw [e]
    exact hp
  refine pk_loop (σ := Nat × Nat) (fun n i s => wX_gcd_8 post p o f a1 a2 a3 a4 n (nI s.1) (nI s.2) (nI i)) (fun i s => Nat.gcd s.1 s.2 = Nat.gcd a b ∧ s.1 < 2040 ∧ s.2 < 2040 ∧ (i = 0 ∨ (s.2 ≤ s.1 ∧ s.1 * s.2 * 2 ^ i ≤ 2 ^ 24))) 64 0 (a, b) (by omega) ⟨rfl, ha, hb, Or.inl rfl⟩ ?_ ?_
  · intro n s hs
    obtain ⟨x, y⟩ := s
    obtain ⟨e, xl, yl, hh⟩ := hs
    have e' : Nat.gcd x y = Nat.gcd a b := e
    have y0 : y = 0 := by
      rcases hh with z | ⟨z1, z2⟩
      · omega
      · rcases Nat.eq_zero_or_pos y with w | w
        · exact w
        · have z1' : y ≤ x := z1
          have z2' : x * y * 2 ^ 64 ≤ 2 ^ 24 := z2
          have := Nat.mul_le_mul_right (2 ^ 64) (show 1 ≤ x * y from Nat.mul_pos (by omega) w)
          omega
    subst y0
    exact pk_le 64 64 (fun _ => hend x e') (fun z => absurd z (by omega))
  · intro n i s hi hs hw
    obtain ⟨x, y⟩ := s
    have e : Nat.gcd x y = Nat.gcd a b := hs.1
    have xl : x < 2040 := hs.2.1
    have yl : y < 2040 := hs.2.2.1
    have hh : i = 0 ∨ (y ≤ x ∧ x * y * 2 ^ i ≤ 2 ^ 24) := hs.2.2.2
    refine pk_le 64 i (fun z => absurd z (by omega)) (fun _ => pk_eq y 0 (fun z => ?_) (fun z => ?_) rfl rfl (show y < 2 ^ 31 by omega))
    · subst z
      exact hend x e
    · have y0 : 0 < y := by omega
      have rl := Nat.mod_lt x y0
      have er : nI x - nI x / nI y * nI y = nI (x % y) := pk_rem (by omega) y0 (by omega)
      refine ⟨nI_ne0 y0 (show y < 2 ^ 31 by omega), nm_r er (nm_r (nI_1 i) (hw (y, x % y) ⟨?_, yl, ?_, Or.inr ⟨?_, ?_⟩⟩))⟩
      · show Nat.gcd y (x % y) = Nat.gcd a b
        rw [Nat.gcd_comm, ← Nat.gcd_rec, Nat.gcd_comm]
        exact e
      · show x % y < 2040
        omega
      · show x % y ≤ y
        omega
      · show y * (x % y) * 2 ^ (i + 1) ≤ 2 ^ 24
        rcases hh with w | ⟨w1, w2⟩
        · subst w
          have := Nat.mul_le_mul (show y ≤ 2040 by omega) (show x % y ≤ 2040 by omega)
          omega
        · exact Nat.le_trans (dl_halve y0 w1) w2
theorem dl_badRoot {post : Int32 → Prop} {P h k : Nat} {o f : Int32} {a1 a2 a3 a4 : Nat → Int32} (hP2 : P < 2040) (h0 : 0 < h) (h1 : h < P) (k0 : 0 < k) (kl : k < 2040) (hp : post 0) : wpX_badRoot post (nI P, o, f, a1, a2, a3, a4) (nI h) (nI k) := by
  unfold wpX_badRoot
  dsimp only
  exact dl_notUnit hP2 h0 h1 (br_t rfl (pk_lt k 1 (fun z => absurd z (by omega)) (fun _ => pk_le k 1000000 (fun _ => hp) (fun z => absurd z (by omega)))))
theorem dl_roots {post : Int32 → Prop} {P F h k : Nat} {a1 a2 a3 a4 : Nat → Int32} (hS : dl_S P F a1 a2) (h0 : 0 < h) (h1 : h < P) (k0 : 0 < k) (kl : k < 2040) (hp1 : h ^ ((P - 1) / Nat.gcd k (P - 1)) % P = 1 → post (nI (Nat.gcd k (P - 1)))) (hp2 : h ^ ((P - 1) / Nat.gcd k (P - 1)) % P ≠ 1 → post 0) : wpX_roots post (nI P, nI (P - 1), nI F, a1, a2, a3, a4) (nI h) (nI k) := by
  obtain ⟨h3, hP2, _⟩ := hS
  have d0 : 0 < Nat.gcd k (P - 1) := Nat.gcd_pos_of_pos_left _ k0
  have dl := Nat.gcd_le_left (P - 1) k0
  have ql := Nat.div_le_self (P - 1) (Nat.gcd k (P - 1))
  have fl := Nat.mod_lt (h ^ ((P - 1) / Nat.gcd k (P - 1))) (show P > 0 by omega)
  unfold wpX_roots
  dsimp only
  refine dl_badRoot hP2 h0 h1 k0 kl (br_t rfl (dl_gcd kl (by omega) ?_))
  refine pk_le 1 (Nat.gcd k (P - 1)) (fun _ => ⟨nI_ne0 d0 (by omega), ?_⟩) (fun z => absurd z (by omega))
  rw [pk_div (by omega) d0 (by omega)]
  refine dl_pow (by omega) hP2 h1 (by omega) ?_
  exact pk_eq (h ^ ((P - 1) / Nat.gcd k (P - 1)) % P) 1 hp1 hp2
theorem dl_generates {post : Int32 → Prop} {P F g : Nat} {a1 a2 a3 a4 : Nat → Int32} (hS : dl_S P F a1 a2) (g0 : 0 < g) (g1 : g < P) (hp1 : dl_ord P g (P - 1) → post 1) (hp0 : ¬ dl_ord P g (P - 1) → post 0) : wpX_generates post (nI P, nI (P - 1), nI F, a1, a2, a3, a4) (nI g) := by
  obtain ⟨h3, hP2, ⟨c, G⟩, B, T, hF, hA⟩ := hS
  have hP : 1 < P := by omega
  have hF5 := hF.1
  refine pk_loop (σ := Unit) (fun n i _ => wX_generates_2 post (nI g) (nI P) (nI (P - 1)) (nI F) a1 a2 a3 a4 n (nI i)) (fun i _ => ∀ j, j < i → g ^ ((P - 1) / B j) % P ≠ 1) F 0 () (by omega) (fun j hj => absurd hj (by omega)) ?_ ?_
  · intro n _ hi
    refine pk_le F F (fun _ => hp1 ?_) (fun z => absurd z (by omega))
    exact dl_ordc (F := F) (B := B) hP (by omega) (dl_fermat hP G g0 g1) hF.2.2.2 (fun f hf => by
      have := (hF.2.1 f hf).1.1
      omega) (fun f hf _ => hi f hf)
  · intro n i _ hi hI hw
    have b2 := (hF.2.1 i hi).1.1
    have bl := Nat.le_of_dvd (by omega) (dl_Bd hF hi)
    have hx1 : a1 (nI i).toNatClampNeg = nI (B i) := by
      rw [nI_clamp (by omega)]
      exact (hA i hi).1
    have hn : ¬ a1 (nI i).toNatClampNeg = 0 := by
      rw [hx1]
      exact nI_ne0 (by omega) (by omega)
    have hd : nI (P - 1) / a1 (nI i).toNatClampNeg = nI ((P - 1) / B i) := by
      rw [hx1]
      exact pk_div (by omega) (by omega) (by omega)
    have ql := Nat.div_le_self (P - 1) (B i)
    have fl := Nat.mod_lt (g ^ ((P - 1) / B i)) (show P > 0 by omega)
    refine pk_le F i (fun z => absurd z (by omega)) (fun _ => ⟨pk_in i 5 (by omega), hn, ?_⟩)
    rw [hd]
    refine dl_pow hP hP2 g1 (by omega) ?_
    refine pk_eq (g ^ ((P - 1) / B i) % P) 1 (fun z => hp0 (fun w => ?_)) (fun z => nm_r (nI_1 i) (hw () ?_))
    · have d := w.2.2 _ z
      have q0 : 0 < (P - 1) / B i := Nat.div_pos bl (by omega)
      have l := Nat.le_of_dvd q0 d
      have := Nat.div_lt_self (show 0 < P - 1 by omega) (show 1 < B i by omega)
      omega
    · intro j hj
      by_cases e : j = i
      · rw [e]
        exact z
      · exact hI j (by omega)
theorem dl_generator {post : Int32 → Prop} {P F : Nat} {a1 a2 a3 a4 : Nat → Int32} (hS : dl_S P F a1 a2) (hp : ∀ g, 0 < g → g < P → dl_ord P g (P - 1) → post (nI g)) : wpX_generator post (nI P, nI (P - 1), nI F, a1, a2, a3, a4) := by
  have hS' := hS
  obtain ⟨h3, hP2, ⟨c, G⟩, _⟩ := hS'
  have hP : 1 < P := by omega
  obtain ⟨w, w0, w1, wo⟩ : ∃ w, 0 < w ∧ w < P ∧ dl_ord P w (P - 1) := by
    have p := dl_pos hP G.1.1 G.1.2.1 1
    rw [Nat.pow_one] at p
    refine ⟨c % P, p, Nat.mod_lt _ (by omega), G.1.1, ?_, fun m hm => G.1.2.2 m ?_⟩
    · rw [← Nat.pow_mod]
      exact G.1.2.1
    · rw [← Nat.pow_mod] at hm
      exact hm
  refine pk_loop (σ := Unit) (fun n i _ => wX_generator_2 post (nI P) (nI (P - 1)) (nI F) a1 a2 a3 a4 n (nI i)) (fun i _ => 0 < i) w 1 () (by omega) (by omega) ?_ ?_
  · intro n _ hi
    refine pk_le P w (fun z => absurd z (by omega)) (fun _ => pk_le 2039 w (fun z => absurd z (by omega)) (fun _ => ?_))
    exact dl_generates hS w0 w1 (fun _ => br_f (by decide) (hp w w0 w1 wo)) (fun z => absurd wo z)
  · intro n i _ hi i0 hw
    have i0' : 0 < i := i0
    refine pk_le P i (fun z => absurd z (by omega)) (fun _ => pk_le 2039 i (fun z => absurd z (by omega)) (fun _ => ?_))
    exact dl_generates hS i0' (by omega) (fun z => br_f (by decide) (hp i i0' (by omega) z)) (fun _ => br_t rfl (nm_r (nI_1 i) (hw () (by omega))))
theorem dl_r113 {post : Int32 → St1 → Prop} {P c h k d t y : Nat} {o f : Int32} {a1 a2 a3 a4 : Nat → Int32} (hP : 1 < P) (hP2 : P < 2040) (G : dl_G P c) (hl : h < P) (dl : d < 2039) (t0 : 0 < t) (t1 : t < P) (tk : t ^ k % P = 1) (y0 : 0 < y) (y1 : y < P) (yk : y ^ k % P = h) (hp : ∀ z, 0 < z → z < P → z ^ k % P = h → post (nI z) (nI P, o, f, a1, a2, a3, a4)) : ∃ n, wX_root_113 post (nI d) (nI t) (nI P) o f a1 a2 a3 a4 n (nI y) (nI y) 0 := by
  refine pk_loop (σ := Nat × Nat) (fun n i s => wX_root_113 post (nI d) (nI t) (nI P) o f a1 a2 a3 a4 n (nI s.1) (nI s.2) (nI i)) (fun i s => (0 < s.1 ∧ s.1 < P ∧ s.1 ^ k % P = h) ∧ (0 < s.2 ∧ s.2 < P ∧ s.2 ^ k % P = h)) d 0 (y, y) (by omega) ⟨⟨y0, y1, yk⟩, ⟨y0, y1, yk⟩⟩ ?_ ?_
  · intro n s hs
    exact pk_le d d (fun _ => hp s.2 hs.2.1 hs.2.2.1 hs.2.2.2) (fun z => absurd z (by omega))
  · intro n i s hi hs hw
    obtain ⟨u, v⟩ := s
    have hu : 0 < u ∧ u < P ∧ u ^ k % P = h := hs.1
    have hv : 0 < v ∧ v < P ∧ v ^ k % P = h := hs.2
    obtain ⟨u0, u1, uk⟩ := hu
    have nu : 0 < u * t % P ∧ u * t % P < P ∧ (u * t % P) ^ k % P = h := by
      refine ⟨dl_munit hP G u0 u1 t0 t1, Nat.mod_lt _ (by omega), ?_⟩
      rw [← Nat.pow_mod, Nat.mul_pow, Nat.mul_mod, uk, tk, Nat.mul_one, Nat.mod_eq_of_lt hl]
    have v1 := hv.2.1
    refine pk_le d i (fun z => absurd z (by omega)) (fun _ => pk_le 2039 i (fun z => absurd z (by omega)) (fun _ => pk_le v u (fun _ => ?_) (fun _ => ?_) rfl rfl (show v < 2 ^ 31 by omega) (show u < 2 ^ 31 by omega)))
    · unfold wX_root_139
      exact dl_mul hP hP2 u1 t1 (nm_r (nI_1 i) (hw (_, v) ⟨nu, hv⟩))
    · unfold wX_root_139
      exact dl_mul hP hP2 u1 t1 (nm_r (nI_1 i) (hw (_, u) ⟨nu, ⟨u0, u1, uk⟩⟩))
/-- h is a k-th power just where d divides its logarithm -/
theorem dl_dvd {P g h N d X : Nat} (hP : 1 < P) (ho : dl_ord P g N) (hd : d ∣ N) (hX : g ^ X % P = h) : h ^ (N / d) % P = 1 ↔ d ∣ X := by
  have q0 : 0 < N / d := Nat.div_pos (Nat.le_of_dvd ho.1 hd) (Nat.pos_of_dvd_of_pos hd ho.1)
  have e : d * (N / d) = N := Nat.mul_div_cancel' hd
  rw [← hX, dl_ppow]
  constructor
  · intro z
    have w := ho.2.2 _ z
    rw [← e] at w
    have w' : d * (N / d) ∣ X * (N / d) := by
      rw [Nat.mul_div_cancel_left _ (Nat.pos_of_dvd_of_pos hd ho.1)] at w
      exact w
    exact Nat.dvd_of_mul_dvd_mul_right q0 w'
  · intro ⟨t, ht⟩
    rw [ht, Nat.mul_right_comm, e]
    exact dl_k1 hP ho.2.1 t
theorem dl_rootx {P g h k d X v : Nat} (hP : 1 < P) (ho : dl_ord P g (P - 1)) (hX : g ^ X % P = h) (hd : d = Nat.gcd k (P - 1)) (dX : d ∣ X) (hv : k / d * v % ((P - 1) / d) = 1 % ((P - 1) / d)) : (g ^ (X / d * v % ((P - 1) / d)) % P) ^ k % P = h := by
  have dk : d ∣ k := by
    rw [hd]
    exact Nat.gcd_dvd_left _ _
  have dN : d ∣ P - 1 := by
    rw [hd]
    exact Nat.gcd_dvd_right _ _
  have ek : k / d * d = k := Nat.div_mul_cancel dk
  have eN : (P - 1) / d * d = P - 1 := Nat.div_mul_cancel dN
  have eX : X / d * d = X := Nat.div_mul_cancel dX
  have e1 : X / d * v % ((P - 1) / d) * (k / d) % ((P - 1) / d) = X / d % ((P - 1) / d) := by
    rw [Nat.mod_mul_mod, Nat.mul_assoc, Nat.mul_comm v, Nat.mul_mod, hv, ← Nat.mul_mod, Nat.mul_one]
  have e2 : X / d * v % ((P - 1) / d) * k % (P - 1) = X % (P - 1) := by
    have w : X / d * v % ((P - 1) / d) * (k / d) * d % ((P - 1) / d * d) = X / d * d % ((P - 1) / d * d) := by
      rw [Nat.mul_mod_mul_right, Nat.mul_mod_mul_right, e1]
    rw [Nat.mul_assoc, ek, eN, eX] at w
    exact w
  rw [dl_ppow, dl_modn hP ho.2.1, e2, ← dl_modn hP ho.2.1]
  exact hX
theorem dl_root {post : Int32 → St1 → Prop} {P F h k : Nat} {a1 a2 a3 a4 : Nat → Int32} (hS : dl_S P F a1 a2) (h0 : 0 < h) (h1 : h < P) (k0 : 0 < k) (kl : k < 2040)
    (hp1 : h ^ ((P - 1) / Nat.gcd k (P - 1)) % P = 1 → ∀ (y : Nat) (b3 b4 : Nat → Int32), 0 < y → y < P → y ^ k % P = h → post (nI y) (nI P, nI (P - 1), nI F, a1, a2, b3, b4))
    (hp2 : h ^ ((P - 1) / Nat.gcd k (P - 1)) % P ≠ 1 → ∀ b3 b4 : Nat → Int32, post (-4) (nI P, nI (P - 1), nI F, a1, a2, b3, b4)) :
    wpX_root post (nI P, nI (P - 1), nI F, a1, a2, a3, a4) (nI h) (nI k) := by
  have hS' := hS
  obtain ⟨h3, hP2, ⟨c, G⟩, _⟩ := hS'
  have hP : 1 < P := by omega
  unfold wpX_root
  dsimp only
  refine dl_badRoot hP2 h0 h1 k0 kl (br_t rfl (dl_generator hS (fun g g0 g1 go => ?_)))
  refine dl_leastLog hS g0 g1 h0 h1 (fun n X no nN Xl eX b3 b4 => ?_) (fun z => ?_)
  · have nP : n = P - 1 := Nat.dvd_antisymm nN (go.2.2 n no.2.1)
    subst nP
    dsimp only
    refine dl_gcd kl (by omega) ?_
    have d0 : 0 < Nat.gcd k (P - 1) := Nat.gcd_pos_of_pos_left _ k0
    have dlk := Nat.gcd_le_left (P - 1) k0
    have dlN : Nat.gcd k (P - 1) ≤ P - 1 := Nat.gcd_le_right k (by omega)
    have dN := Nat.gcd_dvd_right k (P - 1)
    have hiff := dl_dvd hP go dN eX
    have cop : Nat.gcd (k / Nat.gcd k (P - 1)) ((P - 1) / Nat.gcd k (P - 1)) = 1 := Nat.gcd_div_gcd_div_gcd_of_pos_left k0
    have hrx := fun v => dl_rootx (k := k) (d := Nat.gcd k (P - 1)) (v := v) hP go eX rfl
    have q0 : 0 < (P - 1) / Nat.gcd k (P - 1) := Nat.div_pos dlN d0
    have tk : (g ^ ((P - 1) / Nat.gcd k (P - 1)) % P) ^ k % P = 1 := by
      have e : (P - 1) / Nat.gcd k (P - 1) * k = (P - 1) * (k / Nat.gcd k (P - 1)) := by
        rw [← Nat.mul_div_assoc _ (Nat.gcd_dvd_left k (P - 1)), Nat.mul_comm, ← Nat.mul_div_assoc _ dN, Nat.mul_comm]
      rw [dl_ppow, e]
      exact dl_k1 hP go.2.1 _
    generalize Nat.gcd k (P - 1) = d at *
    have ql := Nat.div_le_self (P - 1) d
    have kl2 := Nat.div_le_self k d
    have Xl2 := Nat.div_le_self X d
    have dn : ¬ nI d = 0 := nI_ne0 d0 (by omega)
    have Xr := Nat.mod_lt X d0
    refine pk_lt d 1 (fun z => absurd z (by omega)) (fun _ => ⟨dn, pk_eq (X % d) 0 (fun z => ?_) (fun z => ?_) (pk_rem (by omega) d0 (by omega))⟩)
    · have dX := Nat.dvd_of_mod_eq_zero z
      refine ⟨dn, nm_r (pk_div (by omega) d0 (by omega)) ⟨dn, ?_⟩⟩
      rw [pk_div (show k < 2 ^ 31 by omega) d0 (by omega), pk_div (show X < 2 ^ 31 by omega) d0 (by omega)]
      refine dl_invertBy q0 (by omega) (by omega) cop (fun v vl hv => ⟨dn, ?_⟩)
      refine dl_timesBy (by omega) (by omega) q0 (by omega) ?_
      have xl := Nat.mod_lt (X / d * v) q0
      refine dl_pow hP hP2 g1 (by omega) ?_
      refine dl_pow hP hP2 g1 (by omega) ?_
      exact dl_r113 hP hP2 G h1 (by omega) (dl_unit hP G g0 g1 _) (Nat.mod_lt _ (by omega)) tk (dl_unit hP G g0 g1 _) (Nat.mod_lt _ (by omega)) (hrx v dX hv) (fun y y0 y1 yk => hp1 (hiff.mpr dX) y b3 b4 y0 y1 yk)
    · exact hp2 (fun w => z (Nat.mod_eq_zero_of_dvd (hiff.mp w))) b3 b4
  · obtain ⟨X, _, e⟩ := dl_sub hP G g0 g1 go h0 h1 (dl_fermat hP G h0 h1)
    exact absurd e (z X)
end
section
theorem dl_factor {post : St1 → Prop} {P : Nat} {o f : Int32} {a1 a2 a3 a4 : Nat → Int32} (h3 : 3 ≤ P) (hP2 : P < 2040) (hc : ∃ c, dl_G P c) (hp : ∀ (F : Nat) (b1 b2 : Nat → Int32), dl_S P F b1 b2 → post (nI P, nI (P - 1), nI F, b1, b2, a3, a4)) : wpX_factor post (nI P, o, f, a1, a2, a3, a4) := by
  have e1 : nI P - 1 = nI (P - 1) := pk_sub (b := 1) (by omega)
  have hend : ∀ (d F : Nat) (b1 b2 : Nat → Int32) (B T : Nat → Nat), F ≤ 5 → dl_FI (P - 1) d 1 F B T → (∀ j, j < F → b1 j = nI (B j) ∧ b2 j = nI (T j)) → post (nI P, nI (P - 1), nI F, b1, b2, a3, a4) :=
    fun d F b1 b2 B T f5 hI hA => hp F b1 b2 ⟨h3, hP2, hc, B, T, dl_FI_end f5 hI, hA⟩
  unfold wpX_factor
  dsimp only
  refine nm_r e1 ?_
  refine pk_loop (σ := Nat × Nat × (Nat → Int32) × (Nat → Int32)) (fun n d s => wX_factor_22 post (nI P) (nI (P - 1)) n (nI s.1) (nI d) (nI s.2.1) s.2.2.1 s.2.2.2 a3 a4) (fun d s => s.2.1 ≤ 5 ∧ s.1 < 2039 ∧ ∃ B T : Nat → Nat, dl_FI (P - 1) d s.1 s.2.1 B T ∧ ∀ j, j < s.2.1 → s.2.2.1 j = nI (B j) ∧ s.2.2.2 j = nI (T j)) 2040 2 (P - 1, 0, a1, a2) (by omega) ⟨Nat.zero_le 5, show P - 1 < 2039 by omega, fun _ => 0, fun _ => 0, dl_FI_0 (by omega) _ _, fun j hj => absurd hj (Nat.not_lt_zero j)⟩ ?_ ?_
  · intro n s hs
    obtain ⟨r, F, b1, b2⟩ := s
    obtain ⟨f5, rl, B, T, hI, hA⟩ := hs
    have hI' : dl_FI (P - 1) 2040 r F B T := hI
    have r1 := dl_FI_last (by omega) (by omega) hI'
    subst r1
    exact pk_lt 2039 2040 (fun _ => hend 2040 F b1 b2 B T f5 hI' hA) (fun z => absurd z (by omega))
  · intro n d s hd hs hw
    obtain ⟨r, F, b1, b2⟩ := s
    obtain ⟨f5', rl', B, T, hI', hA'⟩ := hs
    have f5 : F ≤ 5 := f5'
    have rl : r < 2039 := rl'
    have hI : dl_FI (P - 1) d r F B T := hI'
    have hA : ∀ j, j < F → b1 j = nI (B j) ∧ b2 j = nI (T j) := hA'
    have r0 := hI.1
    have d2 := hI.2.1
    have dn : ¬ nI d = 0 := nI_ne0 (by omega) (by omega)
    refine pk_lt 2039 d (fun z => absurd z (by omega)) (fun _ => pk_le r 1 (fun z => ?_) (fun z => ?_) rfl rfl (show r < 2 ^ 31 by omega))
    · have r1 : r = 1 := by omega
      subst r1
      exact hend d F b1 b2 B T f5 hI hA
    · have rd := Nat.mod_lt r (show d > 0 by omega)
      refine ⟨dn, pk_eq (r % d) 0 (fun y => ?_) (fun y => ?_) (pk_rem (by omega) (by omega) (by omega))⟩
      · have dr := Nat.dvd_of_mod_eq_zero y
        have F5 := dl_FI_lt5 (by omega) f5 hI dr
        have hcF : (nI F).toNatClampNeg = F := nI_clamp (by omega)
        refine pk_le 5 F (fun z => absurd z (by omega)) (fun _ => ⟨pk_in F 5 F5, nm_e ⟨pk_in F 5 F5, nm_e ?_⟩⟩) rfl rfl (by omega) (show F < 2 ^ 31 by omega)
        refine pk_loop (σ := Nat × (Nat → Int32)) (fun n' i s => wX_factor_70 post (wX_factor_22 post (nI P) (nI (P - 1)) n) (nI d) (nI P) (nI (P - 1)) (nI F) n' (nI s.1) (nI i) (upd b1 (nI F).toNatClampNeg (nI d)) s.2 a3 a4) (fun i s => 0 < s.1 ∧ s.1 * d ^ i = r ∧ s.2 F = nI i ∧ ∀ j, j < F → s.2 j = b2 j) 12 0 (r, upd b2 (nI F).toNatClampNeg 0) (by omega) ⟨r0, ?_, ?_, ?_⟩ ?_ ?_
        · show r * d ^ 0 = r
          rw [Nat.pow_zero, Nat.mul_one]
        · show upd b2 (nI F).toNatClampNeg 0 F = nI 0
          rw [hcF, pk_us]
          rfl
        · intro j hj
          show upd b2 (nI F).toNatClampNeg 0 j = b2 j
          rw [hcF, pk_un (by omega)]
        · intro n' s hs
          obtain ⟨t, c2⟩ := s
          have t0 : 0 < t := hs.1
          have e : t * d ^ 12 = r := hs.2.1
          have l1 : 2 ^ 12 ≤ d ^ 12 := Nat.pow_le_pow_left (by omega) 12
          have l2 := Nat.le_mul_of_pos_left (d ^ 12) t0
          omega
        · intro n' i s hi hs hw'
          obtain ⟨t, c2⟩ := s
          have t0 : 0 < t := hs.1
          have e : t * d ^ i = r := hs.2.1
          have cF : c2 F = nI i := hs.2.2.1
          have cj : ∀ j, j < F → c2 j = b2 j := hs.2.2.2
          have tl : t ≤ r := by
            rw [← e]
            exact Nat.le_mul_of_pos_right t (Nat.pow_pos (by omega))
          have td := Nat.mod_lt t (show d > 0 by omega)
          refine pk_le 12 i (fun z => absurd z (by omega)) (fun _ => ⟨dn, pk_eq (t % d) 0 (fun w => ?_) (fun w => ?_) (pk_rem (by omega) (by omega) (by omega))⟩)
          · have dt := Nat.dvd_of_mod_eq_zero w
            have eu : upd c2 (nI F).toNatClampNeg (c2 (nI F).toNatClampNeg + 1) = upd c2 F (nI (i + 1)) := by
              rw [hcF, cF, nI_1]
            refine ⟨dn, nm_r (pk_div (show t < 2 ^ 31 by omega) (by omega) (by omega)) ⟨pk_in F 5 F5, pk_in F 5 F5, nm_r eu (nm_r (nI_1 i) (hw' (t / d, upd c2 F (nI (i + 1))) ⟨?_, ?_, ?_, ?_⟩))⟩⟩
            · exact Nat.div_pos (Nat.le_of_dvd t0 dt) (by omega)
            · show t / d * d ^ (i + 1) = r
              rw [Nat.pow_succ, Nat.mul_comm (d ^ i), ← Nat.mul_assoc, Nat.div_mul_cancel dt]
              exact e
            · show upd c2 F (nI (i + 1)) F = nI (i + 1)
              exact pk_us
            · intro j hj
              show upd c2 F (nI (i + 1)) j = b2 j
              rw [pk_un (by omega)]
              exact cj j hj
          · have i0 : 0 < i := by
              rcases Nat.eq_zero_or_pos i with z | z
              · subst z
                rw [Nat.pow_zero, Nat.mul_one] at e
                subst e
                exact absurd y w
              · exact z
            unfold wX_factor_112
            refine nm_r (nI_1 F) (nm_r (nI_1 d) (hw (t, F + 1, upd b1 (nI F).toNatClampNeg (nI d), c2) ⟨F5, show t < 2039 by omega, dl_up B F d, dl_up T F i, ?_, ?_⟩))
            · exact dl_FI_yes hI t0 i0 e (fun v => w (Nat.mod_eq_zero_of_dvd v)) (fun j hj => ⟨dl_up_n (by omega), dl_up_n (by omega)⟩) dl_up_s dl_up_s
            · intro j hj
              have hj' : j < F + 1 := hj
              show upd b1 (nI F).toNatClampNeg (nI d) j = nI (dl_up B F d j) ∧ c2 j = nI (dl_up T F i j)
              rw [hcF]
              by_cases z : j = F
              · rw [z, pk_us, dl_up_s, dl_up_s]
                exact ⟨rfl, cF⟩
              · rw [pk_un z, dl_up_n z, dl_up_n z, cj j (by omega)]
                exact hA j (by omega)
      · exact nm_r (nI_1 d) (hw (r, F, b1, b2) ⟨f5, rl, B, T, dl_FI_no hI (fun w => y (Nat.mod_eq_zero_of_dvd w)), hA⟩)
theorem dl_isPrime {post : Int32 → Prop} {n : Nat} {p o f : Int32} {a1 a2 a3 a4 : Nat → Int32} (n2 : 2 ≤ n) (hn : n < 2040) (hp1 : (∀ d, 2 ≤ d → d < 50 → d * d ≤ n → n % d ≠ 0) → post 1) (hp0 : post 0) : wpX_isPrime post (p, o, f, a1, a2, a3, a4) (nI n) := by
  refine pk_le 2 n (fun _ => ?_) (fun z => absurd z (by omega))
  refine pk_loop (σ := Unit) (fun m d _ => wX_isPrime_9 post (nI n) p o f a1 a2 a3 a4 m (nI d)) (fun d _ => 2 ≤ d ∧ ∀ e, 2 ≤ e → e < d → n % e ≠ 0) 50 2 () (by omega) ⟨by omega, fun e h1 h2 => absurd h2 (by omega)⟩ ?_ ?_
  · intro m _ hI
    exact pk_lt n (50 * 50) (fun _ => hp1 (fun d d2 d5 _ => hI.2 d d2 d5)) (fun z => absurd z (by omega)) rfl (pk_mul 50 50)
  · intro m d _ hd hI hw
    have d2 := hI.1
    have dd := Nat.mul_le_mul (show d ≤ 50 by omega) (show d ≤ 50 by omega)
    have nd := Nat.mod_lt n (show d > 0 by omega)
    refine pk_lt n (d * d) (fun z => hp1 (fun e e2 _ el => hI.2 e e2 ?_)) (fun z => pk_le 50 d (fun y => absurd y (by omega)) (fun _ => ⟨nI_ne0 (by omega) (by omega), pk_eq (n % d) 0 (fun _ => hp0) (fun y => nm_r (nI_1 d) (hw () ⟨by omega, fun e e2 ed => ?_⟩)) (pk_rem (by omega) (by omega) (by omega))⟩)) rfl (pk_mul d d)
    · rcases Nat.lt_or_ge e d with w | w
      · exact w
      · have := Nat.mul_le_mul w w
        omega
    · by_cases w : e = d
      · rw [w]
        exact y
      · exact hI.2 e e2 (by omega)
theorem dl_prime {post : Int32 → St1 → Prop} {P F x : Nat} {a1 a2 a3 a4 : Nat → Int32} (hS : dl_S P F a1 a2) (hx : x < 2048) (hp : ∀ (r : Int32) (P' F' : Nat) (b1 b2 : Nat → Int32), dl_S P' F' b1 b2 → post r (nI P', nI (P' - 1), nI F', b1, b2, a3, a4)) : wpX_prime post (nI P, nI (P - 1), nI F, a1, a2, a3, a4) (nI x) := by
  have h24 : wX_prime_24 post (nI x) (nI P) (nI (P - 1)) (nI F) a1 a2 a3 a4 := by
    unfold wX_prime_24 wX_prime_25
    exact br_t rfl (hp (-1) P F a1 a2 hS)
  unfold wpX_prime
  dsimp only
  refine pk_lt x 3 (fun _ => h24) (fun z3 => pk_lt 2039 x (fun _ => h24) (fun z => dl_isPrime (by omega) (by omega) (fun hd => br_f (by decide) ?_) (br_t rfl h24)))
  unfold wX_prime_25
  exact br_f (by decide) (dl_factor z3 (by omega) (dl_prim z3 (by omega) hd) (fun F' b1 b2 h => hp _ x F' b1 b2 h))
theorem dl_nextPrime {post : Int32 → St1 → Prop} {P F : Nat} {a1 a2 a3 a4 : Nat → Int32} (hS : dl_S P F a1 a2) (hp : ∀ (r : Int32) (P' F' : Nat) (b1 b2 : Nat → Int32), dl_S P' F' b1 b2 → post r (nI P', nI (P' - 1), nI F', b1, b2, a3, a4)) : wpX_nextPrime post (nI P, nI (P - 1), nI F, a1, a2, a3, a4) := by
  have h3 := hS.1
  have hP2 := hS.2.1
  unfold wpX_nextPrime
  dsimp only
  refine nm_r (nI_1 P) ?_
  refine pk_loop (σ := Unit) (fun n i _ => wX_nextPrime_7 post (nI P) (nI (P - 1)) (nI F) a1 a2 a3 a4 n (nI i)) (fun i _ => 3 ≤ i) 2040 (P + 1) () (by omega) (by omega) ?_ ?_
  · intro n _ _
    exact pk_lt 2039 2040 (fun _ => hp (-4) P F a1 a2 hS) (fun z => absurd z (by omega))
  · intro n i _ hi i3 hw
    have i3' : 3 ≤ i := i3
    refine pk_lt 2039 i (fun z => absurd z (by omega)) (fun _ => dl_isPrime (by omega) hi (fun hd => br_f (by decide) ?_) (br_t rfl (nm_r (nI_1 i) (hw () (by omega)))))
    exact dl_factor i3' hi (dl_prim i3' hi hd) (fun F' b1 b2 h => hp _ i F' b1 b2 h)
theorem dl_init {post : St1 → Prop} (hp : ∀ (P F : Nat) (b1 b2 b3 b4 : Nat → Int32), dl_S P F b1 b2 → post (nI P, nI (P - 1), nI F, b1, b2, b3, b4)) : wpX_init post 4 266 (0, 0, 0) := by
  refine ⟨by omega, by omega, by omega, by omega, by omega, by omega, by omega, by omega, ?_⟩
  refine dl_factor (P := 3) (by omega) (by omega) (dl_prim (by omega) (by omega) (fun d d2 _ dd => ?_)) (fun F b1 b2 h => hp 3 F b1 b2 _ _ h)
  have := Nat.mul_le_mul d2 d2
  omega
end
section
theorem dl_n4 {n : Nat} (h : n < 2 ^ 31) : ¬ nI n = -4 := by
  intro e
  have w := congrArg Int32.toInt e
  rw [nI_toInt h, show (-4 : Int32).toInt = -4 by decide] at w
  omega
theorem dl_arg (x : Int32) {P : Nat} (h3 : 3 ≤ P) (hP2 : P < 2040) : ∃ g, 0 < g ∧ g < P ∧ 1 + ((x &&& 2047) - (x &&& 2047) / (nI P - 1) * (nI P - 1)) = nI g := by
  obtain ⟨j, hj, e⟩ := pk_andE x (m := 2047) 11 (by decide)
  have ep : nI P - 1 = nI (P - 1) := pk_sub (b := 1) (by omega)
  have l := Nat.mod_lt j (show P - 1 > 0 by omega)
  refine ⟨1 + j % (P - 1), by omega, by omega, ?_⟩
  rw [e, ep, pk_rem (by omega) (by omega) (by omega)]
  exact nI_add 1 _
theorem dl_argx (x : Int32) : ∃ t, t ≤ 1000000 ∧ (x &&& 1048575) - (x &&& 1048575) / 1000001 * 1000001 = nI t := by
  obtain ⟨j, hj, e⟩ := pk_andE x (m := 1048575) 20 (by decide)
  refine ⟨j % 1000001, by omega, ?_⟩
  rw [e]
  exact pk_rem (d := 1000001) (by omega) (by omega) (by omega)
theorem dl_argk (x : Int32) : ∃ k, 0 < k ∧ k < 2040 ∧ 1 + (x &&& 1023) = nI k := by
  obtain ⟨j, hj, e⟩ := pk_andE x (m := 1023) 10 (by decide)
  refine ⟨1 + j, by omega, by omega, ?_⟩
  rw [e]
  exact nI_add 1 _
theorem dl_argy {x i : Nat} (hx : x ≤ 1000000) (hi : i < 8) : (nI x + nI i * 1021) - (nI x + nI i * 1021) / 1000001 * 1000001 = nI ((x + i * 1021) % 1000001) := by
  have e : nI x + nI i * 1021 = nI (x + i * 1021) := by
    rw [show (1021 : Int32) = nI 1021 from rfl, pk_mul, nI_add]
  rw [e]
  exact pk_rem (d := 1000001) (by omega) (by omega) (by omega)
theorem dl_197 {post : Int32 → Prop} {L : Nat} {xs : Nat → Int32} {J : Int32 → Int32 → Int32 → Int32 → (Nat → Int32) → (Nat → Int32) → (Nat → Int32) → (Nat → Int32) → Prop} {x2 x3 : Int32} {P F i g h x k n kc ks : Nat} {a1 a2 a3 a4 : Nat → Int32} (hS : dl_S P F a1 a2) (hi : i < 8) (g0 : 0 < g) (g1 : g < P) (h0 : 0 < h) (h1 : h < P) (hx : x ≤ 1000000) (k0 : 0 < k) (kl : k < 2040) (ho : dl_ord P g n) (hn : n ∣ P - 1)
    (hJ : ∀ b3 b4 : Nat → Int32, J (nI (i + 1)) (nI P) (nI (P - 1)) (nI F) a1 a2 b3 b4) :
    wL_law_197 post L xs J x2 x3 (nI i) (nI g) (nI h) (nI x) (nI k) (nI n) kc ks (nI P) (nI (P - 1)) (nI F) a1 a2 a3 a4 := by
  have h3 := hS.1
  have hP2 := hS.2.1
  have hP : 1 < P := by omega
  obtain ⟨c, G⟩ := hS.2.2.1
  have n0 := ho.1
  have nl := Nat.le_of_dvd (by omega) hn
  unfold wL_law_197
  refine ⟨by decide, nm_r (dl_argy hx hi) ?_⟩
  have yl := Nat.mod_lt (x + i * 1021) (show 1000001 > 0 by omega)
  generalize (x + i * 1021) % 1000001 = y at *
  refine dl_power hP hP2 g0 g1 (by omega) ?_
  refine dl_log hS g0 g1 (dl_unit hP G g0 g1 y) (Nat.mod_lt _ (by omega)) (fun n' X no nN Xl eX b3 b4 => ?_) (fun z => absurd rfl (z y))
  have nn : n' = n := Nat.dvd_antisymm (no.2.2 n ho.2.1) (ho.2.2 n' no.2.1)
  subst nn
  have Xy : X = y % n' := by
    have w := dl_eqm hP ho eX
    rw [Nat.mod_eq_of_lt Xl] at w
    exact w
  refine ⟨nI_ne0 n0 (by omega), br_t ?_ ?_⟩
  · rw [pk_rem (by omega) n0 (by omega), Xy]
  · have d0 : 0 < Nat.gcd k (P - 1) := Nat.gcd_pos_of_pos_left _ k0
    have dlk := Nat.gcd_le_left (P - 1) k0
    refine dl_roots hS h0 h1 k0 kl (fun z => ?_) (fun z => ?_)
    · refine dl_root hS h0 h1 k0 kl (fun _ w c3 c4 w0 w1 wk => ?_) (fun z' => absurd z z')
      refine pk_lt (Nat.gcd k (P - 1)) 0 (fun q => absurd q (by omega)) (fun _ => br_f (nI_ne0 d0 (by omega)) ?_)
      unfold wL_law_274
      refine br_f (dl_n4 (by omega)) ?_
      unfold wL_law_286
      refine br_t rfl (br_f (dl_n4 (by omega)) ?_)
      refine dl_power hP hP2 w0 w1 (by omega) ?_
      rw [wk]
      exact br_t rfl (nm_r (nI_1 i) (hJ c3 c4))
    · refine dl_root hS h0 h1 k0 kl (fun z' => absurd z' z) (fun _ c3 c4 => ?_)
      refine pk_lt 0 0 (fun q => absurd q (by omega)) (fun _ => br_t rfl ?_)
      unfold wL_law_274
      refine br_t rfl ?_
      unfold wL_law_286
      exact br_t rfl (br_t rfl (nm_r (nI_1 i) (hJ c3 c4)))
theorem dl_law73 {post : Int32 → Prop} {L : Nat} {xs : Nat → Int32} {x2 : Int32} {P F kc ks : Nat} {a1 a2 a3 a4 : Nat → Int32} (hS : dl_S P F a1 a2) (hp : post 1) : ∃ n, wL_law_73 post L xs x2 (nI P) kc ks n 0 (nI P) (nI (P - 1)) (nI F) a1 a2 a3 a4 := by
  have h3 := hS.1
  have hP2 := hS.2.1
  have hP : 1 < P := by omega
  have ne : ¬ nI P - 1 = 0 := by
    rw [show nI P - 1 = nI (P - 1) from pk_sub (b := 1) (by omega)]
    exact nI_ne0 (by omega) (by omega)
  refine pk_loop (σ := (Nat → Int32) × (Nat → Int32)) (fun n i s => wL_law_73 post L xs x2 (nI P) kc ks n (nI i) (nI P) (nI (P - 1)) (nI F) a1 a2 s.1 s.2) (fun _ _ => True) 8 0 (a3, a4) (by omega) trivial ?_ ?_
  · intro n s _
    exact pk_le 8 8 (fun _ => hp) (fun z => absurd z (by omega))
  · intro m i s hi _ hw
    obtain ⟨b3, b4⟩ := s
    obtain ⟨g, g0, g1, eg⟩ := dl_arg (x2 >>> (nI i &&& 31)) h3 hP2
    obtain ⟨h, h0, h1, eh⟩ := dl_arg (x2 >>> ((3 * nI i) &&& 31)) h3 hP2
    obtain ⟨x, hx, ex⟩ := dl_argx (x2 >>> ((5 : Int32) &&& 31))
    obtain ⟨k, k0, kl, ek⟩ := dl_argk (x2 >>> ((2 * nI i) &&& 31))
    refine pk_le 8 i (fun z => absurd z (by omega)) (fun _ => ⟨ne, nm_r eg ⟨ne, nm_r eh ⟨by decide, nm_r ex (nm_r ek ?_)⟩⟩⟩)
    refine dl_order hS g0 g1 (fun n no nN => ?_)
    have n0 := no.1
    have nl := Nat.le_of_dvd (by omega) nN
    refine dl_log hS g0 g1 h0 h1 (fun n' X no' nN' Xl eX c3 c4 => ?_) (fun z => ?_)
    · have nn : n' = n := Nat.dvd_antisymm (no'.2.2 n no.2.1) (no.2.2 n' no'.2.1)
      subst nn
      refine pk_lt n' 1 (fun z => absurd z (by omega)) (fun _ => br_f (dl_n4 (by omega)) (pk_lt X 0 (fun z => absurd z (by omega)) (fun _ => pk_le n' X (fun z => absurd z (by omega)) (fun _ => dl_power hP hP2 g0 g1 (by omega) ?_))))
      rw [eX]
      exact br_t rfl (dl_197 hS hi g0 g1 h0 h1 hx k0 kl no nN (fun d3 d4 => hw (d3, d4) trivial))
    · refine pk_lt n 1 (fun z => absurd z (by omega)) (fun _ => br_t rfl ?_)
      exact dl_197 hS hi g0 g1 h0 h1 hx k0 kl no nN (fun d3 d4 => hw (d3, d4) trivial)
theorem dl_law10 {post : Int32 → Prop} {L : Nat} {xs : Nat → Int32} {P F kc ks : Nat} {a1 a2 a3 a4 : Nat → Int32} (hL : L ≤ 260) (hS : dl_S P F a1 a2) (hp : post 1) : ∃ n, wL_law_10 post L xs kc ks n 1 (nI P) (nI (P - 1)) (nI F) a1 a2 a3 a4 := by
  have h64 : ∀ (z0 : Int32) (P' F' : Nat) (b1 b2 b3 b4 : Nat → Int32), dl_S P' F' b1 b2 → wL_law_64 post L xs z0 kc ks (nI P') (nI (P' - 1)) (nI F') b1 b2 b3 b4 := by
    intro z0 P' F' b1 b2 b3 b4 h
    unfold wL_law_64
    exact dl_law73 h hp
  refine pk_loop (σ := Nat × Nat × (Nat → Int32) × (Nat → Int32) × (Nat → Int32) × (Nat → Int32)) (fun n i s => wL_law_10 post L xs kc ks n (nI i) (nI s.1) (nI (s.1 - 1)) (nI s.2.1) s.2.2.1 s.2.2.2.1 s.2.2.2.2.1 s.2.2.2.2.2) (fun _ s => dl_S s.1 s.2.1 s.2.2.1 s.2.2.2.1) (max 1 L) 1 (P, F, a1, a2, a3, a4) (by omega) hS ?_ ?_
  · intro n s hs
    exact pk_le L (max 1 L) (fun _ => pk_le L 0 (fun _ => h64 0 _ _ _ _ _ _ hs) (fun z => ⟨pk_in 0 L z, h64 _ _ _ _ _ _ _ hs⟩)) (fun z => absurd z (by omega))
  · intro n i s hi hs hw
    obtain ⟨P', F', b1, b2, b3, b4⟩ := s
    have hs' : dl_S P' F' b1 b2 := hs
    refine pk_le L i (fun _ => pk_le L 0 (fun _ => h64 0 _ _ _ _ _ _ hs) (fun z => ⟨pk_in 0 L z, h64 _ _ _ _ _ _ _ hs⟩)) (fun z => ⟨pk_in i L z, nm_e (br_c (fun _ => ?_) (fun _ => ?_))⟩)
    · obtain ⟨j, hj, e⟩ := pk_andE (xs (nI i).toNatClampNeg >>> ((2 : Int32) &&& 31)) (m := 2047) 11 (by decide)
      rw [e]
      exact dl_prime hs' hj (fun r P'' F'' c1 c2 h => nm_r (nI_1 i) (hw (P'', F'', c1, c2, b3, b4) h))
    · exact dl_nextPrime hs' (fun r P'' F'' c1 c2 h => nm_r (nI_1 i) (hw (P'', F'', c1, c2, b3, b4) h))
end
section
theorem i_vc (xs : Nat → Int32) (L : Nat) (hL : L ≤ 260) : wpL_law (fun r => r = 1) L xs := by
  refine ⟨4, 266, by omega, by omega, dl_init (fun P F b1 b2 b3 b4 hS => ?_)⟩
  exact dl_law10 hL hS rfl
end
