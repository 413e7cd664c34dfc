section
/-! the pure picture: the printed prime test, and the table up to 30000 -/
def qd_odd : Nat → Nat → Nat
  | 0, x => x
  | f + 1, x => if x % 2 = 0 then qd_odd f (x / 2) else x
def qd_two : Nat → Nat → Nat
  | 0, _ => 0
  | f + 1, x => if x % 2 = 0 then qd_two f (x / 2) + 1 else 0
def qd_sq (n : Nat) : Nat → Nat → Bool
  | 0, _ => false
  | f + 1, x => if x * x % n = n - 1 then true else qd_sq n f (x * x % n)
def qd_pb (n b o t : Nat) : Bool := if b ^ o % n = 1 then true else if b ^ o % n = n - 1 then true else qd_sq n (t - 1) (b ^ o % n)
def qd_pass (n b : Nat) : Bool := qd_pb n b (qd_odd 15 (n - 1)) (qd_two 15 (n - 1))
def qd_pt (n : Nat) : Bool := if n < 4 then decide (1 < n) else if n % 2 = 0 then false else if n % 3 = 0 then false else (qd_pass n 2 && qd_pass n 3)
/-- the search for a rest that is no square: the first whose power isn't 1 has the power p - 1 -/
def qd_or (p : Nat) : Nat → Nat → Bool
  | 0, _ => false
  | f + 1, o => if o ^ ((p - 1) / 2) % p = 1 then qd_or p f (o + 1) else decide (o ^ ((p - 1) / 2) % p = p - 1)
def qd_pl : List Nat := [2, 3, 5, 7, 11, 13, 17, 19, 23, 29, 31, 37, 41, 43, 47, 53, 59, 61, 67, 71, 73, 79, 83, 89, 97, 101, 103, 107, 109, 113, 127, 131, 137, 139, 149, 151, 157, 163, 167, 173]
def qd_sp (n : Nat) : Bool := qd_pl.all (fun q => if n % q = 0 then decide (n = q) else true)
def qd_ck (n : Nat) : Bool := if (qd_pass n 2 && qd_pass n 3) = true then (qd_sp n && qd_or n 40 2) else !qd_sp n
def qd_rg (a : Nat) : Nat → Bool
  | 0 => true
  | k + 1 => qd_ck (6 * (a + k) + 5) && (qd_ck (6 * (a + k) + 7) && qd_rg a k)
theorem qd_rg_of {a : Nat} : ∀ k, qd_rg a k = true → ∀ j, a ≤ j → j < a + k → qd_ck (6 * j + 5) = true ∧ qd_ck (6 * j + 7) = true
  | 0, _ => fun j h1 h2 => absurd h2 (by omega)
  | k + 1, h => fun j h1 h2 => by
    rw [qd_rg, Bool.and_eq_true, Bool.and_eq_true] at h
    by_cases e : j = a + k
    · rw [e]
      exact ⟨h.1, h.2.1⟩
    · exact qd_rg_of k h.2.2 j h1 (by omega)
theorem qd_t0 : qd_rg 0 250 = true := by decide +kernel
theorem qd_t1 : qd_rg 250 250 = true := by decide +kernel
theorem qd_t2 : qd_rg 500 250 = true := by decide +kernel
theorem qd_t3 : qd_rg 750 250 = true := by decide +kernel
theorem qd_t4 : qd_rg 1000 250 = true := by decide +kernel
theorem qd_t5 : qd_rg 1250 250 = true := by decide +kernel
theorem qd_t6 : qd_rg 1500 250 = true := by decide +kernel
theorem qd_t7 : qd_rg 1750 250 = true := by decide +kernel
theorem qd_t8 : qd_rg 2000 250 = true := by decide +kernel
theorem qd_t9 : qd_rg 2250 250 = true := by decide +kernel
theorem qd_t10 : qd_rg 2500 250 = true := by decide +kernel
theorem qd_t11 : qd_rg 2750 250 = true := by decide +kernel
theorem qd_t12 : qd_rg 3000 250 = true := by decide +kernel
theorem qd_t13 : qd_rg 3250 250 = true := by decide +kernel
theorem qd_t14 : qd_rg 3500 250 = true := by decide +kernel
theorem qd_t15 : qd_rg 3750 250 = true := by decide +kernel
theorem qd_t16 : qd_rg 4000 250 = true := by decide +kernel
theorem qd_t17 : qd_rg 4250 250 = true := by decide +kernel
theorem qd_t18 : qd_rg 4500 250 = true := by decide +kernel
theorem qd_t19 : qd_rg 4750 250 = true := by decide +kernel
theorem qd_tab (j : Nat) (h : j < 5000) : qd_ck (6 * j + 5) = true ∧ qd_ck (6 * j + 7) = true := by
  by_cases h0 : j < 250
  · exact qd_rg_of _ qd_t0 j (by omega) (by omega)
  by_cases h1 : j < 500
  · exact qd_rg_of _ qd_t1 j (by omega) (by omega)
  by_cases h2 : j < 750
  · exact qd_rg_of _ qd_t2 j (by omega) (by omega)
  by_cases h3 : j < 1000
  · exact qd_rg_of _ qd_t3 j (by omega) (by omega)
  by_cases h4 : j < 1250
  · exact qd_rg_of _ qd_t4 j (by omega) (by omega)
  by_cases h5 : j < 1500
  · exact qd_rg_of _ qd_t5 j (by omega) (by omega)
  by_cases h6 : j < 1750
  · exact qd_rg_of _ qd_t6 j (by omega) (by omega)
  by_cases h7 : j < 2000
  · exact qd_rg_of _ qd_t7 j (by omega) (by omega)
  by_cases h8 : j < 2250
  · exact qd_rg_of _ qd_t8 j (by omega) (by omega)
  by_cases h9 : j < 2500
  · exact qd_rg_of _ qd_t9 j (by omega) (by omega)
  by_cases h10 : j < 2750
  · exact qd_rg_of _ qd_t10 j (by omega) (by omega)
  by_cases h11 : j < 3000
  · exact qd_rg_of _ qd_t11 j (by omega) (by omega)
  by_cases h12 : j < 3250
  · exact qd_rg_of _ qd_t12 j (by omega) (by omega)
  by_cases h13 : j < 3500
  · exact qd_rg_of _ qd_t13 j (by omega) (by omega)
  by_cases h14 : j < 3750
  · exact qd_rg_of _ qd_t14 j (by omega) (by omega)
  by_cases h15 : j < 4000
  · exact qd_rg_of _ qd_t15 j (by omega) (by omega)
  by_cases h16 : j < 4250
  · exact qd_rg_of _ qd_t16 j (by omega) (by omega)
  by_cases h17 : j < 4500
  · exact qd_rg_of _ qd_t17 j (by omega) (by omega)
  by_cases h18 : j < 4750
  · exact qd_rg_of _ qd_t18 j (by omega) (by omega)
  exact qd_rg_of _ qd_t19 j (by omega) (by omega)
end
section
/-! primes and rests, without the program -/
def qd_prime (p : Nat) : Prop := 2 ≤ p ∧ ∀ d, d ∣ p → d = 1 ∨ d = p
theorem qd_plq : ∀ d, d < 174 → 2 ≤ d → qd_pl.any (fun q => d % q == 0) = true := by decide +kernel
theorem qd_pl2 : ∀ q, q ∈ qd_pl → 2 ≤ q := by decide +kernel
theorem qd_sp_prime {n : Nat} (h2 : 2 ≤ n) (hn : n ≤ 30000) (h : qd_sp n = true) : qd_prime n := by
  have hall : ∀ q, q ∈ qd_pl → q ∣ n → n = q := by
    intro q hq hd
    have t := (List.all_eq_true.mp h) q hq
    rw [if_pos (Nat.mod_eq_zero_of_dvd hd)] at t
    exact of_decide_eq_true t
  have key : ∀ e, e ∣ n → 2 ≤ e → e < 174 → n ∣ e := by
    intro e he h2e hl
    obtain ⟨q, hq, hqe⟩ := List.any_eq_true.mp (qd_plq e hl h2e)
    have hqe' : q ∣ e := Nat.dvd_of_mod_eq_zero (by simpa using hqe)
    have t := hall q hq (Nat.dvd_trans hqe' he)
    rw [t]
    exact hqe'
  refine ⟨h2, fun d hd => ?_⟩
  by_cases d1 : d = 1
  · exact Or.inl d1
  by_cases dn : d = n
  · exact Or.inr dn
  exfalso
  have hd' := hd
  obtain ⟨c, hc⟩ := hd
  have d0 : d ≠ 0 := fun z => by
    rw [z, Nat.zero_mul] at hc
    omega
  have c0 : c ≠ 0 := fun z => by
    rw [z, Nat.mul_zero] at hc
    omega
  have c1 : c ≠ 1 := fun z => by
    rw [z, Nat.mul_one] at hc
    exact dn hc.symm
  by_cases hl : d < 174
  · have t := Nat.le_of_dvd (by omega) (key d hd' (by omega) hl)
    have t2 : d * 2 ≤ d * c := Nat.mul_le_mul_left d (by omega)
    omega
  · have hcl : c < 174 := by
      rcases Nat.lt_or_ge c 174 with z | z
      · exact z
      · have t2 : 174 * 174 ≤ d * c := Nat.mul_le_mul (by omega) z
        omega
    have t := Nat.le_of_dvd (by omega) (key c ⟨d, by rw [hc, Nat.mul_comm]⟩ (by omega) hcl)
    have t2 : 2 * c ≤ d * c := Nat.mul_le_mul_right c (by omega)
    omega
theorem qd_sp_comp {n : Nat} (h2 : 2 ≤ n) (h : qd_sp n = false) : ∃ d, d ∣ n ∧ 1 < d ∧ d < n := by
  obtain ⟨q, hq, hz⟩ := List.all_eq_false.mp h
  by_cases e : n % q = 0
  · rw [if_pos e] at hz
    have hne : ¬ n = q := fun z => hz (decide_eq_true z)
    have hd := Nat.dvd_of_mod_eq_zero e
    have hle := Nat.le_of_dvd (by omega) hd
    have := qd_pl2 q hq
    exact ⟨q, hd, by omega, by omega⟩
  · rw [if_neg e] at hz
    exact absurd rfl hz
theorem qd_ck_n {n : Nat} (hn : n ≤ 30000) (h4 : 4 ≤ n) (h2 : ¬ n % 2 = 0) (h3 : ¬ n % 3 = 0) : qd_ck n = true := by
  by_cases h : n % 6 = 5
  · have e : 6 * (n / 6) + 5 = n := by omega
    have t := (qd_tab (n / 6) (by omega)).1
    rw [e] at t
    exact t
  · have e : 6 * (n / 6 - 1) + 7 = n := by omega
    have t := (qd_tab (n / 6 - 1) (by omega)).2
    rw [e] at t
    exact t
theorem qd_pt_true {n : Nat} (hn : n ≤ 30000) (h : qd_pt n = true) : qd_prime n ∧ (n = 2 ∨ (n % 2 = 1 ∧ qd_or n 40 2 = true)) := by
  unfold qd_pt at h
  by_cases h4 : n < 4
  · rw [if_pos h4] at h
    have h1 := of_decide_eq_true h
    have e : n = 2 ∨ n = 3 := by omega
    rcases e with e | e
    · subst e
      exact ⟨qd_sp_prime (by omega) (by omega) (by decide +kernel), Or.inl rfl⟩
    · subst e
      exact ⟨qd_sp_prime (by omega) (by omega) (by decide +kernel), Or.inr ⟨rfl, by decide +kernel⟩⟩
  rw [if_neg h4] at h
  by_cases h2 : n % 2 = 0
  · rw [if_pos h2] at h
    exact absurd h (by decide)
  rw [if_neg h2] at h
  by_cases h3 : n % 3 = 0
  · rw [if_pos h3] at h
    exact absurd h (by decide)
  rw [if_neg h3] at h
  have t := qd_ck_n hn (by omega) h2 h3
  unfold qd_ck at t
  rw [if_pos h, Bool.and_eq_true] at t
  exact ⟨qd_sp_prime (by omega) hn t.1, Or.inr ⟨by omega, t.2⟩⟩
theorem qd_pt_false {n : Nat} (hn : n ≤ 30000) (h2n : 2 ≤ n) (h : qd_pt n = false) : ∃ d, d ∣ n ∧ 1 < d ∧ d < n := by
  unfold qd_pt at h
  by_cases h4 : n < 4
  · rw [if_pos h4] at h
    exact absurd (by omega : 1 < n) (of_decide_eq_false h)
  rw [if_neg h4] at h
  by_cases h2 : n % 2 = 0
  · exact ⟨2, Nat.dvd_of_mod_eq_zero h2, by omega, by omega⟩
  rw [if_neg h2] at h
  by_cases h3 : n % 3 = 0
  · exact ⟨3, Nat.dvd_of_mod_eq_zero h3, by omega, by omega⟩
  rw [if_neg h3] at h
  have t := qd_ck_n hn (by omega) h2 h3
  unfold qd_ck at t
  have h' : ¬ (qd_pass n 2 && qd_pass n 3) = true := by
    rw [h]
    decide
  rw [if_neg h'] at t
  exact qd_sp_comp h2n (by simpa using t)
theorem qd_euclid {p a b : Nat} (hp : qd_prime p) (h : p ∣ a * b) : p ∣ a ∨ p ∣ b := by
  rcases hp.2 (Nat.gcd p a) (Nat.gcd_dvd_left p a) with g | g
  · exact Or.inr (Nat.Coprime.dvd_of_dvd_mul_left g h)
  · have t := Nat.gcd_dvd_right p a
    rw [g] at t
    exact Or.inl t
theorem qd_root1 {p y : Nat} (hp : qd_prime p) (hy : y < p) (h : y * y % p = 1) : y = 1 ∨ y = p - 1 := by
  have h2 := hp.1
  have hy0 : 0 < y := by
    rcases Nat.eq_zero_or_pos y with z | z
    · rw [z, Nat.zero_mul, Nat.zero_mod] at h
      omega
    · exact z
  have hd : p ∣ (y - 1) * (y + 1) := by
    have e : (y - 1) * (y + 1) = y * y - y * y % p := by
      rw [h]
      obtain ⟨z, rfl⟩ : ∃ z, y = z + 1 := ⟨y - 1, by omega⟩
      rw [Nat.add_sub_cancel]
      have t : (z + 1) * (z + 1) = z * (z + 1 + 1) + 1 := by grind
      omega
    rw [e]
    exact Nat.dvd_sub_mod (y * y)
  rcases qd_euclid hp hd with g | g
  · have t := Nat.eq_zero_of_dvd_of_lt g (by omega)
    exact Or.inl (by omega)
  · have t := Nat.le_of_dvd (by omega) g
    exact Or.inr (by omega)
theorem qd_pm (x e p : Nat) : (x % p) ^ e % p = x ^ e % p := (Nat.pow_mod x e p).symm
theorem qd_m11 {p : Nat} (h : 2 ≤ p) : (p - 1) * (p - 1) % p = 1 := by
  obtain ⟨z, rfl⟩ : ∃ z, p = z + 2 := ⟨p - 2, by omega⟩
  have e : (z + 2 - 1) * (z + 2 - 1) = 1 + (z + 2) * z := by
    rw [show z + 2 - 1 = z + 1 by omega]
    grind
  rw [e, Nat.add_mul_mod_self_left]
  exact Nat.mod_eq_of_lt (by omega)
theorem qd_p2 (k : Nat) : 2 ^ k + 2 ^ k = 2 ^ (k + 1) := by
  rw [Nat.pow_succ]
  omega
theorem qd_sqp (o k p : Nat) : (o ^ 2 ^ k % p) * (o ^ 2 ^ k % p) % p = o ^ 2 ^ (k + 1) % p := by
  rw [← Nat.mul_mod, ← Nat.pow_add, qd_p2]
/-- what the loop of rootModulo keeps -/
def qd_ti (p a s r h o : Nat) : Prop := 1 ≤ s ∧ r < p ∧ h < p ∧ o < p ∧ r * r % p = a * o % p ∧ o ^ 2 ^ (s - 1) % p = 1 ∧ h ^ 2 ^ (s - 1) % p = p - 1
theorem qd_ts {p a s r h o l F : Nat} (hp : qd_prime p) (hi : qd_ti p a s r h o) (hl : o ^ 2 ^ l % p = 1) (hm : ∀ j, j < l → o ^ 2 ^ j % p ≠ 1) (ho : o ≠ 1)
    (hF : F = h ^ 2 ^ (s - l - 1) % p) : 1 ≤ l ∧ l < s ∧ qd_ti p a l (r * F % p) (F * F % p) (o * (F * F % p) % p) := by
  obtain ⟨i1, i2, i3, i4, i5, i6, i7⟩ := hi
  have hp0 := hp.1
  have l1 : 1 ≤ l := by
    rcases Nat.eq_zero_or_pos l with z | z
    · rw [z, Nat.pow_zero, Nat.pow_one, Nat.mod_eq_of_lt i4] at hl
      exact absurd hl ho
    · exact z
  have l2 : l < s := by
    rcases Nat.lt_or_ge l s with z | z
    · exact z
    · exact absurd i6 (hm (s - 1) (by omega))
  obtain ⟨k, rfl⟩ : ∃ k, l = k + 1 := ⟨l - 1, by omega⟩
  have ek : k + 1 - 1 = k := by omega
  have y1 : o ^ 2 ^ k % p = p - 1 := by
    rcases qd_root1 hp (Nat.mod_lt (o ^ 2 ^ k) (by omega)) (by rw [qd_sqp]; exact hl) with z | z
    · exact absurd z (hm k (by omega))
    · exact z
  have eH : F * F % p = h ^ 2 ^ (s - (k + 1) - 1 + 1) % p := by rw [hF, qd_sqp]
  have eH2 : (F * F % p) ^ 2 ^ k % p = p - 1 := by
    rw [eH, qd_pm, ← Nat.pow_mul, ← Nat.pow_add, show s - (k + 1) - 1 + 1 + k = s - 1 by omega]
    exact i7
  refine ⟨l1, l2, by omega, Nat.mod_lt _ (by omega), Nat.mod_lt _ (by omega), Nat.mod_lt _ (by omega), ?_, ?_, ?_⟩
  · rw [← Nat.mul_mod, Nat.mul_mod_mod]
    rw [show r * F * (r * F) = (r * r) * (F * F) by grind, Nat.mul_mod, i5, ← Nat.mul_mod, Nat.mul_assoc, Nat.mul_mod a, ← Nat.mul_mod_mod o, ← Nat.mul_mod]
  · rw [ek, qd_pm, Nat.mul_pow, Nat.mul_mod, y1, eH2]
    exact qd_m11 hp0
  · rw [ek]
    exact eH2
theorem qd_ot : ∀ f x, 0 < x → x < 2 ^ f → qd_odd f x * 2 ^ qd_two f x = x ∧ qd_odd f x % 2 = 1
  | 0, x => fun h0 h => absurd h (by omega)
  | f + 1, x => fun h0 h => by
    rw [Nat.pow_succ] at h
    unfold qd_odd qd_two
    by_cases e : x % 2 = 0
    · rw [if_pos e, if_pos e]
      obtain ⟨t1, t2⟩ := qd_ot f (x / 2) (by omega) (by omega)
      refine ⟨?_, t2⟩
      rw [Nat.pow_succ, ← Nat.mul_assoc, t1]
      omega
    · rw [if_neg e, if_neg e]
      exact ⟨by rw [Nat.pow_zero, Nat.mul_one], by omega⟩
/-- the start of rootModulo's loop -/
theorem qd_t0i {p a o : Nat} (hp : qd_prime p) (hp2 : p % 2 = 1) (hb : p ≤ 30000) (ha : a ^ ((p - 1) / 2) % p = 1) (hh : o ^ ((p - 1) / 2) % p = p - 1) :
    1 ≤ qd_two 15 (p - 1) ∧ qd_ti p a (qd_two 15 (p - 1)) (a ^ ((qd_odd 15 (p - 1) + 1) / 2) % p) (o ^ qd_odd 15 (p - 1) % p) (a ^ qd_odd 15 (p - 1) % p) := by
  have h2 := hp.1
  obtain ⟨e1, e2⟩ := qd_ot 15 (p - 1) (by omega) (by omega)
  generalize qd_odd 15 (p - 1) = w at *
  generalize qd_two 15 (p - 1) = t at *
  have t1 : 1 ≤ t := by
    rcases Nat.eq_zero_or_pos t with z | z
    · rw [z, Nat.pow_zero, Nat.mul_one] at e1
      omega
    · exact z
  have e3 : w * 2 ^ (t - 1) = (p - 1) / 2 := by
    have z : 2 ^ t = 2 ^ (t - 1) * 2 := by
      rw [← Nat.pow_succ]
      congr 1
      omega
    rw [z, ← Nat.mul_assoc] at e1
    omega
  refine ⟨t1, t1, Nat.mod_lt _ (by omega), Nat.mod_lt _ (by omega), Nat.mod_lt _ (by omega), ?_, ?_, ?_⟩
  · rw [← Nat.mul_mod, ← Nat.pow_add, Nat.mul_mod_mod, show (w + 1) / 2 + (w + 1) / 2 = w + 1 by omega, Nat.pow_succ, Nat.mul_comm]
  · rw [qd_pm, ← Nat.pow_mul, e3]
    exact ha
  · rw [qd_pm, ← Nat.pow_mul, e3]
    exact hh
end
section
/-! timesRest, powerRest, the prime test, the common divisor -/
def qd_b (c : Bool) : Int32 := if c = true then 1 else 0
theorem qd_tr {post : Int32 → Prop} {u : St2} {a b m : Nat} (ha : a ≤ 30000) (hb : b ≤ 30000) (h0 : 0 < m) (hm : m ≤ 30000) (H : post (nI (a * b % m))) :
    wpX_timesRest post u (nI a) (nI b) (nI m) := by
  obtain ⟨f0, f1, f2, f3, a1, a2⟩ := u
  have hab : a * b ≤ 30000 * 30000 := Nat.mul_le_mul ha hb
  unfold wpX_timesRest
  dsimp only
  rw [nI_l (show a < 2 ^ 31 by omega), nI_l (show b < 2 ^ 31 by omega), nI_l (show m < 2 ^ 31 by omega), lN_mul, pk_lRem (show a * b < 2 ^ 63 by omega) h0 (show m < 2 ^ 63 by omega), lN_i]
  refine ⟨fun z => ?_, H⟩
  have t : lN m = lN 0 := z
  rw [lN_eq (by omega) (by omega)] at t
  omega
theorem qd_pr13 {post : Int32 → Prop} {m R : Nat} {f0 f1 f2 f3 : Int32} {a1 a2 : Nat → Int32} (h0 : 0 < m) (hm : m ≤ 30000) (H : post (nI R)) (r s e : Nat)
    (h : r < m ∧ s < m ∧ e < 2 ^ 31 ∧ r * s ^ e % m = R) : ∃ n, wX_powerRest_13 post (nI m) f0 f1 f2 f3 a1 a2 n (nI r) (nI s) (nI e) :=
  lp3 (fun n r s e => wX_powerRest_13 post (nI m) f0 f1 f2 f3 a1 a2 n (nI r) (nI s) (nI e)) (fun r s e => r < m ∧ s < m ∧ e < 2 ^ 31 ∧ r * s ^ e % m = R) (fun _ _ e => e)
    (fun n r s e hI hk => by
      obtain ⟨hr, hs, he, hR⟩ := hI
      refine pk_le e 0 (fun z => ?_) (fun z => ?_)
      · have e0 : e = 0 := by omega
        rw [e0, Nat.pow_zero, Nat.mul_one, Nat.mod_eq_of_lt hr] at hR
        rw [hR]
        exact H
      · have key : ∀ r', r' < m → r' * (s * s % m) ^ (e / 2) % m = R → wX_powerRest_36 post (wX_powerRest_13 post (nI m) f0 f1 f2 f3 a1 a2 n) (nI m) (nI r') (nI s) (nI e) f0 f1 f2 f3 a1 a2 := by
          intro r' hr' hR'
          refine qd_tr (by omega) (by omega) h0 hm (nm_r (e' := nI (e / 2)) (pk_shrN he _ 1 (by decide)) ?_)
          exact hk r' (s * s % m) (e / 2) ⟨hr', Nat.mod_lt _ h0, by omega, hR'⟩ (by omega)
        have e2 : (s * s) ^ (e / 2) = s ^ (2 * (e / 2)) := by rw [Nat.pow_mul, Nat.pow_two]
        refine pk_eq (e % 2 ^ 1) 0 (fun z2 => ?_) (fun z2 => ?_) (pk_andN (by omega) 1 (by decide))
        · refine key r hr ?_
          rw [Nat.mul_mod, qd_pm, ← Nat.mul_mod, e2, show 2 * (e / 2) = e by omega]
          exact hR
        · refine qd_tr (by omega) (by omega) h0 hm (key _ (Nat.mod_lt _ h0) ?_)
          rw [Nat.mod_mul_mod, Nat.mul_mod, qd_pm, ← Nat.mul_mod, e2, Nat.mul_assoc, ← Nat.pow_succ', show (2 * (e / 2)).succ = e by omega]
          exact hR) r s e h
theorem qd_pr {post : Int32 → Prop} {u : St2} {b e m : Nat} (hb : b < 2 ^ 31) (he : e < 2 ^ 31) (h0 : 0 < m) (hm : m ≤ 30000) (H : post (nI (b ^ e % m))) :
    wpX_powerRest post u (nI b) (nI e) (nI m) := by
  obtain ⟨f0, f1, f2, f3, a1, a2⟩ := u
  refine ⟨nI_ne0 h0 (by omega), nm_r (e' := nI (1 % m)) (pk_rem (a := 1) (by omega) h0 (by omega)) ⟨nI_ne0 h0 (by omega), nm_r (pk_rem hb h0 (by omega)) ?_⟩⟩
  refine qd_pr13 h0 hm H _ _ _ ⟨Nat.mod_lt _ h0, Nat.mod_lt _ h0, he, ?_⟩
  rw [Nat.mod_mul_mod, Nat.one_mul, qd_pm]
theorem qd_p51 {post : Int32 → Prop} {n t : Nat} {f0 f1 f2 f3 : Int32} {a1 a2 : Nat → Int32} (h0 : 0 < n) (hn : n ≤ 30000) (ht : t ≤ 100) :
    ∀ d x k, t - k = d → k ≤ 1000 → x < n → post (qd_b (qd_sq n d x)) → wX_passes_51 post (nI n) (nI t) f0 f1 f2 f3 a1 a2 (d + 1) (nI x) (nI k)
  | 0, x, k => fun hd hk hx H => pk_le t k (fun _ => H) (fun z => absurd z (by omega))
  | d + 1, x, k => fun hd hk hx H => by
    refine pk_le t k (fun z => absurd z (by omega)) (fun z => qd_tr (by omega) (by omega) h0 hn ?_)
    have hl := Nat.mod_lt (x * x) h0
    unfold qd_sq at H
    refine pk_eq (x * x % n) (n - 1) (fun g => ?_) (fun g => nm_r (nI_1 k) ?_) rfl (pk_sub (b := 1) h0)
    · rw [if_pos g] at H
      exact H
    · rw [if_neg g] at H
      exact qd_p51 h0 hn ht d _ (k + 1) (by omega) (by omega) hl H
theorem qd_p7 {post : Int32 → Prop} {n b : Nat} {f0 f1 f2 f3 : Int32} {a1 a2 : Nat → Int32} (h0 : 0 < n) (hn : n ≤ 30000) (hb : b ≤ 3) :
    ∀ f x k, f + k ≤ 100 → 0 < x → x < 2 ^ 31 → x < 2 ^ f → post (qd_b (qd_pb n b (qd_odd f x) (k + qd_two f x))) → wX_passes_7 post (nI n) (nI b) f0 f1 f2 f3 a1 a2 f (nI x) (nI k)
  | 0, x, k => fun _ hx _ hl => absurd hl (by omega)
  | f + 1, x, k => fun hf hx hx2 hl H => by
    rw [Nat.pow_succ] at hl
    unfold qd_odd qd_two at H
    refine pk_eq (x % 2 ^ 1) 0 (fun z => ?_) (fun z => ?_) (pk_andN (by omega) 1 (by decide))
    · have z' : x % 2 = 0 := z
      rw [if_pos z', if_pos z'] at H
      refine nm_r (e' := nI (x / 2)) (pk_shrN hx2 _ 1 (by decide)) (nm_r (nI_1 k) ?_)
      refine qd_p7 h0 hn hb f (x / 2) (k + 1) (by omega) (by omega) (by omega) (by omega) ?_
      rw [show k + 1 + qd_two f (x / 2) = k + (qd_two f (x / 2) + 1) by omega]
      exact H
    · have z' : ¬ x % 2 = 0 := z
      rw [if_neg z', if_neg z', Nat.add_zero] at H
      refine qd_pr (by omega) hx2 h0 hn ?_
      have hl2 := Nat.mod_lt (b ^ x) h0
      unfold qd_pb at H
      refine pk_eq (b ^ x % n) 1 (fun g => ?_) (fun g => ?_)
      · rw [if_pos g] at H
        exact H
      · rw [if_neg g] at H
        refine pk_eq (b ^ x % n) (n - 1) (fun g2 => ?_) (fun g2 => ?_) rfl (pk_sub (b := 1) h0)
        · rw [if_pos g2] at H
          exact H
        · rw [if_neg g2] at H
          exact ⟨_, qd_p51 h0 hn (by omega) (k - 1) _ 1 rfl (by omega) hl2 H⟩
theorem qd_passes {post : Int32 → Prop} {u : St2} {n b : Nat} (h2 : 2 ≤ n) (hn : n ≤ 30000) (hb : b ≤ 3) (H : post (qd_b (qd_pass n b))) : wpX_passes post u (nI n) (nI b) := by
  obtain ⟨f0, f1, f2, f3, a1, a2⟩ := u
  refine nm_r (e' := nI (n - 1)) (pk_sub (b := 1) (by omega)) ⟨15, qd_p7 (by omega) hn hb 15 (n - 1) 0 (by omega) (by omega) (by omega) (by omega) ?_⟩
  rw [Nat.zero_add]
  exact H
theorem qd_prim {post : Int32 → Prop} {u : St2} {n : Nat} (hn : n ≤ 30000) (H : post (qd_b (qd_pt n))) : wpX_primeTest post u (nI n) := by
  obtain ⟨f0, f1, f2, f3, a1, a2⟩ := u
  unfold qd_pt at H
  have c28 : 4 ≤ n → post 0 → wX_primeTest_28 post (nI n) f0 f1 f2 f3 a1 a2 := fun h4 h => pk_eq n 3 (fun z => absurd z (by omega)) (fun _ => h)
  refine pk_le 4 n (fun z => ⟨by decide, ?_⟩) (fun z => ?_)
  · rw [if_neg (by omega)] at H
    refine pk_eq (n % 2) 0 (fun g => ?_) (fun g => ⟨by decide, ?_⟩) (pk_rem (d := 2) (by omega) (by omega) (by omega))
    · rw [if_pos g] at H
      exact c28 z H
    rw [if_neg g] at H
    refine pk_eq (n % 3) 0 (fun g => ?_) (fun g => ?_) (pk_rem (d := 3) (by omega) (by omega) (by omega))
    · rw [if_pos g] at H
      exact c28 z H
    rw [if_neg g] at H
    refine qd_passes (b := 2) (by omega) hn (by omega) ?_
    by_cases e : qd_pass n 2 = true
    · rw [e] at H ⊢
      refine br_f (by decide) (qd_passes (b := 3) (by omega) hn (by omega) ?_)
      by_cases e3 : qd_pass n 3 = true
      · rw [e3] at H ⊢
        exact br_f (by decide) H
      · have e3' : qd_pass n 3 = false := by simpa using e3
        rw [e3'] at H ⊢
        exact br_t (by decide) H
    · have e' : qd_pass n 2 = false := by simpa using e
      rw [e'] at H ⊢
      exact br_t (by decide) H
  · rw [if_pos (by omega)] at H
    refine pk_le n 1 (fun g => ?_) (fun g => ?_)
    · rw [decide_eq_false (by omega)] at H
      exact H
    · rw [decide_eq_true (by omega)] at H
      exact H
theorem qd_cd5 {post : Int32 → Prop} {g : Nat} {f0 f1 f2 f3 : Int32} {a1 a2 : Nat → Int32} (H : post (nI g)) (a b : Nat) (h : a < 2 ^ 31 ∧ b < 2 ^ 31 ∧ Nat.gcd a b = g) :
    ∃ n, wX_commonDivisor_5 post f0 f1 f2 f3 a1 a2 n (nI a) (nI b) :=
  lp2 (fun n a b => wX_commonDivisor_5 post f0 f1 f2 f3 a1 a2 n (nI a) (nI b)) (fun a b => a < 2 ^ 31 ∧ b < 2 ^ 31 ∧ Nat.gcd a b = g) (fun a _ => a)
    (fun n a b hI hk => by
      obtain ⟨ha, hb, hg⟩ := hI
      refine pk_eq a 0 (fun z => ?_) (fun z => ⟨nI_ne0 (by omega) ha, nm_r (pk_rem hb (by omega) ha) ?_⟩)
      · rw [z, Nat.gcd_zero_left] at hg
        rw [hg]
        exact H
      · have hl := Nat.mod_lt b (show a > 0 by omega)
        exact hk (b % a) a ⟨by omega, ha, by rw [← Nat.gcd_rec]; exact hg⟩ hl) a b h
theorem qd_cd {post : Int32 → Prop} {u : St2} {a b : Nat} (ha : a < 2 ^ 31) (hb : b < 2 ^ 31) (H : post (nI (Nat.gcd a b))) : wpX_commonDivisor post u (nI a) (nI b) := by
  obtain ⟨f0, f1, f2, f3, a1, a2⟩ := u
  exact qd_cd5 H a b ⟨ha, hb, rfl⟩
end
section
/-! square roots of rests -/
theorem qd_prE {post : Int32 → Prop} {u : St2} {y : Int32} {b e m : Nat} (hy : y = nI e) (hb : b < 2 ^ 31) (he : e < 2 ^ 31) (h0 : 0 < m) (hm : m ≤ 30000) (H : post (nI (b ^ e % m))) :
    wpX_powerRest post u (nI b) y (nI m) := by
  rw [hy]
  exact qd_pr hb he h0 hm H
theorem qd_half {p : Nat} (h0 : 0 < p) (hp : p ≤ 30000) : (nI p - 1) / 2 = nI ((p - 1) / 2) := by
  have e : nI p - 1 = nI (p - 1) := pk_sub (b := 1) h0
  rw [e]
  exact pk_div (d := 2) (by omega) (by omega) (by omega)
theorem qd_least {post : Int32 → Prop} {u : St2} {p o K : Nat} (h2 : 2 ≤ p) (hp : p ≤ 30000) (ho : o < p) (hK : o ^ 2 ^ K % p = 1) (hKb : K ≤ 100)
    (H : ∀ l, l ≤ K → o ^ 2 ^ l % p = 1 → (∀ j, j < l → o ^ 2 ^ j % p ≠ 1) → post (nI l)) : wpX_leastPower post u (nI o) (nI p) := by
  obtain ⟨f0, f1, f2, f3, a1, a2⟩ := u
  have key := lp1 (fun n k => wX_leastPower_5 post (nI p) f0 f1 f2 f3 a1 a2 n (nI k) (nI (o ^ 2 ^ k % p))) (fun k => k ≤ K ∧ ∀ j, j < k → o ^ 2 ^ j % p ≠ 1) (fun k => K - k)
    (fun n k hI hk => by
      obtain ⟨hkK, hj⟩ := hI
      have hl := Nat.mod_lt (o ^ 2 ^ k) (show p > 0 by omega)
      refine pk_eq (o ^ 2 ^ k % p) 1 (fun z => H k hkK z hj) (fun z => ?_)
      refine qd_tr (by omega) (by omega) (by omega) hp (nm_r (nI_1 k) ?_)
      rw [qd_sqp]
      have hlt : k < K := by
        rcases Nat.lt_or_ge k K with g | g
        · exact g
        · exact absurd (show o ^ 2 ^ k % p = 1 by rw [show k = K by omega]; exact hK) z
      refine hk (k + 1) ⟨hlt, fun j hjk => ?_⟩ (by omega)
      by_cases e : j = k
      · rw [e]
        exact z
      · exact hj j (by omega)) 0 ⟨by omega, fun j hj => absurd hj (by omega)⟩
  rw [Nat.pow_zero, Nat.pow_one, Nat.mod_eq_of_lt ho] at key
  exact key
theorem qd_r106 {post : Int32 → Prop} {J : Int32 → Int32 → Int32 → Int32 → Prop} {f0 f1 f2 f3 : Int32} {a1 a2 : Nat → Int32} {p r o s l h F : Nat} (h2 : 2 ≤ p) (hp : p ≤ 30000)
    (hr : r < p) (ho : o < p) (hh : h < p) (hl : l < s) (hs : s ≤ 100) (hF : F = h ^ 2 ^ (s - l - 1) % p) (H : J (nI (F * F % p)) (nI (r * F % p)) (nI (o * (F * F % p) % p)) (nI l)) :
    ∃ n, wX_rootModulo_106 post J (nI p) (nI r) (nI o) (nI s) (nI l) f0 f1 f2 f3 a1 a2 n (nI h) 0 := by
  have eb : (nI s - nI l) - 1 = nI (s - l - 1) := by
    rw [pk_sub (by omega)]
    exact pk_sub (b := 1) (by omega)
  have key := pk_loop (σ := Unit) (fun n i _ => wX_rootModulo_106 post J (nI p) (nI r) (nI o) (nI s) (nI l) f0 f1 f2 f3 a1 a2 n (nI (h ^ 2 ^ i % p)) (nI i)) (fun _ _ => True) (s - l - 1) 0 () (by omega) trivial
    (fun n _ _ => by
      have hl1 := Nat.mod_lt (h ^ 2 ^ (s - l - 1)) (show p > 0 by omega)
      rw [← hF] at hl1 ⊢
      have hl2 := Nat.mod_lt (F * F) (show p > 0 by omega)
      exact pk_le (s - l - 1) (s - l - 1) (fun _ => qd_tr (by omega) (by omega) (by omega) hp (qd_tr (by omega) (by omega) (by omega) hp (qd_tr (by omega) (by omega) (by omega) hp H))) (fun z => absurd z (by omega)) eb)
    (fun n i _ hi _ hw => by
      have hl1 := Nat.mod_lt (h ^ 2 ^ i) (show p > 0 by omega)
      refine pk_le (s - l - 1) i (fun z => absurd z (by omega)) (fun z => qd_tr (by omega) (by omega) (by omega) hp (nm_r (nI_1 i) ?_)) eb
      rw [qd_sqp]
      exact hw () trivial)
  rw [Nat.pow_zero, Nat.pow_one, Nat.mod_eq_of_lt hh] at key
  exact key
theorem qd_r84 {post : Int32 → Prop} {f0 f1 f2 f3 : Int32} {a1 a2 : Nat → Int32} {p a : Nat} (hp : qd_prime p) (hb : p ≤ 30000) (H : ∀ x, x < p → x * x % p = a % p → post (nI x))
    (h r o s : Nat) (hi : qd_ti p a s r h o ∧ s ≤ 100) : ∃ n, wX_rootModulo_84 post (nI p) f0 f1 f2 f3 a1 a2 n (nI h) (nI r) (nI o) (nI s) :=
  lp4 (fun n h r o s => wX_rootModulo_84 post (nI p) f0 f1 f2 f3 a1 a2 n (nI h) (nI r) (nI o) (nI s)) (fun h r o s => qd_ti p a s r h o ∧ s ≤ 100) (fun _ _ _ s => s)
    (fun n h r o s hI hk => by
      obtain ⟨hi, hs⟩ := hI
      have h2 := hp.1
      have hi' := hi
      obtain ⟨i1, i2, i3, i4, i5, i6, i7⟩ := hi
      refine pk_eq o 1 (fun z => ?_) (fun z => ?_)
      · rw [z, Nat.mul_one] at i5
        exact H r i2 i5
      · refine qd_least h2 hb i4 i6 (by omega) (fun l l1 l2 l3 => ?_)
        obtain ⟨t1, t2, t3⟩ := qd_ts hp hi' l2 l3 z rfl
        exact qd_r106 h2 hb i2 i4 i3 t2 hs rfl (hk _ _ _ _ ⟨t3, by omega⟩ t2)) h r o s hi
theorem qd_r26 {post : Int32 → Prop} {f0 f1 f2 f3 : Int32} {a1 a2 : Nat → Int32} {p a : Nat} (hp : qd_prime p) (hp2 : p % 2 = 1) (hb : p ≤ 30000) (ha : a < p) (ha1 : a ^ ((p - 1) / 2) % p = 1)
    (H : ∀ x, x < p → x * x % p = a % p → post (nI x)) :
    ∀ f o, f + o ≤ 1000 → qd_or p f o = true → wX_rootModulo_26 post (nI a) (nI p) (nI (qd_odd 15 (p - 1))) (nI (qd_two 15 (p - 1))) f0 f1 f2 f3 a1 a2 f (nI o)
  | 0, o => fun _ h => absurd h (by unfold qd_or; decide)
  | f + 1, o => fun hf h => by
    have h2 := hp.1
    unfold qd_or at h
    have hl := Nat.mod_lt (o ^ ((p - 1) / 2)) (show p > 0 by omega)
    have w1 : qd_odd 15 (p - 1) ≤ p - 1 := by
      have t := (qd_ot 15 (p - 1) (by omega) (by omega)).1
      have t2 : 1 ≤ 2 ^ qd_two 15 (p - 1) := Nat.one_le_two_pow
      have t3 := Nat.mul_le_mul_left (qd_odd 15 (p - 1)) t2
      omega
    have w2 : qd_two 15 (p - 1) ≤ 100 := by
      have t := (qd_ot 15 (p - 1) (by omega) (by omega))
      rcases Nat.lt_or_ge 100 (qd_two 15 (p - 1)) with z | z
      · have t2 : 2 ^ 100 ≤ 2 ^ qd_two 15 (p - 1) := Nat.pow_le_pow_right (by omega) (by omega)
        have t3 : 1 * 2 ^ qd_two 15 (p - 1) ≤ qd_odd 15 (p - 1) * 2 ^ qd_two 15 (p - 1) := Nat.mul_le_mul_right _ (by omega)
        omega
      · exact z
    refine ⟨by decide, qd_prE (qd_half (by omega) hb) (by omega) (by omega) (by omega) hb ?_⟩
    refine pk_eq (o ^ ((p - 1) / 2) % p) 1 (fun z => nm_r (nI_1 o) ?_) (fun z => ?_)
    · rw [if_pos z] at h
      exact qd_r26 hp hp2 hb ha ha1 H f (o + 1) (by omega) h
    · rw [if_neg z] at h
      have ho := of_decide_eq_true h
      have eo : (nI (qd_odd 15 (p - 1)) + 1) / 2 = nI ((qd_odd 15 (p - 1) + 1) / 2) := by
        rw [nI_1]
        exact pk_div (d := 2) (by omega) (by omega) (by omega)
      refine qd_pr (by omega) (by omega) (by omega) hb ⟨by decide, qd_prE eo (by omega) (by omega) (by omega) hb (qd_pr (by omega) (by omega) (by omega) hb ?_)⟩
      exact qd_r84 hp hb H _ _ _ _ ⟨(qd_t0i hp hp2 hb ha1 ho).2, w2⟩
theorem qd_r7 {post : Int32 → Prop} {f0 f1 f2 f3 : Int32} {a1 a2 : Nat → Int32} {p a : Nat} :
    ∀ f x k, f + k ≤ 100 → 0 < x → x < 2 ^ 31 → x < 2 ^ f → (∃ n, wX_rootModulo_26 post (nI a) (nI p) (nI (qd_odd f x)) (nI (k + qd_two f x)) f0 f1 f2 f3 a1 a2 n 2) →
      wX_rootModulo_7 post (nI a) (nI p) f0 f1 f2 f3 a1 a2 f (nI x) (nI k)
  | 0, x, k => fun _ hx _ hl => absurd hl (by omega)
  | f + 1, x, k => fun hf hx hx2 hl H => by
    rw [Nat.pow_succ] at hl
    unfold qd_odd qd_two at H
    refine pk_eq (x % 2 ^ 1) 0 (fun z => ?_) (fun z => ?_) (pk_andN (by omega) 1 (by decide))
    · have z' : x % 2 = 0 := z
      rw [if_pos z', if_pos z'] at H
      refine nm_r (e' := nI (x / 2)) (pk_shrN hx2 _ 1 (by decide)) (nm_r (nI_1 k) ?_)
      refine qd_r7 f (x / 2) (k + 1) (by omega) (by omega) (by omega) (by omega) ?_
      rw [show k + 1 + qd_two f (x / 2) = k + (qd_two f (x / 2) + 1) by omega]
      exact H
    · have z' : ¬ x % 2 = 0 := z
      rw [if_neg z', if_neg z', Nat.add_zero] at H
      exact H
theorem qd_rm {post : Int32 → Prop} {u : St2} {p a : Nat} (hp : qd_prime p) (hp2 : p % 2 = 1) (hor : qd_or p 40 2 = true) (hb : p ≤ 30000) (ha : a < p) (ha1 : a ^ ((p - 1) / 2) % p = 1)
    (H : ∀ x, x < p → x * x % p = a % p → post (nI x)) : wpX_rootModulo post u (nI a) (nI p) := by
  obtain ⟨f0, f1, f2, f3, a1, a2⟩ := u
  have h2 := hp.1
  refine nm_r (e' := nI (p - 1)) (pk_sub (b := 1) (by omega)) ⟨15, qd_r7 15 (p - 1) 0 (by omega) (by omega) (by omega) (by omega) ?_⟩
  rw [Nat.zero_add]
  exact ⟨40, qd_r26 hp hp2 hb ha ha1 H 40 2 (by omega) hor⟩
theorem qd_neg {m x : Nat} (h : x ≤ m) : (m - x) * (m - x) % m = x * x % m := by
  obtain ⟨y, rfl⟩ : ∃ y, m = x + y := ⟨m - x, by omega⟩
  rw [show x + y - x = y by omega, ← Nat.add_mul_mod_self_left (y * y) (x + y) x, ← Nat.add_mul_mod_self_left (x * x) (x + y) y]
  congr 1
  grind
theorem qd_root {post : Int32 → Prop} {m a : Nat} {f1 f2 f3 : Int32} {a1 a2 : Nat → Int32} (h0 : 0 < m) (hm : m ≤ 30000) (ha : a ≤ 30000) (H0 : post (-2))
    (H : ∀ q, q < m → q * q % m = a % m → post (nI q)) : wpX_root post (nI m, f1, f2, f3, a1, a2) (nI a) := by
  refine br_f (nI_pos (by omega)) (pk_le a 30000 (fun _ => ?_) (fun z => absurd z (by omega)))
  refine qd_prim hm ?_
  by_cases hpt : qd_pt m = true
  · rw [hpt]
    obtain ⟨hp, hor⟩ := qd_pt_true hm hpt
    have h2 := hp.1
    have hl := Nat.mod_lt a h0
    refine br_f (by decide) ⟨nI_ne0 h0 (by omega), nm_r (pk_rem (by omega) h0 (by omega)) ?_⟩
    refine pk_eq m 2 (fun z => H _ hl ?_) (fun z => ?_)
    · rw [← Nat.mul_mod]
      subst z
      rcases Nat.mod_two_eq_zero_or_one a with g | g
      · rw [Nat.mul_mod, g]
      · rw [Nat.mul_mod, g]
    · refine pk_eq (a % m) 0 (fun g => H _ hl ?_) (fun g => ⟨by decide, qd_prE (qd_half h0 hm) (by omega) (by omega) h0 hm ?_⟩)
      · rw [g, Nat.zero_mul, Nat.zero_mod]
      have hor' : m % 2 = 1 ∧ qd_or m 40 2 = true := hor.resolve_left z
      have hl2 := Nat.mod_lt ((a % m) ^ ((m - 1) / 2)) h0
      refine pk_eq ((a % m) ^ ((m - 1) / 2) % m) 1 (fun e => ?_) (fun _ => H0)
      refine qd_rm hp hor'.1 hor'.2 hm hl e (fun x hx hxx => ?_)
      rw [Nat.mod_mod] at hxx
      have es : nI m - nI x = nI (m - x) := pk_sub (by omega)
      refine pk_lt (m - x) x (fun y => ?_) (fun _ => H x hx hxx) es
      rw [es]
      exact H (m - x) (by omega) (by rw [qd_neg (by omega)]; exact hxx)
  · rw [show qd_pt m = false by simpa using hpt]
    exact br_t (by decide) H0
end
section
/-! the walk over rests, a proper divisor -/
theorem qd_rE {x y d : Nat} (hx : x ≤ 30000) (hy : y ≤ 30000) (h0 : 0 < d) (hd : d ≤ 30000) : (nI x + nI y) - (nI x + nI y) / nI d * nI d = nI ((x + y) % d) := by
  rw [nI_add]
  exact pk_rem (by omega) h0 (by omega)
theorem qd_w11 {post : Int32 → Prop} {n c : Nat} {f0 f1 f2 f3 : Int32} {a1 a2 : Nat → Int32} (h0 : 0 < n) (hn : n ≤ 30000) (hc : c ≤ 100) (H : ∀ d, 0 < d → d ∣ n → post (nI d)) (s f d k : Nat)
    (h : s ≤ 30000 ∧ f ≤ 30000 ∧ 0 < d ∧ d ∣ n ∧ k ≤ 2000) : ∃ N, wX_walk_11 post (nI n) (nI c) f0 f1 f2 f3 a1 a2 N (nI s) (nI f) (nI d) (nI k) :=
  lp4 (fun N s f d k => wX_walk_11 post (nI n) (nI c) f0 f1 f2 f3 a1 a2 N (nI s) (nI f) (nI d) (nI k)) (fun s f d k => s ≤ 30000 ∧ f ≤ 30000 ∧ 0 < d ∧ d ∣ n ∧ k ≤ 2000) (fun _ _ _ k => 2000 - k)
    (fun N s f d k hI hk => by
      obtain ⟨hs, hf, hd0, hd, hk2⟩ := hI
      have hdn := Nat.le_of_dvd h0 hd
      refine pk_le 2000 k (fun _ => H d hd0 hd) (fun z => pk_eq d 1 (fun _ => ?_) (fun _ => H d hd0 hd))
      have l1 := Nat.mod_lt (s * s) h0
      have l2 := Nat.mod_lt (f * f) h0
      have l3 := Nat.mod_lt (s * s % n + c) h0
      have l4 := Nat.mod_lt (f * f % n + c) h0
      refine qd_tr hs hs h0 hn ⟨nI_ne0 h0 (by omega), nm_r (qd_rE (by omega) (by omega) h0 hn) ?_⟩
      refine qd_tr hf hf h0 hn ⟨nI_ne0 h0 (by omega), nm_r (qd_rE (by omega) (by omega) h0 hn) ?_⟩
      generalize (s * s % n + c) % n = s1 at *
      generalize (f * f % n + c) % n = v1 at *
      have l5 := Nat.mod_lt (v1 * v1) h0
      have l6 := Nat.mod_lt (v1 * v1 % n + c) h0
      refine qd_tr (by omega) (by omega) h0 hn ⟨nI_ne0 h0 (by omega), nm_r (qd_rE (by omega) (by omega) h0 hn) ?_⟩
      generalize (v1 * v1 % n + c) % n = v2 at *
      have key : ∀ z, z ≤ 30000 → wX_walk_84 post (wX_walk_11 post (nI n) (nI c) f0 f1 f2 f3 a1 a2 N) (nI n) (nI c) (nI s1) (nI v2) (nI k) (nI z) f0 f1 f2 f3 a1 a2 := by
        intro z hz
        refine pk_eq z 0 (fun _ => nm_r (nI_1 k) (hk s1 v2 n (k + 1) ⟨by omega, by omega, h0, Nat.dvd_refl n, by omega⟩ (by omega))) (fun g => ?_)
        refine qd_cd (by omega) (by omega) (nm_r (nI_1 k) (hk s1 v2 _ (k + 1) ⟨by omega, by omega, Nat.gcd_pos_of_pos_right z h0, Nat.gcd_dvd_right z n, by omega⟩ (by omega)))
      refine pk_le s1 v2 (fun y => ?_) (fun y => ?_)
      · rw [pk_sub y]
        exact key _ (by omega)
      · rw [pk_sub (Nat.le_of_lt y)]
        exact key _ (by omega)) s f d k h
theorem qd_walk {post : Int32 → Prop} {u : St2} {n c : Nat} (h0 : 0 < n) (hn : n ≤ 30000) (hc : c ≤ 100) (H : ∀ d, 0 < d → d ∣ n → post (nI d)) : wpX_walk post u (nI n) (nI c) := by
  obtain ⟨f0, f1, f2, f3, a1, a2⟩ := u
  exact qd_w11 h0 hn hc H 2 2 1 0 ⟨by omega, by omega, by omega, Nat.one_dvd n, by omega⟩
theorem qd_s43 {post : Int32 → Prop} {n D : Nat} {f0 f1 f2 f3 : Int32} {a1 a2 : Nat → Int32} (hn : n ≤ 30000) (hD : D ∣ n) (hDn : D < n) (hD2 : D % 2 = 1)
    (H : ∀ d, d ∣ n → 1 < d → d < n → post (nI d)) (d : Nat) (h : 3 ≤ d ∧ d ≤ D ∧ d % 2 = 1) : ∃ N, wX_splitter_43 post (nI n) f0 f1 f2 f3 a1 a2 N (nI d) :=
  lp1 (fun N d => wX_splitter_43 post (nI n) f0 f1 f2 f3 a1 a2 N (nI d)) (fun d => 3 ≤ d ∧ d ≤ D ∧ d % 2 = 1) (fun d => D - d)
    (fun N d hI hk => by
      obtain ⟨h3, hd, h1⟩ := hI
      refine ⟨nI_ne0 (by omega) (by omega), pk_eq (n % d) 0 (fun z => H d (Nat.dvd_of_mod_eq_zero z) (by omega) (by omega)) (fun z => ?_) (pk_rem (by omega) (by omega) (by omega)) rfl (by have := Nat.mod_le n d; omega)⟩
      have hne : d ≠ D := fun e => z (by rw [e]; exact Nat.mod_eq_zero_of_dvd hD)
      exact nm_r (e' := nI (d + 2)) (nI_add d 2) (hk (d + 2) ⟨by omega, by omega, by omega⟩ (by omega))) d h
theorem qd_s10 {post : Int32 → Prop} {n D : Nat} {f0 f1 f2 f3 : Int32} {a1 a2 : Nat → Int32} (hn : n ≤ 30000) (hn2 : n % 2 = 1) (hD : D ∣ n) (hD1 : 1 < D) (hDn : D < n)
    (H : ∀ d, d ∣ n → 1 < d → d < n → post (nI d)) (c : Nat) (h : 1 ≤ c ∧ c ≤ 9) : ∃ N, wX_splitter_10 post (nI n) f0 f1 f2 f3 a1 a2 N (nI c) :=
  lp1 (fun N c => wX_splitter_10 post (nI n) f0 f1 f2 f3 a1 a2 N (nI c)) (fun c => 1 ≤ c ∧ c ≤ 9) (fun c => 9 - c)
    (fun N c hI hk => by
      obtain ⟨h1, h9⟩ := hI
      have hDo : D % 2 = 1 := by
        obtain ⟨e, he⟩ := hD
        rcases Nat.mod_two_eq_zero_or_one D with g | g
        · have t : n % 2 = 0 := by rw [he, Nat.mul_mod, g, Nat.zero_mul, Nat.zero_mod]
          omega
        · exact g
      refine pk_lt 8 c (fun _ => qd_s43 hn hD hDn hDo H 3 ⟨by omega, by omega, by omega⟩) (fun z => ?_)
      have next : ∀ x, x = nI c + 1 → wX_splitter_10 post (nI n) f0 f1 f2 f3 a1 a2 N x := nm_r (nI_1 c) (hk (c + 1) ⟨by omega, by omega⟩ (by omega))
      refine qd_walk (by omega) hn (by omega) (fun d d0 hd => ?_)
      have hdn := Nat.le_of_dvd (by omega) hd
      exact pk_le d 1 (fun _ => next) (fun g => pk_le n d (fun _ => next) (fun g2 => H d hd g g2))) c h
theorem qd_spl {post : Int32 → Prop} {u : St2} {n : Nat} (hn : n ≤ 30000) (hc : ∃ d, d ∣ n ∧ 1 < d ∧ d < n) (H : ∀ d, d ∣ n → 1 < d → d < n → post (nI d)) : wpX_splitter post u (nI n) := by
  obtain ⟨f0, f1, f2, f3, a1, a2⟩ := u
  obtain ⟨D, hD, hD1, hDn⟩ := hc
  refine ⟨by decide, pk_eq (n % 2) 0 (fun z => H 2 (Nat.dvd_of_mod_eq_zero z) (by omega) (by omega)) (fun z => ?_) (pk_rem (d := 2) (by omega) (by omega) (by omega))⟩
  exact qd_s10 hn (by omega) hD hD1 hDn H 1 ⟨by omega, by omega⟩
end
section
/-! the list of factors: its product -/
def qd_vv (a : Nat → Int32) (j : Nat) : Nat := (a j).toNatClampNeg
def qd_pf (a : Nat → Int32) (lo : Nat) : Nat → Nat
  | 0 => 1
  | k + 1 => qd_pf a lo k * qd_vv a (lo + k)
def qd_gd (a : Nat → Int32) (n : Nat) : Prop := ∀ j, j < n → ∃ v, 2 ≤ v ∧ v ≤ 30000 ∧ a j = nI v
theorem qd_vvI {a : Nat → Int32} {j v : Nat} (hv : v ≤ 30000) (h : a j = nI v) : qd_vv a j = v := by
  unfold qd_vv
  rw [h]
  exact nI_clamp (by omega)
theorem qd_pf_ext {a b : Nat → Int32} {lo : Nat} : ∀ k, (∀ j, lo ≤ j → j < lo + k → a j = b j) → qd_pf a lo k = qd_pf b lo k
  | 0 => fun _ => rfl
  | k + 1 => fun h => by
    have e : qd_vv a (lo + k) = qd_vv b (lo + k) := by
      unfold qd_vv
      rw [h (lo + k) (by omega) (by omega)]
    show qd_pf a lo k * qd_vv a (lo + k) = qd_pf b lo k * qd_vv b (lo + k)
    rw [qd_pf_ext k (fun j h1 h2 => h j h1 (by omega)), e]
theorem qd_pf_app (a : Nat → Int32) (i : Nat) : ∀ k, qd_pf a 0 (i + k) = qd_pf a 0 i * qd_pf a i k
  | 0 => (Nat.mul_one _).symm
  | k + 1 => by
    show qd_pf a 0 (i + k) * qd_vv a (0 + (i + k)) = qd_pf a 0 i * (qd_pf a i k * qd_vv a (i + k))
    rw [qd_pf_app a i k, Nat.zero_add, Nat.mul_assoc]
theorem qd_pf_hd (a : Nat → Int32) (lo : Nat) : ∀ k, qd_pf a lo (k + 1) = qd_vv a lo * qd_pf a (lo + 1) k
  | 0 => by
    show 1 * qd_vv a (lo + 0) = qd_vv a lo * 1
    rw [Nat.one_mul, Nat.mul_one, Nat.add_zero]
  | k + 1 => by
    show qd_pf a lo (k + 1) * qd_vv a (lo + (k + 1)) = qd_vv a lo * (qd_pf a (lo + 1) k * qd_vv a (lo + 1 + k))
    rw [qd_pf_hd a lo k, Nat.mul_assoc, show lo + (k + 1) = lo + 1 + k by omega]
theorem qd_pf_ge {a : Nat → Int32} : ∀ n, qd_gd a n → 2 ^ n ≤ qd_pf a 0 n
  | 0 => fun _ => Nat.le_refl 1
  | n + 1 => fun h => by
    rw [Nat.pow_succ]
    show 2 ^ n * 2 ≤ qd_pf a 0 n * qd_vv a (0 + n)
    obtain ⟨v, h2, h3, e⟩ := h n (by omega)
    rw [Nat.zero_add, qd_vvI h3 e]
    exact Nat.mul_le_mul (qd_pf_ge n (fun j hj => h j (by omega))) h2
theorem qd_pf_dvd {a : Nat → Int32} {j : Nat} : ∀ n, j < n → qd_vv a j ∣ qd_pf a 0 n
  | 0 => fun h => absurd h (by omega)
  | n + 1 => fun h => by
    show qd_vv a j ∣ qd_pf a 0 n * qd_vv a (0 + n)
    rw [Nat.zero_add]
    by_cases e : j = n
    · rw [e]
      exact Nat.dvd_mul_left _ _
    · exact Nat.dvd_trans (qd_pf_dvd n (by omega)) (Nat.dvd_mul_right _ _)
theorem qd_cnt {A B : Nat → Int32} {fc pc m : Nat} (hA : qd_gd A fc) (hB : qd_gd B pc) (h : qd_pf A 0 fc * qd_pf B 0 pc = m) (hm : m ≤ 30000) : fc + pc ≤ 14 := by
  rcases Nat.lt_or_ge 14 (fc + pc) with z | z
  · have t := Nat.mul_le_mul (qd_pf_ge fc hA) (qd_pf_ge pc hB)
    rw [← Nat.pow_add, h] at t
    have t2 : 2 ^ 15 ≤ 2 ^ (fc + pc) := Nat.pow_le_pow_right (by omega) (by omega)
    omega
  · exact z
theorem qd_add {a : Nat → Int32} {n v : Nat} (h2 : 2 ≤ v) (hv : v ≤ 30000) (h : qd_gd a n) : qd_gd (upd a n (nI v)) (n + 1) ∧ qd_pf (upd a n (nI v)) 0 (n + 1) = qd_pf a 0 n * v := by
  constructor
  · intro j hj
    by_cases e : j = n
    · rw [e, pk_us]
      exact ⟨v, h2, hv, rfl⟩
    · rw [pk_un e]
      exact h j (by omega)
  · show qd_pf (upd a n (nI v)) 0 n * qd_vv (upd a n (nI v)) (0 + n) = qd_pf a 0 n * v
    rw [Nat.zero_add, qd_vvI hv pk_us, qd_pf_ext n (fun j _ hj => pk_un (by omega))]
theorem qd_push {post : St2 → Prop} {f0 f1 f2 y : Int32} {a1 a2 : Nat → Int32} {pc v : Nat} (hp : pc < 20) (h2 : 2 ≤ v) (hv : v ≤ 30000) (hy : y = nI v) (hg : qd_gd a2 pc)
    (H : ∀ b, qd_gd b (pc + 1) → qd_pf b 0 (pc + 1) = qd_pf a2 0 pc * v → post (f0, f1, f2, nI (pc + 1), a1, b)) : wpX_pushPart post (f0, f1, f2, nI pc, a1, a2) y :=
  ⟨pk_in pc 20 hp, nm_r (e' := upd a2 pc (nI v)) (by rw [nI_clamp (by omega), hy]) (nm_r (nI_1 pc) (H _ (qd_add h2 hv hg).1 (qd_add h2 hv hg).2))⟩
theorem qd_ins5 {post : St2 → Prop} {f0 f1 f3 : Int32} {a2 : Nat → Int32} {fc p Q : Nat} (hfc : fc < 20) (h2 : 2 ≤ p) (hp : p ≤ 30000)
    (H : ∀ b, qd_gd b (fc + 1) → qd_pf b 0 (fc + 1) = p * Q → post (f0, f1, nI (fc + 1), f3, b, a2)) (t : Nat) (a1 : Nat → Int32)
    (h : t ≤ fc ∧ (∀ j, j ≤ fc → j ≠ t → ∃ v, 2 ≤ v ∧ v ≤ 30000 ∧ a1 j = nI v) ∧ qd_pf a1 0 t * qd_pf a1 (t + 1) (fc - t) = Q) :
    ∃ n, wX_insertFactor_5 post (nI p) f0 f1 (nI fc) f3 n (nI t) a1 a2 :=
  lp2 (fun n t a => wX_insertFactor_5 post (nI p) f0 f1 (nI fc) f3 n (nI t) a a2) (fun t a => t ≤ fc ∧ (∀ j, j ≤ fc → j ≠ t → ∃ v, 2 ≤ v ∧ v ≤ 30000 ∧ a j = nI v) ∧ qd_pf a 0 t * qd_pf a (t + 1) (fc - t) = Q) (fun t _ => t)
    (fun n t a hI hk => by
      obtain ⟨ht, hg, hq⟩ := hI
      have fin : wX_insertFactor_41 post (nI p) (nI t) f0 f1 (nI fc) f3 a a2 := by
        refine ⟨pk_in t 20 (by omega), nm_r (e' := upd a t (nI p)) (by rw [nI_clamp (by omega)]) (nm_r (nI_1 fc) (H _ ?_ ?_))⟩
        · intro j hj
          by_cases e : j = t
          · rw [e, pk_us]
            exact ⟨p, h2, hp, rfl⟩
          · rw [pk_un e]
            exact hg j (by omega) e
        · rw [show fc + 1 = t + (fc - t + 1) by omega, qd_pf_app, qd_pf_hd, qd_vvI hp pk_us, qd_pf_ext (b := a) t (fun j _ hj => pk_un (by omega)), qd_pf_ext (b := a) (fc - t) (fun j hj _ => pk_un (by omega)), ← hq, Nat.mul_left_comm]
      refine pk_le t 0 (fun _ => fin) (fun z => ?_)
      obtain ⟨k, rfl⟩ : ∃ k, t = k + 1 := ⟨t - 1, by omega⟩
      have ek : nI (k + 1) - 1 = nI k := nI_pred k
      have ec : (nI (k + 1) - 1).toNatClampNeg = k := by
        rw [ek]
        exact nI_clamp (by omega)
      refine ⟨pk_in k 20 (by omega) ek, br_c (fun _ => fin) (fun _ => ⟨pk_in k 20 (by omega) ek, pk_in (k + 1) 20 (by omega), nm_r (e' := upd a (k + 1) (a k)) (by rw [ec, nI_clamp (by omega)]) (nm_r (pk_m1 k) (hk k _ ⟨by omega, ?_, ?_⟩ (by omega)))⟩)⟩
      · intro j hj hjk
        by_cases e : j = k + 1
        · rw [e, pk_us]
          exact hg k (by omega) (by omega)
        · rw [pk_un e]
          exact hg j hj e
      · obtain ⟨v, v2, v3, ev⟩ := hg k (by omega) (by omega)
        rw [show fc - k = fc - (k + 1) + 1 by omega, qd_pf_hd, qd_vvI (j := k + 1) v3 (by rw [pk_us]; exact ev), qd_pf_ext (b := a) k (fun j _ hj => pk_un (by omega)), qd_pf_ext (b := a) (fc - (k + 1)) (fun j hj _ => pk_un (by omega)), ← hq]
        show _ = qd_pf a 0 k * qd_vv a (0 + k) * _
        rw [Nat.zero_add, qd_vvI v3 ev, Nat.mul_assoc]) t a1 h
theorem qd_ins {post : St2 → Prop} {f0 f1 f3 : Int32} {a1 a2 : Nat → Int32} {fc p : Nat} (hfc : fc < 20) (h2 : 2 ≤ p) (hp : p ≤ 30000) (hg : qd_gd a1 fc)
    (H : ∀ b, qd_gd b (fc + 1) → qd_pf b 0 (fc + 1) = p * qd_pf a1 0 fc → post (f0, f1, nI (fc + 1), f3, b, a2)) : wpX_insertFactor post (f0, f1, nI fc, f3, a1, a2) (nI p) :=
  qd_ins5 hfc h2 hp H fc a1 ⟨Nat.le_refl fc, fun j hj hne => hg j (by omega), by rw [Nat.sub_self]; exact Nat.mul_one _⟩
theorem qd_f39 {post : St2 → Prop} {m : Nat} (hm : m ≤ 30000) (H : ∀ fc A B, qd_gd A fc → qd_pf A 0 fc = m → fc ≤ 14 → post (nI m, 1, nI fc, nI 0, A, B)) (fc pc : Nat) (A B : Nat → Int32)
    (h : qd_gd A fc ∧ qd_gd B pc ∧ qd_pf A 0 fc * qd_pf B 0 pc = m) : ∃ n, wX_findFactors_39 post n (nI m) 1 (nI fc) (nI pc) A B :=
  lp4 (fun n fc pc A B => wX_findFactors_39 post n (nI m) 1 (nI fc) (nI pc) A B) (fun fc pc A B => qd_gd A fc ∧ qd_gd B pc ∧ qd_pf A 0 fc * qd_pf B 0 pc = m) (fun fc pc _ _ => 30 - (2 * fc + pc))
    (fun n fc pc A B hI hk => by
      obtain ⟨hA, hB, hq⟩ := hI
      have hc := qd_cnt hA hB hq hm
      refine pk_le pc 0 (fun z => ?_) (fun z => ?_)
      · have z0 : pc = 0 := by omega
        subst z0
        exact H fc A B hA (by rw [← hq]; exact (Nat.mul_one _).symm) (by omega)
      obtain ⟨k, rfl⟩ : ∃ k, pc = k + 1 := ⟨pc - 1, by omega⟩
      obtain ⟨v, v2, v3, ev⟩ := hB k (by omega)
      have hBk : qd_gd B k := fun j hj => hB j (by omega)
      have eB : qd_pf B 0 (k + 1) = qd_pf B 0 k * v := by
        show qd_pf B 0 k * qd_vv B (0 + k) = _
        rw [Nat.zero_add, qd_vvI v3 ev]
      rw [eB] at hq
      refine nm_r (nI_pred k) ⟨pk_in k 20 (by omega), nm_r (e' := nI v) (by rw [nI_clamp (by omega)]; exact ev) (qd_prim v3 ?_)⟩
      by_cases hpt : qd_pt v = true
      · rw [hpt]
        refine br_f (by decide) (qd_ins (by omega) v2 v3 hA (fun b hb eb => hk (fc + 1) k b B ⟨hb, hBk, ?_⟩ (by omega)))
        rw [eb, ← hq, Nat.mul_comm v, Nat.mul_assoc, Nat.mul_comm v]
      · have hpf : qd_pt v = false := by simpa using hpt
        rw [hpf]
        refine br_t (by decide) (qd_spl v3 (qd_pt_false v3 v2 hpf) (fun d hd d1 d2 => ?_))
        have hc2 : 2 ≤ v / d := by
          obtain ⟨c, hc⟩ := hd
          have e : v / d = c := by
            rw [hc]
            exact Nat.mul_div_cancel_left c (by omega)
          rw [e]
          rcases Nat.lt_or_ge c 2 with g | g
          · have g2 : c = 0 ∨ c = 1 := by omega
            rcases g2 with g2 | g2
            · rw [g2, Nat.mul_zero] at hc
              omega
            · rw [g2, Nat.mul_one] at hc
              omega
          · exact g
        have hvd := Nat.div_le_self v d
        refine qd_push (by omega) (by omega) (by omega) rfl hBk (fun b1 hb1 eb1 => ⟨nI_ne0 (by omega) (by omega), qd_push (by omega) hc2 (by omega) (pk_div (by omega) (by omega) (by omega)) hb1 (fun b2 hb2 eb2 => ?_)⟩)
        refine hk fc (k + 1 + 1) A b2 ⟨hA, hb2, ?_⟩ (by omega)
        rw [eb2, eb1, Nat.mul_assoc (qd_pf B 0 k), Nat.mul_div_cancel' hd]
        exact hq) fc pc A B h
theorem qd_ff {post : St2 → Prop} {m : Nat} {f2 f3 : Int32} {a1 a2 : Nat → Int32} (h0 : 0 < m) (hm : m ≤ 30000) (H : ∀ fc A B, qd_gd A fc → qd_pf A 0 fc = m → fc ≤ 14 → post (nI m, 1, nI fc, nI 0, A, B)) :
    wpX_findFactors post (nI m, 0, f2, f3, a1, a2) := by
  refine br_t rfl (pk_le m 1 (fun z => ?_) (fun z => ?_))
  · exact qd_f39 hm H 0 0 a1 a2 ⟨fun j hj => absurd hj (by omega), fun j hj => absurd hj (by omega), by show 1 * 1 = m; omega⟩
  · refine qd_push (pc := 0) (by omega) (by omega) hm rfl (fun j hj => absurd hj (by omega)) (fun b hb eb => ?_)
    exact qd_f39 hm H 0 1 a1 b ⟨fun j hj => absurd hj (by omega), hb, by rw [eb]; show 1 * (1 * m) = m; omega⟩
theorem qd_factor {post : Int32 → St2 → Prop} {m : Nat} {k f2 f3 : Int32} {a1 a2 : Nat → Int32} (h0 : 0 < m) (hm : m ≤ 30000)
    (H : ∀ r fc A B, qd_gd A fc → qd_pf A 0 fc = m → fc ≤ 14 → (r = -2 ∨ (¬ k < 0 ∧ ∃ v, 2 ≤ v ∧ v ≤ 30000 ∧ v ∣ m ∧ r = nI v)) → post r (nI m, 1, nI fc, nI 0, A, B)) :
    wpX_factor post (nI m, 0, f2, f3, a1, a2) k := by
  unfold wpX_factor
  dsimp only
  refine qd_ff h0 hm (fun fc A B hA eA hfc => ?_)
  have none := H (-2) fc A B hA eA hfc (Or.inl rfl)
  refine br_c (fun _ => none) (fun hk => ?_)
  obtain ⟨j, hj, rfl⟩ := nI_of hk
  refine pk_lt j fc (fun z => ⟨pk_in j 20 (by omega), ?_⟩) (fun _ => none)
  rw [nI_clamp hj]
  obtain ⟨v, v2, v3, ev⟩ := hA j z
  refine H _ fc A B hA eA hfc (Or.inr ⟨hk, v, v2, v3, ?_, ev⟩)
  have t := qd_pf_dvd (a := A) fc z
  rw [qd_vvI v3 ev, eA] at t
  exact t
end
section
/-! coprimes and order -/
theorem qd_c11 {post : Int32 → St2 → Prop} {m fc : Nat} {f3 : Int32} {A B : Nat → Int32} (hm1 : 1 < m) (hm : m ≤ 30000) (hA : qd_gd A fc) (eA : qd_pf A 0 fc = m) (hfc : fc ≤ 14)
    (H : ∀ x, 1 ≤ x → x < m → post (nI x) (nI m, 1, nI fc, f3, A, B)) (x k : Nat) (h : k ≤ fc ∧ 1 ≤ x ∧ x ≤ m ∧ (0 < k → x < m) ∧ ∃ c, x = c * qd_pf A k (fc - k)) :
    ∃ n, wX_coprimes_11 post (nI m) 1 (nI fc) f3 A B n (nI x) (nI k) :=
  lp2 (fun n x k => wX_coprimes_11 post (nI m) 1 (nI fc) f3 A B n (nI x) (nI k)) (fun x k => k ≤ fc ∧ 1 ≤ x ∧ x ≤ m ∧ (0 < k → x < m) ∧ ∃ c, x = c * qd_pf A k (fc - k)) (fun _ k => fc - k)
    (fun n x k hI hk => by
      obtain ⟨hkf, hx1, hxm, hxk, c, hc⟩ := hI
      refine pk_le fc k (fun z => H x hx1 (hxk ?_)) (fun z => ?_)
      · rcases Nat.eq_zero_or_pos k with g | g
        · have g2 : fc = 0 := by omega
          rw [g2] at eA
          have g3 : (1 : Nat) = m := eA
          omega
        · exact g
      obtain ⟨v, v2, v3, ev⟩ := hA k z
      have eC : A (nI k).toNatClampNeg = nI v := by
        rw [nI_clamp (by omega)]
        exact ev
      rw [show fc - k = fc - (k + 1) + 1 by omega, qd_pf_hd, qd_vvI v3 ev] at hc
      generalize hP : qd_pf A (k + 1) (fc - (k + 1)) = P at hc
      have c43 : wX_coprimes_43 post (wX_coprimes_11 post (nI m) 1 (nI fc) f3 A B n) (nI x) (nI k) (nI m) 1 (nI fc) f3 A B := by
        have ey : x = v * (c * P) := by
          rw [hc]
          exact Nat.mul_left_comm c v P
        have ed : x / v = c * P := by
          rw [ey]
          exact Nat.mul_div_cancel_left _ (by omega)
        have y1 : 1 ≤ c * P := by
          rcases Nat.eq_zero_or_pos (c * P) with g | g
          · rw [g, Nat.mul_zero] at ey
            omega
          · exact g
        have e1 : (nI x / nI v) * (nI v - 1) = nI (c * P * (v - 1)) := by
          have t : nI v - 1 = nI (v - 1) := pk_sub (b := 1) (by omega)
          rw [t, pk_div (by omega) (by omega) (by omega), ed, pk_mul]
        have t1 : 1 ≤ c * P * (v - 1) := Nat.mul_le_mul y1 (show 1 ≤ v - 1 by omega)
        have t2 : c * P * (v - 1) < x := by
          rw [ey, Nat.mul_comm v]
          exact Nat.mul_lt_mul_of_pos_left (by omega) y1
        refine ⟨pk_in k 20 (by omega), by rw [eC]; exact nI_ne0 (by omega) (by omega), pk_in k 20 (by omega), nm_r (e' := nI (c * P * (v - 1))) (by rw [eC]; exact e1) (nm_r (nI_1 k) ?_)⟩
        exact hk _ (k + 1) ⟨by omega, t1, by omega, fun _ => by omega, c * (v - 1), by rw [hP]; exact Nat.mul_right_comm c P (v - 1)⟩ (by omega)
      refine pk_le k 0 (fun _ => c43) (fun g => ?_)
      have ek : nI k - 1 = nI (k - 1) := pk_sub (b := 1) g
      refine ⟨pk_in (k - 1) 20 (by omega) ek, pk_in k 20 (by omega), br_c (fun _ => nm_r (nI_1 k) ?_) (fun _ => c43)⟩
      exact hk x (k + 1) ⟨by omega, hx1, hxm, fun _ => hxk g, c * v, by rw [hP, hc]; exact (Nat.mul_assoc c v P).symm⟩ (by omega)) x k h
theorem qd_cop {post : Int32 → St2 → Prop} {m fc : Nat} {f3 : Int32} {A B : Nat → Int32} (hm1 : 1 < m) (hm : m ≤ 30000) (hA : qd_gd A fc) (eA : qd_pf A 0 fc = m) (hfc : fc ≤ 14)
    (H : ∀ x, 1 ≤ x → x < m → post (nI x) (nI m, 1, nI fc, f3, A, B)) : wpX_coprimes post (nI m, 1, nI fc, f3, A, B) := by
  unfold wpX_coprimes
  dsimp only
  refine br_f (by decide) ?_
  exact qd_c11 hm1 hm hA eA hfc H m 0 ⟨by omega, by omega, by omega, fun z => absurd z (by omega), 1, by rw [Nat.sub_zero, eA, Nat.one_mul]⟩
theorem qd_o65 {post : Int32 → St2 → Prop} {J : Int32 → Int32 → Int32 → Prop} {m b q R : Nat} {f1 f2 f3 : Int32} {A B : Nat → Int32} (h0 : 0 < m) (hm : m ≤ 30000) (hb : b ≤ 30000) (hq2 : 2 ≤ q) (hq : q ≤ 30000)
    (HJ : ∀ x r, 1 ≤ r → r ∣ x → 1 ≤ x → x < m → ¬ r % q = 0 → (r = R ∨ r * q ≤ R) → J (nI x) (nI r) (nI (q + 1))) (x r : Nat) (h : 1 ≤ r ∧ r ∣ x ∧ 1 ≤ x ∧ x < m ∧ (r = R ∨ r * q ≤ R)) :
    ∃ n, wX_order_65 post J (nI b) (nI q) (nI m) f1 f2 f3 A B n (nI x) (nI r) :=
  lp2 (fun n x r => wX_order_65 post J (nI b) (nI q) (nI m) f1 f2 f3 A B n (nI x) (nI r)) (fun x r => 1 ≤ r ∧ r ∣ x ∧ 1 ≤ x ∧ x < m ∧ (r = R ∨ r * q ≤ R)) (fun _ r => r)
    (fun n x r hI hk => by
      obtain ⟨hr1, hrx, hx1, hxm, hR⟩ := hI
      have hrle := Nat.le_of_dvd hx1 hrx
      have hq0 : ¬ nI q = 0 := nI_ne0 (by omega) (by omega)
      refine ⟨hq0, pk_eq (r % q) 0 (fun z => ?_) (fun z => nm_r (nI_1 q) (HJ x r hr1 hrx hx1 hxm z hR)) (pk_rem (by omega) (by omega) (by omega)) rfl (by have := Nat.mod_le r q; omega)⟩
      obtain ⟨s, hs⟩ := Nat.dvd_of_mod_eq_zero z
      obtain ⟨c, hc⟩ := hrx
      have es : r / q = s := by
        rw [hs]
        exact Nat.mul_div_cancel_left s (by omega)
      have ex : x / q = s * c := by
        rw [hc, hs, Nat.mul_assoc]
        exact Nat.mul_div_cancel_left _ (by omega)
      have s1 : 1 ≤ s := by
        rcases Nat.eq_zero_or_pos s with g | g
        · rw [g, Nat.mul_zero] at hs
          omega
        · exact g
      have c1 : 1 ≤ c := by
        rcases Nat.eq_zero_or_pos c with g | g
        · rw [g, Nat.mul_zero] at hc
          omega
        · exact g
      have sr : s < r := by
        have t : 2 * s ≤ q * s := Nat.mul_le_mul_right s hq2
        omega
      have sR : s * q ≤ R := by
        rw [Nat.mul_comm, ← hs]
        rcases hR with g | g
        · omega
        · have t : r * 1 ≤ r * q := Nat.mul_le_mul_left r (by omega)
          omega
      have e1 : nI r / nI q = nI s := by rw [pk_div (by omega) (by omega) (by omega), es]
      have e2 : nI x / nI q = nI (s * c) := by rw [pk_div (by omega) (by omega) (by omega), ex]
      have hsc1 : 1 ≤ s * c := Nat.mul_le_mul s1 c1
      have hscx : s * c ≤ x := by
        rw [← ex]
        exact Nat.div_le_self x q
      have hl := Nat.mod_lt (b ^ (s * c)) h0
      refine ⟨hq0, nm_r e1 ⟨hq0, qd_prE e2 (by omega) (by omega) h0 hm ?_⟩⟩
      refine pk_eq (b ^ (s * c) % m) 1 (fun _ => ⟨hq0, nm_r e2 ?_⟩) (fun _ => ?_)
      · exact hk (s * c) s ⟨s1, Nat.dvd_mul_right s c, hsc1, by omega, Or.inr sR⟩ sr
      · exact hk x s ⟨s1, ⟨q * c, by rw [hc, hs, Nat.mul_comm q s, Nat.mul_assoc]⟩, hx1, hxm, Or.inr sR⟩ sr) x r h
theorem qd_o48 {post : Int32 → St2 → Prop} {m b : Nat} {f1 f2 f3 : Int32} {A B : Nat → Int32} (h0 : 0 < m) (hm : m ≤ 30000) (hb : b ≤ 30000)
    (H : ∀ x, 1 ≤ x → x < m → post (nI x) (nI m, f1, f2, f3, A, B)) (x r p : Nat) (h : 1 ≤ r ∧ r ∣ x ∧ 1 ≤ x ∧ x < m ∧ 2 ≤ p ∧ p ≤ 30001 ∧ (r = 1 ∨ p ≤ 180)) :
    ∃ n, wX_order_48 post (nI b) (nI m) f1 f2 f3 A B n (nI x) (nI r) (nI p) :=
  lp3 (fun n x r p => wX_order_48 post (nI b) (nI m) f1 f2 f3 A B n (nI x) (nI r) (nI p)) (fun x r p => 1 ≤ r ∧ r ∣ x ∧ 1 ≤ x ∧ x < m ∧ 2 ≤ p ∧ p ≤ 30001 ∧ (r = 1 ∨ p ≤ 180)) (fun _ r p => if r = 1 then 0 else 201 - p)
    (fun n x r p hI hk => by
      obtain ⟨hr1, hrx, hx1, hxm, hp2, hp3, hrp⟩ := hI
      have hrle := Nat.le_of_dvd hx1 hrx
      refine pk_le r 1 (fun _ => H x hx1 hxm) (fun z => ?_)
      have hp : p ≤ 180 := by omega
      have hpp : p * p ≤ 180 * 180 := Nat.mul_le_mul hp hp
      refine pk_le (p * p) r (fun g => ?_) (fun g => ?_) (pk_mul p p)
      · have p3 : p ≤ 173 := by
          rcases Nat.lt_or_ge 173 p with y | y
          · have t : 174 * 174 ≤ p * p := Nat.mul_le_mul y y
            omega
          · exact y
        refine qd_o65 (R := r) h0 hm hb hp2 (by omega) (fun x' r' a1 a2 a3 a4 a5 a6 => ?_) x r ⟨hr1, hrx, hx1, hxm, Or.inl rfl⟩
        refine hk x' r' (p + 1) ⟨a1, a2, a3, a4, by omega, by omega, Or.inr (by omega)⟩ ?_
        rw [if_neg (show ¬ r = 1 by omega)]
        by_cases e : r' = 1
        · rw [if_pos e]
          omega
        · rw [if_neg e]
          omega
      · refine qd_o65 (R := r) h0 hm hb (by omega) (by omega) (fun x' r' a1 a2 a3 a4 a5 a6 => ?_) x r ⟨hr1, hrx, hx1, hxm, Or.inl rfl⟩
        have e : r' = 1 := by
          rcases a6 with y | y
          · rw [y, Nat.mod_self] at a5
            exact absurd rfl a5
          · rcases Nat.lt_or_ge r' 2 with w | w
            · omega
            · have t : 2 * r ≤ r' * r := Nat.mul_le_mul_right r w
              omega
        refine hk x' r' (r + 1) ⟨a1, a2, a3, a4, by omega, by omega, Or.inl e⟩ ?_
        rw [if_neg (show ¬ r = 1 by omega), if_pos e]
        omega) x r p h
theorem qd_order {post : Int32 → St2 → Prop} {m fc : Nat} {a f3 : Int32} {A B : Nat → Int32} (h0 : 0 < m) (hm : m ≤ 30000) (hA : qd_gd A fc) (eA : qd_pf A 0 fc = m) (hfc : fc ≤ 14)
    (H1 : (a < 1 ∨ ¬ a ≤ 30000) → post (-1) (nI m, 1, nI fc, f3, A, B)) (H2 : ¬ a < 1 → a ≤ 30000 → post (-2) (nI m, 1, nI fc, f3, A, B))
    (H3 : ¬ a < 1 → a ≤ 30000 → 1 < m → ∀ x, 1 ≤ x → x < m → post (nI x) (nI m, 1, nI fc, f3, A, B)) : wpX_order post (nI m, 1, nI fc, f3, A, B) a := by
  refine br_c (fun z => H1 (Or.inl z)) (fun z => br_c (fun z2 => ?_) (fun z2 => H1 (Or.inr z2)))
  refine pk_eq m 1 (fun _ => H2 z z2) (fun g => ?_)
  obtain ⟨b, hb, rfl⟩ : ∃ b : Nat, b ≤ 30000 ∧ a = nI b := by
    refine nI_of2 (n := 30000) (by decide) (fun y => z ?_) z2
    rw [Int32.lt_iff_toInt_lt] at y ⊢
    have t0 : (0 : Int32).toInt = 0 := by decide
    have t1 : (1 : Int32).toInt = 1 := by decide
    omega
  have hg := Nat.gcd_le_right (m := b) (n := m) h0
  refine qd_cd (by omega) (by omega) (pk_eq (Nat.gcd b m) 1 (fun _ => ?_) (fun _ => H2 z z2))
  refine qd_cop (by omega) hm hA eA hfc (fun x x1 xm => ?_)
  exact qd_o48 h0 hm hb (H3 z z2 (by omega)) x x 2 ⟨x1, Nat.dvd_refl x, x1, xm, by omega, by omega, Or.inr (by omega)⟩
end
section
/-! the law -/
theorem qd_nm2 {x : Nat} (h : x < 2 ^ 31) : ¬ nI x = -2 := by
  intro e
  have t := nI_pos h
  rw [e] at t
  exact t (by decide)
theorem qd_ndiv {w m : Nat} (hw : w < 2 ^ 31) (hm : m < 2 ^ 31) : (-nI w) / nI m = -nI (w / m) := by
  have hl := Nat.div_le_self w m
  apply Int32.toInt_inj.mp
  rw [Int32.toInt_div, sb_negT hw, nI_toInt hm, sb_negT (by omega), Int.neg_tdiv, Int.tdiv_eq_ediv_of_nonneg (by omega), ← Int.natCast_ediv]
  generalize w / m = c at *
  exact Int.bmod_eq_of_le (by omega) (by omega)
theorem qd_rem0 {q a m : Nat} (hq : q < m) (hm : m ≤ 30000) (ha : a ≤ 30000) (h : q * q % m = a % m) : ((nI q * nI q) - nI a) - ((nI q * nI q) - nI a) / nI m * nI m = 0 := by
  have hqq : q * q ≤ 30000 * 30000 := Nat.mul_le_mul (by omega) (by omega)
  rw [pk_mul]
  by_cases c : a ≤ q * q
  · rw [pk_sub c, pk_rem (by omega) (by omega) (by omega), Nat.sub_mod_eq_zero_of_mod_eq h]
    rfl
  · have e : nI (q * q) - nI a = -nI (a - q * q) := by
      rw [← pk_sub (show q * q ≤ a by omega), Int32.neg_sub]
    have hz : (a - q * q) % m = 0 := Nat.sub_mod_eq_zero_of_mod_eq h.symm
    have hd := Nat.div_mul_cancel (Nat.dvd_of_mod_eq_zero hz)
    rw [e, qd_ndiv (by omega) (by omega), Int32.neg_mul, pk_mul, hd, Int32.sub_self]
theorem qd_0le {x : Int32} (h : ¬ x < 0) : 0 ≤ x := by
  obtain ⟨j, hj, rfl⟩ := nI_of h
  exact nI_pos' hj
theorem qd_277 {post : Int32 → St0 → Prop} {mc ms kc ks m fc : Nat} {a f3 : Int32} {A B : Nat → Int32} (hP : post 1 ()) (h0 : 0 < m) (hm : m ≤ 30000) (hA : qd_gd A fc) (eA : qd_pf A 0 fc = m) (hfc : fc ≤ 14) :
    wL_lawOf_277 post mc ms a (nI m) kc ks (nI m) 1 (nI fc) f3 A B := by
  refine qd_order h0 hm hA eA hfc (fun z => ?_) (fun z1 z2 => ?_) (fun z1 z2 hm1 x x1 xm => ?_)
  · have c297 : wL_lawOf_297 post mc ms (-1) kc ks := br_t rfl hP
    exact br_c (fun _ => c297) (fun g => br_f (z.resolve_left g) c297)
  · exact br_f z1 (br_t z2 (br_t rfl hP))
  · exact br_f z1 (br_t z2 (br_f (qd_nm2 (by omega)) (br_f (nI_nlt (b := 1) x1 (by omega)) (br_f (nI_ge xm (by omega)) (br_f (nI_ge (a := 1) hm1 (by omega)) hP)))))
theorem qd_230 {post : Int32 → St0 → Prop} {mc ms kc ks m : Nat} {a k f2 f3 : Int32} {a1 a2 : Nat → Int32} (hP : post 1 ()) (h0 : 0 < m) (hm : m ≤ 30000) :
    wL_lawOf_230 post mc ms a k (nI m) kc ks (nI m) 0 f2 f3 a1 a2 := by
  refine qd_factor h0 hm (fun r fc A B hA eA hfc hr => ?_)
  have c277 : wL_lawOf_277 post mc ms a (nI m) kc ks (nI m) 1 (nI fc) (nI 0) A B := qd_277 hP h0 hm hA eA hfc
  rcases hr with rfl | ⟨hk, v, v2, v3, hd, rfl⟩
  · exact br_c (fun _ => br_t rfl c277) (fun _ => br_t rfl c277)
  · refine br_t (qd_0le hk) (br_f (qd_nm2 (by omega)) (br_f (nI_nlt (b := 2) v2 (by omega)) ⟨nI_ne0 (by omega) (by omega), br_t ?_ c277⟩))
    rw [pk_rem (by omega) (by omega) (by omega), Nat.mod_eq_zero_of_dvd hd]
    rfl
theorem qd_168 {post : Int32 → St0 → Prop} {mc ms kc ks m : Nat} {a k f2 f3 : Int32} {a1 a2 : Nat → Int32} (hP : post 1 ()) (h0 : 0 < m) (hm : m ≤ 30000) :
    wL_lawOf_168 post mc ms a k (nI m) kc ks (nI m) 0 f2 f3 a1 a2 := by
  have c230 : wL_lawOf_230 post mc ms a k (nI m) kc ks (nI m) 0 f2 f3 a1 a2 := qd_230 hP h0 hm
  have c187 : wL_lawOf_187 post mc ms a k (nI m) (-1) kc ks (nI m) 0 f2 f3 a1 a2 := br_t rfl c230
  by_cases z : a < 0
  · exact br_t z (br_t z c187)
  by_cases z2 : a ≤ 30000
  · obtain ⟨b, hb, rfl⟩ := nI_of2 (n := 30000) (by decide) z z2
    refine qd_root h0 hm hb ?_ (fun q hq hqq => ?_)
    · exact br_f z (br_t z2 (br_t rfl c230))
    · exact br_f z (br_t z2 (br_f (qd_nm2 (by omega)) (br_f (nI_pos (by omega)) (br_f (nI_ge hq (by omega)) ⟨nI_ne0 h0 (by omega), br_t (qd_rem0 hq hm hb hqq) c230⟩))))
  · exact br_f z (br_f z2 (br_f z (br_f z2 c187)))
theorem qd_51 {post : Int32 → St0 → Prop} {mc ms kc ks m : Nat} {x1 x2 a k f2 f3 : Int32} {a1 a2 : Nat → Int32} (hP : post 1 ()) (h0 : 0 < m) (hm : m ≤ 30000) :
    wL_lawOf_51 post mc ms x1 x2 a k (nI m) kc ks (nI m) 0 f2 f3 a1 a2 := by
  have c168 : wL_lawOf_168 post mc ms a k (nI m) kc ks (nI m) 0 f2 f3 a1 a2 := qd_168 hP h0 hm
  have c88 : wL_lawOf_88 post mc ms x1 x2 a k (nI m) (-1) kc ks (nI m) 0 f2 f3 a1 a2 := br_t rfl (br_t rfl c168)
  by_cases z1 : x1 < 0
  · exact br_t z1 (br_t z1 c88)
  by_cases z2 : 30000 < x1
  · exact br_f z1 (br_t z2 (br_f z1 (br_t z2 c88)))
  by_cases z3 : x2 < 0
  · exact br_f z1 (br_f z2 (br_t z3 (br_f z1 (br_f z2 (br_t z3 c88)))))
  by_cases z4 : x2 ≤ 30000
  · obtain ⟨b, hb, rfl⟩ := nI_of2 (n := 30000) (by decide) z1 (Int32.not_lt.mp z2)
    obtain ⟨e, he, rfl⟩ := nI_of2 (n := 30000) (by decide) z3 z4
    refine br_f z1 (br_f z2 (br_f z3 (br_t z4 ?_)))
    refine qd_pr (by omega) (by omega) h0 hm ?_
    have hl := Nat.mod_lt (b ^ e) h0
    have hl2 := Nat.mod_lt b h0
    have m0 : ¬ nI m = 0 := nI_ne0 h0 (by omega)
    have c144 : wL_lawOf_144 post mc ms (nI b) (nI e) a k (nI m) (nI (b ^ e % m)) kc ks (nI m) 0 f2 f3 a1 a2 := by
      refine pk_eq e 2 (fun g => ⟨m0, m0, m0, br_t ?_ c168⟩) (fun _ => c168)
      have hbb : b % m * (b % m) ≤ 30000 * 30000 := Nat.mul_le_mul (by omega) (by omega)
      rw [pk_rem (by omega) h0 (by omega), pk_mul, pk_rem (by omega) h0 (by omega), g, Nat.pow_two, Nat.mul_mod]
    have c130 : wL_lawOf_130 post mc ms (nI b) (nI e) a k (nI m) (nI (b ^ e % m)) kc ks (nI m) 0 f2 f3 a1 a2 := by
      refine pk_eq e 1 (fun g => ⟨m0, br_t ?_ c144⟩) (fun _ => c144)
      rw [pk_rem (by omega) h0 (by omega), g, Nat.pow_one]
    have c89 : wL_lawOf_89 post mc ms (nI b) (nI e) a k (nI m) (nI (b ^ e % m)) 1 kc ks (nI m) 0 f2 f3 a1 a2 := by
      refine br_f (by decide) (br_f (nI_pos (by omega)) (br_f (nI_ge hl (by omega)) (pk_eq e 0 (fun g => ⟨m0, br_t ?_ c130⟩) (fun _ => c130))))
      have t : (1 : Int32) - 1 / nI m * nI m = nI (1 % m) := pk_rem (a := 1) (by omega) h0 (by omega)
      rw [t, g, Nat.pow_zero]
    exact br_f z1 (br_f z2 (br_f z3 (br_f (Int32.not_lt.mpr z4) c89)))
  · exact br_f z1 (br_f z2 (br_f z3 (br_f z4 (br_f z1 (br_f z2 (br_f z3 (br_t (Int32.not_le.mp z4) c88)))))))
theorem qd_lawOf {post : Int32 → St0 → Prop} {n b e a k : Int32} (hP : post 1 ()) : wpL_lawOf post 30 464 () n b e a k := by
  refine ⟨by omega, by omega, 2, 40, by omega, by omega, by omega, by omega, by omega, by omega, ?_⟩
  have c1 : ∀ kc ks, wL_lawOf_51 post 30 464 b e a k 1 kc ks 1 0 0 0 (fun _ => 0) (fun _ => 0) := fun kc ks => qd_51 (m := 1) hP (by omega) (by omega)
  refine br_c (fun z => ?_) (fun z => br_c (fun z2 => ?_) (fun z2 => ?_))
  · exact br_t z (br_t rfl (br_t rfl (c1 _ _)))
  · exact br_f z (br_f (Int32.not_le.mpr z2) (br_t rfl (br_t rfl (c1 _ _))))
  · have z3 := Int32.not_lt.mp z2
    refine br_f z (br_t z3 (br_t rfl (br_f (by decide) ?_)))
    have h1 : ¬ n < 0 := by
      intro y
      refine z ?_
      rw [Int32.lt_iff_toInt_lt] at y ⊢
      have t0 : (0 : Int32).toInt = 0 := by decide
      have t1 : (1 : Int32).toInt = 1 := by decide
      omega
    obtain ⟨m, hm, rfl⟩ := nI_of2 (n := 30000) (by decide) h1 z3
    have hm0 : 0 < m := by
      rcases Nat.eq_zero_or_pos m with g | g
      · rw [g] at z
        exact absurd (by decide) z
      · exact g
    exact qd_51 hP hm0 hm
theorem qd_cell {post : Int32 → Prop} {L j : Nat} {xs : Nat → Int32} {u : St0} {y : Int32} (hL : L ≤ 5) (hj : j ≤ 5) (hy : y = nI j) (H : ∀ r, post r) : wpL_cellAt post L xs u y := by
  subst hy
  exact pk_le L j (fun _ => H 0) (fun z => ⟨pk_in j L z, H _⟩)
theorem i_vc (xs : Nat → Int32) (L : Nat) (hL : L ≤ 5) : wpL_law (fun r => r = 1) L xs :=
  qd_cell (j := 0) hL (by omega) rfl (fun _ => qd_cell (j := 1) hL (by omega) rfl (fun _ => qd_cell (j := 2) hL (by omega) rfl (fun _ => qd_cell (j := 3) hL (by omega) rfl (fun _ => qd_cell (j := 4) hL (by omega) rfl (fun _ =>
    ⟨30, 464, by omega, by omega, qd_lawOf rfl⟩)))))
end
