section
theorem pk_us {f : Nat → Int32} {k : Nat} {x : Int32} : upd f k x k = x := if_pos rfl
theorem pk_un {f : Nat → Int32} {k j : Nat} {x : Int32} (h : j ≠ k) : upd f k x j = f j := if_neg h
theorem pk_sub {a b : Nat} (h : b ≤ a) : nI a - nI b = nI (a - b) := by
  obtain ⟨c, rfl⟩ : ∃ c, a = c + b := ⟨a - b, by omega⟩
  rw [← nI_add, Int32.add_sub_cancel, Nat.add_sub_cancel]
theorem pk_m1 (n : Nat) : nI (n + 1) + (-1) = nI n := by
  rw [← nI_1, Int32.add_assoc, show (1 : Int32) + (-1) = 0 from rfl, Int32.add_zero]
theorem pk_mul (a b : Nat) : nI a * nI b = nI (a * b) := (Int32.ofNat_mul a b).symm
theorem pk_div {a d : Nat} (ha : a < 2 ^ 31) (h0 : 0 < d) (hd : d < 2 ^ 31) : nI a / nI d = nI (a / d) := by
  apply Int32.toInt_inj.mp
  rw [lg_idiv_nonneg (by rw [nI_toInt ha]; omega) (by rw [nI_toInt hd]; omega), nI_toInt ha, nI_toInt hd, nI_toInt (Nat.lt_of_le_of_lt (Nat.div_le_self a d) ha)]
  first | rfl | exact (Int.natCast_ediv _ _).symm
theorem pk_rem {a d : Nat} (ha : a < 2 ^ 31) (h0 : 0 < d) (hd : d < 2 ^ 31) : nI a - nI a / nI d * nI d = nI (a % d) := by
  rw [pk_div ha h0 hd, pk_mul, pk_sub (Nat.div_mul_le_self a d)]
  exact congrArg nI (by have := Nat.div_add_mod' a d; omega)
theorem pk_sub_toInt {a b : Nat} (ha : a < 2 ^ 30) (hb : b < 2 ^ 30) : (nI a - nI b).toInt = (a : Int) - b := by
  rw [Int32.toInt_sub, nI_toInt (by omega), nI_toInt (by omega)]
  exact Int.bmod_eq_of_le (by omega) (by omega)
theorem pk_sneg {a b : Nat} (hb : b < 2 ^ 30) (h : a < b) : nI a - nI b < 0 := by
  rw [Int32.lt_iff_toInt_lt, pk_sub_toInt (by omega) hb, show (0 : Int32).toInt = 0 from by decide]
  omega
theorem pk_ix (x : Int32) {n : Nat} (hn : n < 2 ^ 31) : x < 0 ∨ nI n ≤ x ∨ ∃ j : Nat, j < n ∧ x = nI j := by
  by_cases h : x < 0
  · exact Or.inl h
  · obtain ⟨j, hj, rfl⟩ := nI_of h
    by_cases h2 : j < n
    · exact Or.inr (Or.inr ⟨j, h2, rfl⟩)
    · exact Or.inr (Or.inl (nI_le (by omega) hj))
theorem pk_le {x y : Int32} {A B : Prop} (a b : Nat) (f : a ≤ b → A) (g : b < a → B) (hx : x = nI a := by rfl) (hy : y = nI b := by rfl) (ha : a < 2 ^ 31 := by omega) (hb : b < 2 ^ 31 := by omega) : (x ≤ y → A) ∧ (¬ x ≤ y → B) := by
  subst hx hy
  rw [nI_leI ha hb]
  exact ⟨f, fun z => g (by omega)⟩
theorem pk_lt {x y : Int32} {A B : Prop} (a b : Nat) (f : a < b → A) (g : b ≤ a → B) (hx : x = nI a := by rfl) (hy : y = nI b := by rfl) (ha : a < 2 ^ 31 := by omega) (hb : b < 2 ^ 31 := by omega) : (x < y → A) ∧ (¬ x < y → B) := by
  subst hx hy
  rw [nI_ltI ha hb]
  exact ⟨f, fun z => g (by omega)⟩
theorem pk_eq {x y : Int32} {A B : Prop} (a b : Nat) (f : a = b → A) (g : a ≠ b → B) (hx : x = nI a := by rfl) (hy : y = nI b := by rfl) (ha : a < 2 ^ 31 := by omega) (hb : b < 2 ^ 31 := by omega) : (x = y → A) ∧ (¬ x = y → B) := by
  subst hx hy
  rw [nI_eq ha hb]
  exact ⟨f, g⟩
theorem pk_in {x : Int32} (n N : Nat) (h : n < N) (hx : x = nI n := by rfl) (hN : N < 2 ^ 31 := by omega) : vp_in x N := by
  subst hx
  exact vp_in_nI h hN
theorem pk_cl {x : Int32} (n : Nat) (hx : x = nI n := by rfl) (h : n < 2 ^ 31 := by omega) : x.toNatClampNeg = n := by
  subst hx
  exact nI_clamp h
theorem pk_tn {n : Nat} (h : n < 2 ^ 32) : (nI n).toBitVec.toNat = n := Nat.mod_eq_of_lt h
theorem pk_and (x : Int32) {m : Int32} (k : Nat) (hm : m.toBitVec.toNat = 2 ^ k - 1) : x &&& m = nI (x.toBitVec.toNat % 2 ^ k) := by
  apply Int32.toBitVec_inj.mp
  apply BitVec.eq_of_toNat_eq
  rw [Int32.toBitVec_and, BitVec.toNat_and, hm, Nat.and_two_pow_sub_one_eq_mod]
  show _ = (BitVec.ofNat 32 _).toNat
  rw [BitVec.toNat_ofNat]
  exact (Nat.mod_eq_of_lt (Nat.lt_of_le_of_lt (Nat.mod_le _ _) x.toBitVec.isLt)).symm
theorem pk_andN {n : Nat} (h : n < 2 ^ 32) {m : Int32} (k : Nat) (hm : m.toBitVec.toNat = 2 ^ k - 1) : nI n &&& m = nI (n % 2 ^ k) := by
  rw [pk_and _ k hm, pk_tn h]
theorem pk_shr (a s : Int32) (k : Nat) (hs : (s.toBitVec.smod 32).toNat = k) : (a >>> s).toInt = a.toInt >>> k := by
  show (a.toBitVec.sshiftRight (s.toBitVec.smod 32).toNat).toInt = _
  rw [hs, BitVec.toInt_sshiftRight]
  rfl
theorem pk_shrN {n : Nat} (h : n < 2 ^ 31) (s : Int32) (k : Nat) (hs : (s.toBitVec.smod 32).toNat = k) : nI n >>> s = nI (n / 2 ^ k) := by
  apply Int32.toInt_inj.mp
  have h2 : n / 2 ^ k ≤ n := Nat.div_le_self _ _
  rw [pk_shr _ _ k hs, nI_toInt h, nI_toInt (by omega), Int.shiftRight_eq_div_pow]
  rfl
theorem pk_lT {n : Nat} (h : n < 2 ^ 63) : (lN n).toInt = (n : Int) := lg_ofNat_toInt h
theorem pk_lDiv {a b : Nat} (ha : a < 2 ^ 63) (h0 : 0 < b) (hb : b < 2 ^ 63) : lN a / lN b = lN (a / b) := by
  apply Int64.toInt_inj.mp
  rw [lg_ldiv_nonneg (by rw [pk_lT ha]; omega) (by rw [pk_lT hb]; omega), pk_lT ha, pk_lT hb, pk_lT (Nat.lt_of_le_of_lt (Nat.div_le_self a b) ha)]
  rfl
theorem pk_lRem {a b : Nat} (ha : a < 2 ^ 63) (h0 : 0 < b) (hb : b < 2 ^ 63) : lN a - lN a / lN b * lN b = lN (a % b) := by
  rw [pk_lDiv ha h0 hb, lN_mul, lN_sub (Nat.div_mul_le_self a b)]
  exact congrArg lN (by have := Nat.div_add_mod' a b; omega)
theorem pk_least (P : Nat → Prop) (h : ∃ k, P k) : ∃ k, P k ∧ ∀ j, j < k → ¬ P j := by
  obtain ⟨k, hk⟩ := h
  induction k using Nat.strongRecOn with
  | ind k ih =>
    by_cases e : ∃ j, j < k ∧ P j
    · obtain ⟨j, hj, pj⟩ := e
      exact ih j hj pj
    · exact ⟨k, hk, fun j hj pj => e ⟨j, hj, pj⟩⟩
theorem s_l : ∀ n, n < 32 → ((nI n &&& 31).toBitVec.smod 32).toNat = n := by decide +kernel
end
section
def dl_Pr (p : Nat) : Prop := 2 ≤ p ∧ ∀ d, d ∣ p → d = 1 ∨ d = p
theorem dl_pr_of {p : Nat} (h2 : 2 ≤ p) (h : ∀ d, 2 ≤ d → d < p → p % d ≠ 0) : dl_Pr p := by
  refine ⟨h2, fun d hd => ?_⟩
  have h1 : d ≤ p := Nat.le_of_dvd (by omega) hd
  have h0 : 0 < d := Nat.pos_of_dvd_of_pos hd (by omega)
  by_cases e1 : d = 1
  · exact Or.inl e1
  · by_cases e2 : d = p
    · exact Or.inr e2
    · exact absurd (Nat.mod_eq_zero_of_dvd hd) (h d (by omega) (by omega))
theorem dl_pr_nd {p : Nat} (h : dl_Pr p) {d : Nat} (h2 : 2 ≤ d) (hd : d < p) : p % d ≠ 0 := by
  intro z
  rcases h.2 d (Nat.dvd_of_mod_eq_zero z) with e | e <;> omega
theorem dl_pr_sq {n : Nat} (h2 : 2 ≤ n) (h : ∀ d, 2 ≤ d → d * d ≤ n → n % d ≠ 0) : dl_Pr n := by
  refine dl_pr_of h2 fun d hd hn z => ?_
  by_cases c : d * d ≤ n
  · exact h d hd c z
  · have e : d * (n / d) = n := Nat.mul_div_cancel' (Nat.dvd_of_mod_eq_zero z)
    have l1 : n / d < d := by
      apply Nat.div_lt_of_lt_mul
      omega
    have l2 : 2 ≤ n / d := by
      generalize n / d = w at e
      rcases w with _ | _ | w
      · rw [Nat.mul_zero] at e; omega
      · rw [Nat.zero_add, Nat.mul_one] at e; omega
      · omega
    have l3 : n / d * (n / d) ≤ n := by
      have := Nat.mul_le_mul_right (n / d) (Nat.le_of_lt l1)
      omega
    exact h (n / d) l2 l3 (Nat.mod_eq_zero_of_dvd ⟨d, by rw [Nat.mul_comm]; exact e.symm⟩)
theorem dl_cop {q a : Nat} (h : dl_Pr q) (n : ¬ q ∣ a) : Nat.Coprime q a := by
  rcases h.2 _ (Nat.gcd_dvd_left q a) with e | e
  · exact e
  · exfalso
    apply n
    have := Nat.gcd_dvd_right q a
    rw [e] at this
    exact this
theorem dl_euc {q a b : Nat} (h : dl_Pr q) (hd : q ∣ a * b) : q ∣ a ∨ q ∣ b := by
  by_cases z : q ∣ a
  · exact Or.inl z
  · exact Or.inr ((dl_cop h z).dvd_of_dvd_mul_left hd)
theorem dl_euc_pow {q a : Nat} (h : dl_Pr q) : ∀ e, q ∣ a ^ e → q ∣ a := by
  intro e
  induction e with
  | zero =>
    intro hd
    rw [Nat.pow_zero] at hd
    have := Nat.le_of_dvd (by decide) hd
    have := h.1
    omega
  | succ e ih =>
    intro hd
    rw [Nat.pow_succ] at hd
    rcases dl_euc h hd with z | z
    · exact ih z
    · exact z
theorem dl_pr_eq {q r : Nat} (hq : dl_Pr q) (hr : dl_Pr r) (h : q ∣ r) : q = r := by
  rcases hr.2 q h with e | e
  · have := hq.1
    omega
  · exact e
theorem dl_pr_ex (m : Nat) : 2 ≤ m → ∃ q, dl_Pr q ∧ q ∣ m := by
  induction m using Nat.strongRecOn with
  | ind m ih =>
    intro h2
    by_cases z : ∃ d, d ∣ m ∧ d ≠ 1 ∧ d ≠ m
    · obtain ⟨d, hd, h1, hm⟩ := z
      have hle := Nat.le_of_dvd (by omega) hd
      have h0 := Nat.pos_of_dvd_of_pos hd (by omega)
      obtain ⟨q, hq, hqd⟩ := ih d (by omega) (by omega)
      exact ⟨q, hq, Nat.dvd_trans hqd hd⟩
    · refine ⟨m, ⟨h2, fun d hd => ?_⟩, Nat.dvd_refl m⟩
      by_cases e1 : d = 1
      · exact Or.inl e1
      · by_cases e2 : d = m
        · exact Or.inr e2
        · exact absurd ⟨d, hd, e1, e2⟩ z
def dl_Ord (p g k : Nat) : Prop := 1 ≤ k ∧ g ^ k % p = 1 ∧ ∀ j, 1 ≤ j → j < k → g ^ j % p ≠ 1
theorem dl_pm (p g x y : Nat) : g ^ (x + y) % p = (g ^ x % p) * (g ^ y % p) % p := by
  rw [Nat.pow_add, Nat.mul_mod]
theorem dl_pp (p g x y : Nat) : (g ^ x % p) ^ y % p = g ^ (x * y) % p := by
  rw [← Nat.pow_mod, Nat.pow_mul]
theorem dl_p1 {p g k : Nat} (h2 : 2 ≤ p) (h : g ^ k % p = 1) (t : Nat) : g ^ (k * t) % p = 1 := by
  rw [Nat.pow_mul, Nat.pow_mod, h, Nat.one_pow]
  exact Nat.mod_eq_of_lt h2
theorem dl_red {p g k : Nat} (h2 : 2 ≤ p) (h : g ^ k % p = 1) (x : Nat) : g ^ x % p = g ^ (x % k) % p := by
  have e : x = k * (x / k) + x % k := (Nat.div_add_mod x k).symm
  refine (congrArg (fun z => g ^ z % p) e).trans ?_
  show g ^ (k * (x / k) + x % k) % p = _
  rw [dl_pm, dl_p1 h2 h, Nat.one_mul, Nat.mod_mod]
theorem dl_dvd {p g k : Nat} (h2 : 2 ≤ p) (h : dl_Ord p g k) (x : Nat) : g ^ x % p = 1 ↔ k ∣ x := by
  constructor
  · intro e
    rw [dl_red h2 h.2.1] at e
    apply Nat.dvd_of_mod_eq_zero
    by_cases z : x % k = 0
    · exact z
    · exact absurd e (h.2.2 (x % k) (by omega) (Nat.mod_lt _ h.1))
  · rintro ⟨t, rfl⟩
    exact dl_p1 h2 h.2.1 t
theorem dl_inj_lt {p g k : Nat} (h : dl_Ord p g k) {i j : Nat} (hij : i < j) (hj : j < k) : g ^ i % p ≠ g ^ j % p := by
  intro e
  have e2 : g ^ (i + (k - j)) % p = g ^ (j + (k - j)) % p := by rw [dl_pm, e, ← dl_pm]
  rw [show j + (k - j) = k by omega, h.2.1] at e2
  exact h.2.2 (i + (k - j)) (by omega) (by omega) e2
theorem dl_inj {p g k : Nat} (h : dl_Ord p g k) {i j : Nat} (hi : i < k) (hj : j < k) (e : g ^ i % p = g ^ j % p) : i = j := by
  rcases Nat.lt_trichotomy i j with l | l | l
  · exact absurd e (dl_inj_lt h l hj)
  · exact l
  · exact absurd e.symm (dl_inj_lt h l hi)
theorem dl_eq {p g k : Nat} (h2 : 2 ≤ p) (h : dl_Ord p g k) (x y : Nat) : g ^ x % p = g ^ y % p ↔ x % k = y % k := by
  constructor
  · intro e
    rw [dl_red h2 h.2.1 x, dl_red h2 h.2.1 y] at e
    exact dl_inj h (Nat.mod_lt _ h.1) (Nat.mod_lt _ h.1) e
  · intro e
    rw [dl_red h2 h.2.1 x, dl_red h2 h.2.1 y, e]
theorem dl_ord_un {p g k k' : Nat} (h : dl_Ord p g k) (h' : dl_Ord p g k') : k = k' := by
  rcases Nat.lt_trichotomy k k' with l | l | l
  · exact absurd h.2.1 (h'.2.2 k h.1 l)
  · exact l
  · exact absurd h'.2.1 (h.2.2 k' h'.1 l)
theorem dl_ord_ex {p g x : Nat} (hx : 1 ≤ x) (e : g ^ x % p = 1) : ∃ k, dl_Ord p g k := by
  obtain ⟨k, ⟨h1, h2⟩, h3⟩ := pk_least (fun k => 1 ≤ k ∧ g ^ k % p = 1) ⟨x, hx, e⟩
  exact ⟨k, h1, h2, fun j hj hk hz => h3 j hk ⟨hj, hz⟩⟩
theorem dl_ne0 {p g k : Nat} (h2 : 2 ≤ p) (h1 : 1 ≤ k) (h : g ^ k % p = 1) (i : Nat) : g ^ i % p ≠ 0 := by
  intro z
  have hle : i ≤ k * (i + 1) := by
    have := Nat.mul_le_mul_right (i + 1) h1
    omega
  have e := dl_p1 h2 h (i + 1)
  rw [show k * (i + 1) = i + (k * (i + 1) - i) by omega, dl_pm, z, Nat.zero_mul, Nat.zero_mod] at e
  omega
/-- powers of an element of order p - 1 reach every number from 1 to p - 1 -/
theorem dl_surj {p g : Nat} (h2 : 2 ≤ p) (h : dl_Ord p g (p - 1)) {u : Nat} (h1 : 1 ≤ u) (hu : u < p) : ∃ i, i < p - 1 ∧ g ^ i % p = u := by
  apply Classical.byContradiction
  intro no
  have hno : ∀ i, i < p - 1 → g ^ i % p ≠ u := fun i hi e => no ⟨i, hi, e⟩
  have nd : (u :: (List.range (p - 1)).map (fun i => g ^ i % p)).Nodup := by
    rw [List.nodup_cons]
    refine ⟨fun m => ?_, ?_⟩
    · obtain ⟨i, hi, e⟩ := List.mem_map.mp m
      exact hno i (List.mem_range.mp hi) e
    · refine List.pairwise_map.mpr (List.Pairwise.imp_of_mem ?_ List.pairwise_lt_range)
      intro a b ha hb hab
      exact dl_inj_lt h hab (List.mem_range.mp hb)
  have sub : (u :: (List.range (p - 1)).map (fun i => g ^ i % p)) ⊆ List.range' 1 (p - 1) := by
    intro x hx
    rw [List.mem_range'_1]
    rcases List.mem_cons.mp hx with e | m
    · omega
    · obtain ⟨i, hi, e⟩ := List.mem_map.mp m
      have a := dl_ne0 h2 h.1 h.2.1 i
      have b : g ^ i % p < p := Nat.mod_lt _ (by omega)
      have e' : g ^ i % p = x := e
      omega
  have le := List.Nodup.length_le_of_subset nd sub
  rw [List.length_cons, List.length_map, List.length_range, List.length_range'] at le
  omega
def dl_bad (p g n : Nat) : Nat → Bool
  | 0 => false
  | k + 1 => (Nat.beq (n % (k + 2)) 0 && Nat.beq (g ^ (n / (k + 2)) % p) 1) || (Nat.blt (k + 1) n && Nat.beq (g ^ (k + 1) % p) 1) || dl_bad p g n k
def dl_comp (p : Nat) : Nat → Bool
  | 0 => false
  | k + 1 => (Nat.blt (k + 2) p && Nat.beq (p % (k + 2)) 0) || dl_comp p k
def dl_gex (p : Nat) : Nat → Bool
  | 0 => false
  | k + 1 => (Nat.blt (k + 1) p && Nat.beq ((k + 1) ^ (p - 1) % p) 1 && !dl_bad p (k + 1) (p - 1) 45) || dl_gex p k
set_option maxRecDepth 100000 in
theorem dl_all : (List.range 2040).all (fun p => Nat.ble p 2 || dl_comp p 45 || dl_gex p 21) = true := by decide +kernel
theorem dl_bad_f {p g n : Nat} : ∀ k, dl_bad p g n k = false → ∀ i, i < k → ¬ (n % (i + 2) = 0 ∧ g ^ (n / (i + 2)) % p = 1) ∧ ¬ (i + 1 < n ∧ g ^ (i + 1) % p = 1) := by
  intro k
  induction k with
  | zero => intro _ i hi; omega
  | succ k ih =>
    intro h i hi
    rw [dl_bad, Bool.or_eq_false_iff, Bool.or_eq_false_iff] at h
    obtain ⟨⟨a, b⟩, c⟩ := h
    rcases Nat.lt_or_ge i k with l | l
    · exact ih c i l
    · have e : i = k := by omega
      subst e
      constructor
      · rintro ⟨x, y⟩
        rw [x, y] at a
        exact absurd a (by decide)
      · rintro ⟨x, y⟩
        have hb : Nat.blt (i + 1) n = true := Nat.ble_eq.mpr x
        rw [y, hb] at b
        exact absurd b (by decide)
theorem dl_comp_f {p : Nat} (h : dl_Pr p) : ∀ k, dl_comp p k = false := by
  intro k
  induction k with
  | zero => rfl
  | succ k ih =>
    rw [dl_comp, ih, Bool.or_false]
    by_cases l : k + 2 < p
    · have := dl_pr_nd h (d := k + 2) (by omega) l
      have e : Nat.beq (p % (k + 2)) 0 = false := by
        cases c : Nat.beq (p % (k + 2)) 0
        · rfl
        · exact absurd (Nat.eq_of_beq_eq_true c) this
      rw [e, Bool.and_false]
    · have e : Nat.blt (k + 2) p = false := by
        cases c : Nat.blt (k + 2) p
        · rfl
        · exact absurd (Nat.le_of_ble_eq_true c) l
      rw [e, Bool.false_and]
theorem dl_gex_t {p : Nat} : ∀ k, dl_gex p k = true → ∃ g, 1 ≤ g ∧ g < p ∧ g ^ (p - 1) % p = 1 ∧ dl_bad p g (p - 1) 45 = false := by
  intro k
  induction k with
  | zero => intro h; exact absurd h Bool.false_ne_true
  | succ k ih =>
    intro h
    rw [dl_gex, Bool.or_eq_true] at h
    rcases h with h | h
    · rw [Bool.and_eq_true, Bool.and_eq_true] at h
      obtain ⟨⟨a, b⟩, c⟩ := h
      refine ⟨k + 1, by omega, Nat.le_of_ble_eq_true a, Nat.eq_of_beq_eq_true b, ?_⟩
      cases d : dl_bad p (k + 1) (p - 1) 45
      · rfl
      · rw [d] at c; exact absurd c (by decide)
    · exact ih h
theorem dl_gen_ex {p : Nat} (h : dl_Pr p) (h3 : 3 ≤ p) (hm : p ≤ 2039) : ∃ g, 1 ≤ g ∧ g < p ∧ dl_Ord p g (p - 1) := by
  have a := List.all_eq_true.mp dl_all p (List.mem_range.mpr (by omega))
  have e1 : Nat.ble p 2 = false := by
    cases c : Nat.ble p 2
    · rfl
    · have := Nat.le_of_ble_eq_true c
      omega
  rw [e1, dl_comp_f h 45, Bool.false_or, Bool.false_or] at a
  obtain ⟨g, g1, gp, gf, gb⟩ := dl_gex_t 21 a
  refine ⟨g, g1, gp, ?_⟩
  obtain ⟨k, hk⟩ := dl_ord_ex (by omega) gf
  have hd := (dl_dvd (by omega) hk (p - 1)).mp gf
  obtain ⟨c, hc⟩ := hd
  have hk1 := hk.1
  have c0 : c ≠ 0 := by
    intro z
    rw [z, Nat.mul_zero] at hc
    omega
  by_cases c1 : c = 1
  · rw [c1, Nat.mul_one] at hc
    rw [hc]
    exact hk
  · exfalso
    have F := dl_bad_f 45 gb
    by_cases cs : c ≤ 46
    · have := (F (c - 2) (by omega)).1
      rw [show c - 2 + 2 = c by omega] at this
      apply this
      rw [hc]
      refine ⟨Nat.mul_mod_left _ _, ?_⟩
      rw [Nat.mul_div_cancel _ (by omega)]
      exact hk.2.1
    · have hks : k ≤ 45 := by
        rcases Nat.lt_or_ge 45 k with l | l
        · have : 46 * 47 ≤ k * c := Nat.mul_le_mul (by omega) (by omega)
          omega
        · exact l
      have := (F (k - 1) (by omega)).2
      rw [show k - 1 + 1 = k by omega] at this
      apply this
      refine ⟨?_, hk.2.1⟩
      rw [hc]
      have : k * 47 ≤ k * c := Nat.mul_le_mul_left k (by omega)
      omega
end
section
def dl_M (p : Nat) : Prop := dl_Pr p ∧ 3 ≤ p ∧ p ≤ 2039
theorem dl_gen {p : Nat} (h : dl_M p) : ∃ g, 1 ≤ g ∧ g < p ∧ dl_Ord p g (p - 1) := dl_gen_ex h.1 h.2.1 h.2.2
theorem dl_fermat {p u : Nat} (h : dl_M p) (h1 : 1 ≤ u) (hu : u < p) : u ^ (p - 1) % p = 1 := by
  obtain ⟨g, _, _, go⟩ := dl_gen h
  have h3 := h.2.1
  obtain ⟨i, _, rfl⟩ := dl_surj (by omega) go h1 hu
  rw [dl_pp, Nat.mul_comm]
  exact dl_p1 (by omega) go.2.1 i
theorem dl_ord_of {p u : Nat} (h : dl_M p) (h1 : 1 ≤ u) (hu : u < p) : ∃ k, dl_Ord p u k ∧ k ∣ p - 1 := by
  have h3 := h.2.1
  have f := dl_fermat h h1 hu
  obtain ⟨k, hk⟩ := dl_ord_ex (by omega) f
  exact ⟨k, hk, (dl_dvd (by omega) hk (p - 1)).mp f⟩
noncomputable def dl_o (p u : Nat) : Nat := Classical.epsilon (fun k => dl_Ord p u k)
theorem dl_o_spec {p u : Nat} (h : dl_M p) (h1 : 1 ≤ u) (hu : u < p) : dl_Ord p u (dl_o p u) := by
  obtain ⟨k, hk, _⟩ := dl_ord_of h h1 hu
  exact Classical.epsilon_spec (p := fun k => dl_Ord p u k) ⟨k, hk⟩
theorem dl_o_dvd {p u : Nat} (h : dl_M p) (h1 : 1 ≤ u) (hu : u < p) : dl_o p u ∣ p - 1 :=
  (dl_dvd (by have := h.2.1; omega) (dl_o_spec h h1 hu) (p - 1)).mp (dl_fermat h h1 hu)
theorem dl_o_le {p u : Nat} (h : dl_M p) (h1 : 1 ≤ u) (hu : u < p) : dl_o p u ≤ p - 1 :=
  Nat.le_of_dvd (by have := h.2.1; omega) (dl_o_dvd h h1 hu)
theorem dl_bezI (a b : Nat) : ∃ s t : Int, (a : Int) * s + (b : Int) * t = (Nat.gcd a b : Int) := by
  induction a, b using Nat.gcd.induction with
  | H0 n =>
    refine ⟨0, 1, ?_⟩
    rw [Nat.gcd_zero_left, Int.mul_zero, Int.mul_one, Int.zero_add]
  | H1 m n hm ih =>
    obtain ⟨s, t, e⟩ := ih
    refine ⟨t - ((n / m : Nat) : Int) * s, s, ?_⟩
    rw [← Nat.gcd_rec] at e
    have d : (n : Int) = (m : Int) * ((n / m : Nat) : Int) + ((n % m : Nat) : Int) := by
      rw [← Int.natCast_mul, ← Int.natCast_add, Nat.div_add_mod]
    rw [← e]
    generalize ((n / m : Nat) : Int) = w at d ⊢
    generalize ((n % m : Nat) : Int) = r at d ⊢
    rw [d]
    grind
theorem dl_bez (a n : Nat) (hn : 1 ≤ n) : ∃ s, a * s % n = Nat.gcd a n % n := by
  obtain ⟨s, t, e⟩ := dl_bezI a n
  have hs : ((s % (n : Int)).toNat : Int) = s % (n : Int) := Int.toNat_of_nonneg (Int.emod_nonneg _ (by omega))
  refine ⟨(s % (n : Int)).toNat, ?_⟩
  apply Int.ofNat_inj.mp
  show ((a * (s % (n : Int)).toNat % n : Nat) : Int) = ((Nat.gcd a n % n : Nat) : Int)
  rw [Int.natCast_emod, Int.natCast_mul, hs, Int.mul_emod, Int.emod_emod, ← Int.mul_emod, Int.natCast_emod, ← e, Int.add_mul_emod_self_left]
theorem dl_cyc {p g h k : Nat} (H : dl_M p) (g1 : 1 ≤ g) (gp : g < p) (h1 : 1 ≤ h) (hp : h < p) (o : dl_Ord p g k) (e : h ^ k % p = 1) : ∃ x, x < k ∧ g ^ x % p = h := by
  obtain ⟨c, _, _, co⟩ := dl_gen H
  have h3 := H.2.1
  have h2 : 2 ≤ p := by omega
  obtain ⟨a, _, ea⟩ := dl_surj h2 co g1 gp
  obtain ⟨b, _, eb⟩ := dl_surj h2 co h1 hp
  have hn : 1 ≤ p - 1 := by omega
  generalize p - 1 = n at co hn
  have hG : ∀ x, g ^ x % p = c ^ (a * x) % p := fun x => by rw [← ea, dl_pp]
  have hH : ∀ x, h ^ x % p = c ^ (b * x) % p := fun x => by rw [← eb, dl_pp]
  have d0 : 0 < Nat.gcd a n := Nat.gcd_pos_of_pos_right a hn
  obtain ⟨s, hs⟩ := dl_bez a n hn
  obtain ⟨a', ha⟩ := Nat.gcd_dvd_left a n
  obtain ⟨n', hn'⟩ := Nat.gcd_dvd_right a n
  generalize Nat.gcd a n = d at d0 hs ha hn'
  have k1 : k ∣ n' := by
    refine (dl_dvd h2 o n').mp ?_
    rw [hG]
    refine (dl_dvd h2 co _).mpr ⟨a', ?_⟩
    rw [ha, hn', Nat.mul_right_comm]
  have k2 : n ∣ b * n' := by
    rw [hH] at e
    exact Nat.dvd_trans ((dl_dvd h2 co _).mp e) (Nat.mul_dvd_mul_left b k1)
  have n0 : 0 < n' := by
    rcases Nat.eq_zero_or_pos n' with z | z
    · rw [z, Nat.mul_zero] at hn'
      omega
    · exact z
  have k3 : d ∣ b := by
    rw [hn'] at k2
    exact Nat.dvd_of_mul_dvd_mul_right n0 k2
  obtain ⟨b', hb⟩ := k3
  refine ⟨s * b' % k, Nat.mod_lt _ o.1, ?_⟩
  rw [← dl_red h2 o.2.1, hG, ← eb]
  refine (dl_eq h2 co _ _).mpr ?_
  rw [← Nat.mul_assoc, Nat.mul_mod, hs, ← Nat.mul_mod, hb]
theorem dl_ord_pow {p g c d : Nat} (h2 : 2 ≤ p) (o : dl_Ord p g (c * d)) : dl_Ord p (g ^ c % p) d := by
  have o1 := o.1
  have c0 : 0 < c := Nat.pos_of_ne_zero fun z => by rw [z, Nat.zero_mul] at o1; omega
  have d0 : 0 < d := Nat.pos_of_ne_zero fun z => by rw [z, Nat.mul_zero] at o1; omega
  refine ⟨d0, ?_, fun j j1 jd e => ?_⟩
  · rw [dl_pp]
    exact o.2.1
  · rw [dl_pp] at e
    have := Nat.le_of_dvd (by omega) (Nat.dvd_of_mul_dvd_mul_left c0 ((dl_dvd h2 o _).mp e))
    omega
theorem dl_ord_cop {p t d j : Nat} (h2 : 2 ≤ p) (o : dl_Ord p t d) (c : Nat.gcd j d = 1) : dl_Ord p (t ^ j % p) d := by
  refine ⟨o.1, ?_, fun x x1 xd e => ?_⟩
  · rw [dl_pp, Nat.mul_comm]
    exact dl_p1 h2 o.2.1 j
  · rw [dl_pp] at e
    have hd := (dl_dvd h2 o _).mp e
    have cc : Nat.Coprime d j := by rw [Nat.gcd_comm] at c; exact c
    have := Nat.le_of_dvd (by omega) (cc.dvd_of_dvd_mul_left hd)
    omega
theorem dl_cop_ord {p t d j : Nat} (h2 : 2 ≤ p) (o : dl_Ord p t d) (u : dl_Ord p (t ^ j % p) d) : Nat.gcd j d = 1 := by
  have d1 := o.1
  have g0 : 0 < Nat.gcd j d := Nat.gcd_pos_of_pos_right j d1
  obtain ⟨a, ha⟩ := Nat.gcd_dvd_left j d
  obtain ⟨b, hb⟩ := Nat.gcd_dvd_right j d
  generalize Nat.gcd j d = c at g0 ha hb
  have hb0 : 0 < b := Nat.pos_of_ne_zero fun z => by rw [z, Nat.mul_zero] at hb; omega
  have e : (t ^ j % p) ^ b % p = 1 := by
    rw [dl_pp]
    refine (dl_dvd h2 o _).mpr ⟨a, ?_⟩
    rw [ha, hb, Nat.mul_right_comm]
  have hd := Nat.le_of_dvd hb0 ((dl_dvd h2 u b).mp e)
  rcases Nat.lt_or_ge 1 c with l | l
  · have : 2 * b ≤ c * b := Nat.mul_le_mul_right b l
    omega
  · omega
theorem dl_ord_unit {p g k : Nat} (h2 : 2 ≤ p) (o : dl_Ord p g k) (i : Nat) : 1 ≤ g ^ i % p ∧ g ^ i % p < p := by
  have := dl_ne0 h2 o.1 o.2.1 i
  have := Nat.mod_lt (g ^ i) (show 0 < p by omega)
  omega
theorem dl_ordset {p t d u : Nat} (H : dl_M p) (t1 : 1 ≤ t) (tp : t < p) (o : dl_Ord p t d) (u1 : 1 ≤ u) (up : u < p) (ou : dl_Ord p u d) : ∃ j, j < d ∧ Nat.gcd j d = 1 ∧ t ^ j % p = u := by
  have h2 : 2 ≤ p := by have := H.2.1; omega
  obtain ⟨j, jd, e⟩ := dl_cyc H t1 tp u1 up o ou.2.1
  refine ⟨j, jd, dl_cop_ord h2 o ?_, e⟩
  rw [e]
  exact ou
/-- inverse by the power p - 2 -/
theorem dl_inv {p u : Nat} (H : dl_M p) (u1 : 1 ≤ u) (up : u < p) : u * (u ^ (p - 2) % p) % p = 1 := by
  have h3 := H.2.1
  have f := dl_fermat H u1 up
  rw [show p - 1 = 1 + (p - 2) by omega, dl_pm, Nat.pow_one, Nat.mod_eq_of_lt up] at f
  exact f
theorem dl_inv_un {p u y z : Nat} (hy : y < p) (hz : z < p) (ey : u * y % p = 1) (ez : u * z % p = 1) : y = z := by
  have a : y * (u * z) % p = y := by
    rw [Nat.mul_mod, ez, Nat.mul_one, Nat.mod_mod, Nat.mod_eq_of_lt hy]
  have b : z * (u * y) % p = z := by
    rw [Nat.mul_mod, ey, Nat.mul_one, Nat.mod_mod, Nat.mod_eq_of_lt hz]
  have c : y * (u * z) = z * (u * y) := by rw [Nat.mul_left_comm, Nat.mul_left_comm z u y, Nat.mul_comm y z]
  rw [c] at a
  exact a.symm.trans b
def dl_cn (P : Nat → Bool) : Nat → Nat
  | 0 => 0
  | n + 1 => dl_cn P n + (if P n = true then 1 else 0)
theorem dl_cn_s (P : Nat → Bool) (n : Nat) : dl_cn P (n + 1) = dl_cn P n + (if P n = true then 1 else 0) := rfl
theorem dl_cn_le (P : Nat → Bool) (n : Nat) : dl_cn P n ≤ n := by
  induction n with
  | zero => exact Nat.le_refl 0
  | succ n ih =>
    rw [dl_cn_s]
    split <;> omega
theorem dl_cn_c {P Q : Nat → Bool} {n : Nat} (h : ∀ i, i < n → P i = Q i) : dl_cn P n = dl_cn Q n := by
  induction n with
  | zero => rfl
  | succ n ih => rw [dl_cn_s, dl_cn_s, ih (fun i hi => h i (by omega)), h n (by omega)]
theorem dl_cn_0 {P : Nat → Bool} {n : Nat} (h : ∀ i, i < n → P i = false) : dl_cn P n = 0 := by
  induction n with
  | zero => rfl
  | succ n ih => rw [dl_cn_s, ih (fun i hi => h i (by omega)), h n (by omega)]; rfl
theorem dl_cn_add (P : Nat → Bool) (a b : Nat) : dl_cn P (a + b) = dl_cn P a + dl_cn (fun i => P (a + i)) b := by
  induction b with
  | zero => rfl
  | succ b ih => rw [← Nat.add_assoc, dl_cn_s, ih, dl_cn_s, Nat.add_assoc]
theorem dl_cn_one {P : Nat → Bool} {n x : Nat} (hx : x < n) (h : ∀ i, i < n → i ≠ x → P i = false) : dl_cn P n = if P x = true then 1 else 0 := by
  induction n with
  | zero => omega
  | succ n ih =>
    rw [dl_cn_s]
    by_cases e : x = n
    · subst e
      rw [dl_cn_0 (fun i hi => h i (by omega) (by omega)), Nat.zero_add]
    · rw [ih (by omega) (fun i hi ne => h i (by omega) ne), h n (by omega) (fun z => e z.symm)]
      rfl
theorem dl_cn_per {m x : Nat} (hx : x < m) (d : Nat) : dl_cn (fun i => decide (i % m = x)) (m * d) = d := by
  induction d with
  | zero => rfl
  | succ d ih =>
    rw [Nat.mul_succ, dl_cn_add, ih, dl_cn_one hx]
    · have : (m * d + x) % m = x := by rw [Nat.mul_add_mod, Nat.mod_eq_of_lt hx]
      rw [decide_eq_true this]
      rfl
    · intro i hi ne
      have : (m * d + i) % m = i := by rw [Nat.mul_add_mod, Nat.mod_eq_of_lt hi]
      rw [this]
      exact decide_eq_false ne
theorem dl_cn_mul {c : Nat} (hc : 0 < c) (P : Nat → Bool) (d : Nat) : dl_cn (fun i => decide (i % c = 0) && P (i / c)) (c * d) = dl_cn P d := by
  induction d with
  | zero => rfl
  | succ d ih =>
    rw [Nat.mul_succ, dl_cn_add, ih, dl_cn_s, dl_cn_one hc]
    · have e1 : (c * d + 0) % c = 0 := by rw [Nat.add_zero, Nat.mul_mod_right]
      have e2 : (c * d + 0) / c = d := by rw [Nat.add_zero, Nat.mul_div_cancel_left _ hc]
      rw [e1, e2]
      rfl
    · intro i hi ne
      have : (c * d + i) % c = i := by rw [Nat.mul_add_mod, Nat.mod_eq_of_lt hi]
      rw [this, decide_eq_false ne, Bool.false_and]
theorem dl_cn_l (P : Nat → Bool) (n : Nat) : dl_cn P n = (List.range n).countP P := by
  induction n with
  | zero => rfl
  | succ n ih => rw [dl_cn_s, List.range_succ, List.countP_append, List.countP_singleton, ih]
theorem dl_cn_gen {p g : Nat} (h2 : 2 ≤ p) (o : dl_Ord p g (p - 1)) (P : Nat → Bool) : dl_cn (fun i => P (i + 1)) (p - 1) = dl_cn (fun i => P (g ^ i % p)) (p - 1) := by
  rw [dl_cn_l, dl_cn_l]
  have pm : ((List.range (p - 1)).map (fun i => i + 1)).Perm ((List.range (p - 1)).map (fun i => g ^ i % p)) := by
    refine (List.perm_ext_iff_of_nodup ?_ ?_).mpr fun u => ?_
    · refine List.pairwise_map.mpr (List.Pairwise.imp_of_mem ?_ List.pairwise_lt_range)
      intro a b _ _ hab
      show a + 1 ≠ b + 1
      omega
    · refine List.pairwise_map.mpr (List.Pairwise.imp_of_mem ?_ List.pairwise_lt_range)
      intro a b ha hb hab
      exact dl_inj_lt o hab (List.mem_range.mp hb)
    · constructor
      · intro m
        obtain ⟨i, hi, e⟩ := List.mem_map.mp m
        have hi' := List.mem_range.mp hi
        have e' : i + 1 = u := e
        obtain ⟨j, hj, ej⟩ := dl_surj h2 o (u := u) (by omega) (by omega)
        exact List.mem_map.mpr ⟨j, List.mem_range.mpr hj, ej⟩
      · intro m
        obtain ⟨i, hi, e⟩ := List.mem_map.mp m
        have e' : g ^ i % p = u := e
        have := dl_ord_unit h2 o i
        exact List.mem_map.mpr ⟨u - 1, List.mem_range.mpr (by omega), by show u - 1 + 1 = u; omega⟩
  have := pm.countP_eq P
  rw [List.countP_map, List.countP_map] at this
  exact this
end
section
theorem dl_md {a b m : Nat} (h : a ≤ b) (e : a % m = b % m) : m ∣ b - a :=
  Nat.dvd_of_mod_eq_zero (Nat.sub_mod_eq_zero_of_mod_eq e.symm)
theorem dl_dm {a b m : Nat} (h : a ≤ b) (e : m ∣ b - a) : a % m = b % m := by
  obtain ⟨t, ht⟩ := e
  have : b = a + m * t := by omega
  rw [this, Nat.add_mul_mod_self_left]
theorem dl_crt {a b m s : Nat} (c : Nat.Coprime m s) (h1 : a % m = b % m) (h2 : a % s = b % s) : a % (m * s) = b % (m * s) := by
  rcases Nat.le_total a b with l | l
  · exact dl_dm l (c.mul_dvd_of_dvd_of_dvd (dl_md l h1) (dl_md l h2))
  · exact (dl_dm l (c.mul_dvd_of_dvd_of_dvd (dl_md l h1.symm) (dl_md l h2.symm))).symm
theorem dl_join {X m s inv gap : Nat} (m0 : 0 < m) (s0 : 0 < s) (c : Nat.Coprime m s) (hi : m * inv % s = 1 % s) (hg : (X % m + gap) % s = X % s) : X % m + m * (gap * inv % s) = X % (m * s) := by
  have lt : X % m + m * (gap * inv % s) < m * s := by
    have a := Nat.mod_lt X m0
    have b := Nat.mod_lt (gap * inv) s0
    have d : m * (gap * inv % s + 1) ≤ m * s := Nat.mul_le_mul_left m b
    rw [Nat.mul_add, Nat.mul_one] at d
    omega
  rw [← Nat.mod_eq_of_lt lt]
  refine dl_crt c ?_ ?_
  · rw [Nat.add_mul_mod_self_left, Nat.mod_mod]
  · rw [← hg, Nat.add_mod, Nat.mul_mod, Nat.mod_mod, ← Nat.mul_mod, Nat.mul_left_comm, Nat.mul_mod gap, hi, ← Nat.mul_mod, Nat.mul_one, ← Nat.add_mod]
theorem dl_lin0 {k n a i : Nat} (e : i * k % n = a % n) : Nat.gcd k n ∣ a := by
  have d1 : Nat.gcd k n ∣ i * k := Nat.dvd_mul_left_of_dvd (Nat.gcd_dvd_left k n) i
  have d2 := Nat.gcd_dvd_right k n
  have := (Nat.dvd_mod_iff d2).mpr d1
  rw [e] at this
  exact (Nat.dvd_mod_iff d2).mp this
theorem dl_lin {d k m a inv : Nat} (d0 : 0 < d) (hi : k * inv % m = 1 % m) (i : Nat) : i * (d * k) % (d * m) = d * a % (d * m) ↔ i % m = a * inv % m := by
  have e1 : i * (d * k) % (d * m) = d * (i * k % m) := by rw [Nat.mul_left_comm, Nat.mul_mod_mul_left]
  have e2 : d * a % (d * m) = d * (a % m) := Nat.mul_mod_mul_left d a m
  rw [e1, e2]
  constructor
  · intro h
    have h' : i * k % m = a % m := Nat.eq_of_mul_eq_mul_left d0 h
    have : i * k * inv % m = a * inv % m := by rw [Nat.mul_mod, h', ← Nat.mul_mod]
    rw [← this, Nat.mul_assoc, Nat.mul_mod, hi, ← Nat.mul_mod, Nat.mul_one]
  · intro h
    have : i * k % m = a % m := by
      rw [Nat.mul_mod, h, ← Nat.mul_mod, Nat.mul_assoc, Nat.mul_comm inv k, Nat.mul_mod, hi, ← Nat.mul_mod, Nat.mul_one]
    rw [this]
def dl_Fac (n F : Nat) (q e R : Nat → Nat) : Prop := F ≤ 5 ∧ R 0 = n ∧ R F = 1 ∧ (∀ f, f < F → dl_Pr (q f) ∧ 1 ≤ e f ∧ R f = q f ^ e f * R (f + 1)) ∧ (∀ f g, f < F → g < F → q f = q g → f = g)
theorem dl_fac_R {n F : Nat} {q e R : Nat → Nat} (h : dl_Fac n F q e R) : ∀ f, f ≤ F → R f ∣ n := by
  intro f
  induction f with
  | zero => intro _; rw [h.2.1]; exact Nat.dvd_refl n
  | succ f ih =>
    intro hf
    refine Nat.dvd_trans ?_ (ih (by omega))
    rw [(h.2.2.2.1 f (by omega)).2.2]
    exact Nat.dvd_mul_left _ _
theorem dl_fac_qe {n F : Nat} {q e R : Nat → Nat} (h : dl_Fac n F q e R) {f : Nat} (hf : f < F) : q f ^ e f ∣ n := by
  refine Nat.dvd_trans ?_ (dl_fac_R h f (by omega))
  rw [(h.2.2.2.1 f hf).2.2]
  exact Nat.dvd_mul_right _ _
theorem dl_fac_q {n F : Nat} {q e R : Nat → Nat} (h : dl_Fac n F q e R) {f : Nat} (hf : f < F) : q f ∣ n := by
  refine Nat.dvd_trans ?_ (dl_fac_qe h hf)
  obtain ⟨_, he, _⟩ := h.2.2.2.1 f hf
  exact Nat.dvd_of_pow_dvd he (Nat.dvd_refl _)
theorem dl_fac_ql {n F : Nat} {q e R : Nat → Nat} (h : dl_Fac n F q e R) (n0 : 0 < n) {f : Nat} (hf : f < F) : 2 ≤ q f ∧ q f ≤ n ∧ e f < n := by
  have h1 := (h.2.2.2.1 f hf).1.1
  refine ⟨h1, Nat.le_of_dvd n0 (dl_fac_q h hf), ?_⟩
  exact Nat.lt_of_pow_dvd_right (by omega) h1 (dl_fac_qe h hf)
theorem dl_fac_pr {n F : Nat} {q e R : Nat → Nat} (h : dl_Fac n F q e R) {r : Nat} (hr : dl_Pr r) (hd : r ∣ n) : ∃ f, f < F ∧ q f = r := by
  have key : ∀ k f, f + k = F → r ∣ R f → ∃ f, f < F ∧ q f = r := by
    intro k
    induction k with
    | zero =>
      intro f ef hf
      rw [show f = F by omega, h.2.2.1] at hf
      have := Nat.le_of_dvd (by decide) hf
      have := hr.1
      omega
    | succ k ih =>
      intro f ef hf
      obtain ⟨hq, _, hR⟩ := h.2.2.2.1 f (by omega)
      rw [hR] at hf
      rcases dl_euc hr hf with z | z
      · exact ⟨f, by omega, (dl_pr_eq hr hq (dl_euc_pow hr _ z)).symm⟩
      · exact ih (f + 1) (by omega) z
  exact key F 0 (by omega) (by rw [h.2.1]; exact hd)
/-- the reckoning of an order: k divides N, T divides N, N divides k * T -/
def dl_OI (k N T : Nat) : Prop := k ∣ N ∧ T ∣ N ∧ N ∣ k * T
theorem dl_oi_s {k N T q : Nat} (q0 : 0 < q) (h : dl_OI k N (q * T)) (d : k ∣ N / q) : dl_OI k (N / q) T := by
  obtain ⟨_, b, c⟩ := h
  have qN : q ∣ N := Nat.dvd_trans (Nat.dvd_mul_right q T) b
  refine ⟨d, Nat.dvd_div_of_mul_dvd b, ?_⟩
  apply Nat.dvd_of_mul_dvd_mul_left q0
  rw [Nat.mul_div_cancel' qN, Nat.mul_left_comm]
  exact c
theorem dl_oi_f {k N T q j : Nat} (hq : dl_Pr q) (k0 : 0 < k) (j1 : 1 ≤ j) (h : dl_OI k N (q ^ j * T)) (d : ¬ k ∣ N / q) : dl_OI k N T := by
  obtain ⟨a, b, c⟩ := h
  have q0 : 0 < q := by have := hq.1; omega
  refine ⟨a, Nat.dvd_trans (Nat.dvd_mul_left _ _) b, ?_⟩
  obtain ⟨w, rfl⟩ := a
  have nq : ¬ q ∣ w := by
    rintro ⟨v, rfl⟩
    apply d
    rw [Nat.mul_left_comm, Nat.mul_div_cancel_left _ q0]
    exact Nat.dvd_mul_right k v
  have cw : w ∣ q ^ j * T := Nat.dvd_of_mul_dvd_mul_left k0 c
  have cc : Nat.Coprime w (q ^ j) := ((dl_cop hq nq).pow_left j).symm
  exact Nat.mul_dvd_mul_left k (cc.dvd_of_dvd_mul_left cw)
theorem dl_oi_e {k N : Nat} (h : dl_OI k N 1) : N = k := by
  obtain ⟨a, _, c⟩ := h
  rw [Nat.mul_one] at c
  exact Nat.dvd_antisymm c a
theorem dl_gens {p g k F : Nat} {q e R : Nat → Nat} (h2 : 2 ≤ p) (hF : dl_Fac (p - 1) F q e R) (o : dl_Ord p g k) (kn : k ∣ p - 1) (h : ∀ f, f < F → g ^ ((p - 1) / q f) % p ≠ 1) : k = p - 1 := by
  obtain ⟨c, hc⟩ := kn
  have k1 := o.1
  by_cases c1 : c = 1
  · rw [c1] at hc
    omega
  · exfalso
    have c0 : c ≠ 0 := by
      intro z
      rw [z] at hc
      omega
    obtain ⟨r, hr, hd⟩ := dl_pr_ex c (by omega)
    obtain ⟨f, hf, e1⟩ := dl_fac_pr hF hr (by rw [hc]; exact Nat.dvd_mul_left_of_dvd hd k)
    refine h f hf ((dl_dvd h2 o _).mpr ?_)
    obtain ⟨v, rfl⟩ := hd
    rw [e1, hc, Nat.mul_left_comm, Nat.mul_div_cancel_left _ (by have := hr.1; omega)]
    exact Nat.dvd_mul_right k v
theorem dl_gens_n {p g F : Nat} {q e R : Nat → Nat} (h3 : 3 ≤ p) (hF : dl_Fac (p - 1) F q e R) (o : dl_Ord p g (p - 1)) {f : Nat} (hf : f < F) : g ^ ((p - 1) / q f) % p ≠ 1 := by
  intro e
  have hd := (dl_dvd (by omega) o _).mp e
  obtain ⟨a, b, _⟩ := dl_fac_ql hF (by omega) hf
  have l := Nat.le_of_dvd (Nat.div_pos b (by omega)) hd
  have := Nat.div_lt_self (show 0 < p - 1 by omega) a
  omega
/-- the totient's reckoning -/
def dl_tt (q : Nat → Nat) (d : Nat) : Nat → Nat
  | 0 => d
  | f + 1 => if d % q f = 0 then dl_tt q d f / q f * (q f - 1) else dl_tt q d f
theorem dl_tt_le (q : Nat → Nat) (d : Nat) : ∀ f, dl_tt q d f ≤ d := by
  intro f
  induction f with
  | zero => exact Nat.le_refl d
  | succ f ih =>
    rw [dl_tt]
    split
    · refine Nat.le_trans ?_ ih
      refine Nat.le_trans (Nat.mul_le_mul_left _ (Nat.sub_le _ 1)) ?_
      exact Nat.div_mul_le_self _ _
    · exact ih
def dl_av (q : Nat → Nat) (d : Nat) : Nat → Nat → Bool
  | 0 => fun _ => true
  | f + 1 => fun j => dl_av q d f j && (decide (d % q f ≠ 0) || decide (j % q f ≠ 0))
theorem dl_av_t {q : Nat → Nat} {d j : Nat} : ∀ f, dl_av q d f j = true ↔ ∀ i, i < f → d % q i = 0 → j % q i ≠ 0 := by
  intro f
  induction f with
  | zero => exact ⟨fun _ i hi => by omega, fun _ => rfl⟩
  | succ f ih =>
    rw [dl_av, Bool.and_eq_true, ih, Bool.or_eq_true, decide_eq_true_eq, decide_eq_true_eq]
    constructor
    · rintro ⟨a, b⟩ i hi hd
      rcases Nat.lt_or_ge i f with l | l
      · exact a i l hd
      · have e : i = f := by omega
        subst e
        rcases b with b | b
        · exact absurd hd b
        · exact b
    · intro h
      refine ⟨fun i hi => h i (by omega), ?_⟩
      by_cases c : d % q f = 0
      · exact Or.inr (h f (by omega) c)
      · exact Or.inl c
theorem dl_cn_sp (P Q : Nat → Bool) (n : Nat) : dl_cn (fun i => P i && !Q i) n + dl_cn (fun i => Q i && P i) n = dl_cn P n := by
  induction n with
  | zero => rfl
  | succ n ih =>
    rw [dl_cn_s, dl_cn_s, dl_cn_s, ← ih]
    cases P n <;> cases Q n <;> simp <;> omega
theorem dl_tot_step {n F : Nat} {q e R : Nat → Nat} (h : dl_Fac n F q e R) (d : Nat) : ∀ f, f ≤ F → ∃ rad phi, 0 < rad ∧ rad ∣ d ∧ dl_tt q d f = phi * (d / rad) ∧ (∀ t, dl_cn (dl_av q d f) (rad * t) = phi * t) ∧ (∀ r, dl_Pr r → r ∣ rad → ∃ i, i < f ∧ q i = r) := by
  intro f
  induction f with
  | zero =>
    intro _
    refine ⟨1, 1, by decide, Nat.one_dvd d, ?_, fun t => ?_, fun r hr hd => ?_⟩
    · rw [dl_tt, Nat.div_one, Nat.one_mul]
    · rw [Nat.one_mul]
      induction t with
      | zero => rfl
      | succ t ih => rw [dl_cn_s, ih]; rfl
    · have := Nat.le_of_dvd (by decide) hd
      have := hr.1
      omega
  | succ f ih =>
    intro hf
    obtain ⟨rad, phi, r0, rd, et, ec, ep⟩ := ih (by omega)
    obtain ⟨hq, _, _⟩ := h.2.2.2.1 f (by omega)
    have q2 := hq.1
    by_cases c : d % q f = 0
    · have nd : ¬ q f ∣ rad := by
        intro z
        obtain ⟨i, hi, e1⟩ := ep (q f) hq z
        have := h.2.2.2.2 i f (by omega) (by omega) e1
        omega
      have cp : Nat.Coprime rad (q f) := (dl_cop hq nd).symm
      have dd : rad * q f ∣ d := cp.mul_dvd_of_dvd_of_dvd rd (Nat.dvd_of_mod_eq_zero c)
      obtain ⟨t0, ht0⟩ := dd
      refine ⟨rad * q f, phi * (q f - 1), Nat.mul_pos r0 (by omega), ⟨t0, ht0⟩, ?_, fun t => ?_, fun r hr hd => ?_⟩
      · rw [dl_tt, if_pos c, et]
        have e1 : d / rad = q f * t0 := by rw [ht0, Nat.mul_assoc, Nat.mul_div_cancel_left _ r0]
        have e2 : d / (rad * q f) = t0 := by rw [ht0, Nat.mul_div_cancel_left _ (Nat.mul_pos r0 (by omega))]
        rw [e1, e2, Nat.mul_left_comm, Nat.mul_div_cancel_left _ (by omega), Nat.mul_right_comm]
      · have s1 := dl_cn_sp (dl_av q d f) (fun i => decide (i % q f = 0)) (rad * q f * t)
        have s2 : dl_cn (fun i => decide (i % q f = 0) && dl_av q d f i) (rad * q f * t) = phi * t := by
          have e1 : dl_cn (fun i => decide (i % q f = 0) && dl_av q d f i) (rad * q f * t) = dl_cn (fun i => decide (i % q f = 0) && dl_av q d f (i / q f)) (rad * q f * t) := by
            refine dl_cn_c fun i _ => ?_
            by_cases z : i % q f = 0
            · rw [decide_eq_true z, Bool.true_and, Bool.true_and]
              have hi : q f * (i / q f) = i := Nat.mul_div_cancel' (Nat.dvd_of_mod_eq_zero z)
              have iff : dl_av q d f i = true ↔ dl_av q d f (i / q f) = true := by
                rw [dl_av_t, dl_av_t]
                constructor
                · intro H k hk hd hz
                  refine H k hk hd (Nat.mod_eq_zero_of_dvd ?_)
                  rw [← hi]
                  exact Nat.dvd_mul_left_of_dvd (Nat.dvd_of_mod_eq_zero hz) _
                · intro H k hk hd hz
                  have hkp := (h.2.2.2.1 k (by omega)).1
                  have h1 : q k ∣ q f * (i / q f) := by rw [hi]; exact Nat.dvd_of_mod_eq_zero hz
                  rcases dl_euc hkp h1 with w | w
                  · have := h.2.2.2.2 k f (by omega) (by omega) (dl_pr_eq hkp hq w)
                    omega
                  · exact H k hk hd (Nat.mod_eq_zero_of_dvd w)
              cases c1 : dl_av q d f i <;> cases c2 : dl_av q d f (i / q f)
              · rfl
              · rw [c1, c2] at iff; exact absurd (iff.mpr rfl) (by decide)
              · rw [c1, c2] at iff; exact absurd (iff.mp rfl) (by decide)
              · rfl
            · rw [decide_eq_false z, Bool.false_and, Bool.false_and]
          rw [e1, Nat.mul_comm rad, Nat.mul_assoc, dl_cn_mul (by omega), ec]
        have s3 : dl_cn (dl_av q d f) (rad * q f * t) = phi * (q f * t) := by rw [Nat.mul_assoc, ec]
        have s4 : dl_cn (dl_av q d (f + 1)) (rad * q f * t) = dl_cn (fun i => dl_av q d f i && !decide (i % q f = 0)) (rad * q f * t) := by
          refine dl_cn_c fun i _ => ?_
          show (dl_av q d f i && (decide (d % q f ≠ 0) || decide (i % q f ≠ 0))) = (dl_av q d f i && !decide (i % q f = 0))
          rw [c]
          by_cases z : i % q f = 0
          · simp [z]
          · simp [z]
        rw [s4]
        rw [s2, s3] at s1
        generalize dl_cn (fun i => dl_av q d f i && !decide (i % q f = 0)) (rad * q f * t) = w at s1 ⊢
        obtain ⟨q', hq'⟩ : ∃ q', q f = q' + 1 := ⟨q f - 1, by omega⟩
        rw [hq'] at s1 ⊢
        rw [Nat.add_mul, Nat.one_mul, Nat.mul_add] at s1
        rw [Nat.add_sub_cancel, Nat.mul_assoc]
        omega
      · rcases dl_euc hr hd with z | z
        · obtain ⟨i, hi, e1⟩ := ep r hr z
          exact ⟨i, by omega, e1⟩
        · exact ⟨f, by omega, (dl_pr_eq hr hq z).symm⟩
    · refine ⟨rad, phi, r0, rd, ?_, fun t => ?_, fun r hr hd => ?_⟩
      · rw [dl_tt, if_neg c, et]
      · rw [← ec]
        refine dl_cn_c fun i _ => ?_
        show (dl_av q d f i && (decide (d % q f ≠ 0) || decide (i % q f ≠ 0))) = dl_av q d f i
        rw [decide_eq_true c, Bool.true_or, Bool.and_true]
      · obtain ⟨i, hi, e1⟩ := ep r hr hd
        exact ⟨i, by omega, e1⟩
theorem dl_tot {n F d : Nat} {q e R : Nat → Nat} (h : dl_Fac n F q e R) (hd : d ∣ n) : dl_tt q d F = dl_cn (fun j => decide (Nat.gcd j d = 1)) d := by
  obtain ⟨rad, phi, r0, rd, et, ec, ep⟩ := dl_tot_step h d F (Nat.le_refl F)
  rw [et, ← ec, Nat.mul_div_cancel' rd]
  refine dl_cn_c fun j _ => ?_
  by_cases c : Nat.gcd j d = 1
  · rw [decide_eq_true c, dl_av_t]
    intro i hi hz w
    have h1 := Nat.dvd_gcd (Nat.dvd_of_mod_eq_zero w) (Nat.dvd_of_mod_eq_zero hz)
    rw [c] at h1
    have := Nat.le_of_dvd (by decide) h1
    have := (h.2.2.2.1 i hi).1.1
    omega
  · rw [decide_eq_false c]
    cases z : dl_av q d F j
    · rfl
    · exfalso
      rw [dl_av_t] at z
      by_cases g0 : Nat.gcd j d = 0
      · have d0 : d = 0 := Nat.eq_zero_of_gcd_eq_zero_right g0
        have j0 : j = 0 := Nat.eq_zero_of_gcd_eq_zero_left g0
        have n0 : n = 0 := by rw [d0] at hd; exact Nat.eq_zero_of_zero_dvd hd
        have hR := h.2.1
        have hRF := h.2.2.1
        rcases Nat.eq_zero_or_pos F with f0 | f0
        · rw [f0] at hRF; omega
        · exact z 0 f0 (by rw [d0, Nat.zero_mod]) (by rw [j0, Nat.zero_mod])
      · obtain ⟨r, hr, hrd⟩ := dl_pr_ex (Nat.gcd j d) (by omega)
        have rd' : r ∣ d := Nat.dvd_trans hrd (Nat.gcd_dvd_right j d)
        obtain ⟨i, hi, e1⟩ := dl_fac_pr h hr (Nat.dvd_trans rd' hd)
        refine z i hi ?_ ?_
        · rw [e1]; exact Nat.mod_eq_zero_of_dvd rd'
        · rw [e1]; exact Nat.mod_eq_zero_of_dvd (Nat.dvd_trans hrd (Nat.gcd_dvd_left j d))
theorem dl_cnt_ord {p d : Nat} (H : dl_M p) (hd : d ∣ p - 1) : dl_cn (fun i => decide (dl_o p (i + 1) = d)) (p - 1) = dl_cn (fun j => decide (Nat.gcd j d = 1)) d := by
  obtain ⟨g, g1, gp, go⟩ := dl_gen H
  have h3 := H.2.1
  have h2 : 2 ≤ p := by omega
  rw [dl_cn_gen h2 go (fun u => decide (dl_o p u = d))]
  obtain ⟨c, hc⟩ := hd
  rw [Nat.mul_comm] at hc
  have c0 : 0 < c := Nat.pos_of_ne_zero fun z => by rw [z, Nat.zero_mul] at hc; omega
  have od : dl_Ord p (g ^ c % p) d := by rw [hc] at go; exact dl_ord_pow h2 go
  have hn : p - 1 = c * d := hc
  refine Eq.trans ?_ (dl_cn_mul c0 (fun j => decide (Nat.gcd j d = 1)) d)
  rw [hn]
  refine dl_cn_c fun i hi => ?_
  have key : dl_o p (g ^ i % p) = d ↔ i % c = 0 ∧ Nat.gcd (i / c) d = 1 := by
    obtain ⟨u1, up⟩ := dl_ord_unit h2 go i
    have os := dl_o_spec H u1 up
    constructor
    · intro e
      rw [e] at os
      obtain ⟨t1, tp⟩ := dl_ord_unit h2 go c
      obtain ⟨j, jd, gj, ej⟩ := dl_ordset H t1 tp od u1 up os
      rw [dl_pp] at ej
      have lt : c * j < p - 1 := by rw [hn]; exact Nat.mul_lt_mul_of_pos_left jd c0
      have ei : i = c * j := (dl_inj go lt (by omega) ej).symm
      rw [ei, Nat.mul_mod_right, Nat.mul_div_cancel_left _ c0]
      exact ⟨rfl, gj⟩
    · rintro ⟨a, b⟩
      have ei : c * (i / c) = i := Nat.mul_div_cancel' (Nat.dvd_of_mod_eq_zero a)
      have o2 := dl_ord_cop h2 od b
      rw [dl_pp, ei] at o2
      exact dl_ord_un os o2
  by_cases z : dl_o p (g ^ i % p) = d
  · obtain ⟨a, b⟩ := key.mp z
    rw [decide_eq_true z, decide_eq_true a, decide_eq_true b]
    rfl
  · rw [decide_eq_false z]
    by_cases a : i % c = 0
    · by_cases b : Nat.gcd (i / c) d = 1
      · exact absurd (key.mpr ⟨a, b⟩) z
      · rw [decide_eq_false b, Bool.and_false]
    · rw [decide_eq_false a, Bool.false_and]
end
section
theorem xw_mb {a c p : Nat} (ha : a < p) (hc : c < p) (hp : p ≤ 2039) : a * c < 2 ^ 31 :=
  Nat.lt_of_le_of_lt (Nat.mul_le_mul (show a ≤ 2038 by omega) (show c ≤ 2038 by omega)) (by decide)
theorem xw_mul {post : Int32 → Prop} {fo ff A C : Int32} {bs ts ky st : Nat → Int32} {p : Nat} (a c r : Nat) (hA : A = nI a) (hC : C = nI c) (hr : a * c % p = r) (p1 : 1 ≤ p) (pm : p ≤ 2039) (ha : a < p) (hc : c < p) (h : post (nI r)) : wpX_mul post (nI p, fo, ff, bs, ts, ky, st) A C := by
  subst hA hC hr
  refine br_f (nI_nle p1 (by omega)) ⟨nI_ne0 p1 (by omega), ?_⟩
  rw [pk_mul, pk_rem (xw_mb ha hc pm) p1 (by omega)]
  exact h
theorem xw_bit {x i : Nat} (hx : x < 2 ^ 31) (hi : i < 32) : (nI x >>> (nI i &&& 31)) &&& 1 = nI (x / 2 ^ i % 2) := by
  rw [pk_shrN hx _ i (s_l i hi), pk_andN (k := 1) (Nat.lt_of_le_of_lt (Nat.div_le_self _ _) (by omega)) (by decide)]
theorem xw_pow_8 {post : Int32 → Prop} {fo ff : Int32} {bs ts ky st : Nat → Int32} {p g x : Nat} (p1 : 2 ≤ p) (pm : p ≤ 2039) (hx : x < 2 ^ 31) (h : post (nI (g ^ x % p))) : ∀ k i, i + k = 31 → ∀ m, k < m → wX_pow_8 post (nI x) (nI p) fo ff bs ts ky st m (nI (g ^ (x % 2 ^ i) % p)) (nI (g ^ (2 ^ i) % p)) (nI i) := by
  intro k
  induction k with
  | zero =>
    intro i hi m hm
    obtain ⟨m, rfl⟩ : ∃ m', m = m' + 1 := ⟨m - 1, by omega⟩
    have e : i = 31 := by omega
    subst e
    rw [Nat.mod_eq_of_lt hx]
    exact br_t (nI_le (a := 31) (b := 31) (by omega) (by decide)) h
  | succ k ih =>
    intro i hi m hm
    obtain ⟨m, rfl⟩ : ∃ m', m = m' + 1 := ⟨m - 1, by omega⟩
    have l1 : ∀ z, g ^ z % p < p := fun z => Nat.mod_lt _ (by omega)
    have e1 : g ^ (2 ^ i) % p * (g ^ (2 ^ i) % p) % p = g ^ (2 ^ (i + 1)) % p := by
      rw [← dl_pm, ← Nat.two_pow_succ]
    have ih' := ih (i + 1) (by omega) m (by omega)
    refine br_f (nI_ge (b := 31) (by omega) (by decide)) ?_
    rw [xw_bit hx (by omega)]
    have e2 : x % 2 ^ (i + 1) = x % 2 ^ i + 2 ^ i * (x / 2 ^ i % 2) := Nat.mod_pow_succ
    refine pk_eq (x / 2 ^ i % 2) 1 (fun hb => ?_) (fun hb => ?_)
    · refine xw_mul _ _ (g ^ (x % 2 ^ (i + 1)) % p) rfl rfl ?_ (by omega) pm (l1 _) (l1 _) ?_
      · rw [← dl_pm, e2, hb, Nat.mul_one]
      · exact xw_mul _ _ _ rfl rfl e1 (by omega) pm (l1 _) (l1 _) (nm_r (nI_1 i) ih')
    · have e3 : x % 2 ^ (i + 1) = x % 2 ^ i := by
        rw [e2, show x / 2 ^ i % 2 = 0 by omega, Nat.mul_zero, Nat.add_zero]
      rw [e3] at ih'
      exact xw_mul _ _ _ rfl rfl e1 (by omega) pm (l1 _) (l1 _) (nm_r (nI_1 i) ih')
theorem xw_pow {post : Int32 → Prop} {fo ff A B : Int32} {bs ts ky st : Nat → Int32} {p : Nat} (g x r : Nat) (hA : A = nI g) (hB : B = nI x) (hr : g ^ x % p = r) (p1 : 2 ≤ p) (pm : p ≤ 2039) (gp : g < p) (hx : x < 2 ^ 31) (h : post (nI r)) : wpX_pow post (nI p, fo, ff, bs, ts, ky, st) A B := by
  subst hA hB hr
  have w := xw_pow_8 (fo := fo) (ff := ff) (bs := bs) (ts := ts) (ky := ky) (st := st) p1 pm hx h 31 0 rfl 32 (by decide)
  have e1 : g ^ (x % 2 ^ 0) % p = 1 := by
    rw [Nat.pow_zero, Nat.mod_one, Nat.pow_zero]
    exact Nat.mod_eq_of_lt p1
  have e2 : g ^ (2 ^ 0) % p = g := by
    rw [Nat.pow_zero, Nat.pow_one]
    exact Nat.mod_eq_of_lt gp
  rw [e1, e2] at w
  exact ⟨32, w⟩
theorem xw_invert {post : Int32 → Prop} {fo ff A : Int32} {bs ts ky st : Nat → Int32} {p : Nat} (g r : Nat) (hA : A = nI g) (hr : g ^ (p - 2) % p = r) (p1 : 2 ≤ p) (pm : p ≤ 2039) (gp : g < p) (h : post (nI r)) : wpX_invert post (nI p, fo, ff, bs, ts, ky, st) A := by
  unfold wpX_invert
  exact xw_pow g (p - 2) r hA (pk_sub (b := 2) p1) hr p1 pm gp (by omega) h
theorem xw_notUnit {post : Int32 → Prop} {fo ff A : Int32} {bs ts ky st : Nat → Int32} {p : Nat} (pm : p ≤ 2039) (h1 : (∀ g : Nat, A = nI g → ¬ (1 ≤ g ∧ g < p)) → post 1) (h0 : ∀ g : Nat, A = nI g → 1 ≤ g → g < p → post 0) : wpX_notUnit post (nI p, fo, ff, bs, ts, ky, st) A := by
  by_cases c : A < 1
  · refine br_t c (h1 fun g e hg => ?_)
    rw [e] at c
    exact nI_nlt (a := g) (b := 1) hg.1 (by omega) c
  · have c0 : ¬ A < 0 := fun z => c (Int32.lt_trans z (by decide))
    obtain ⟨g, hg, rfl⟩ := nI_of c0
    have g1 : 1 ≤ g := by
      rcases Nat.eq_zero_or_pos g with z | z
      · rw [z] at c
        exact absurd (show (nI 0 : Int32) < 1 by decide) c
      · exact z
    refine br_f c ?_
    refine pk_lt g p (fun l => h0 g rfl g1 l) (fun l => h1 fun j e hj => ?_)
    have := (nI_eq hg (by omega)).mp e
    omega
theorem xw_isPrime_9 {post : Int32 → Prop} {P fo ff : Int32} {bs ts ky st : Nat → Int32} {n : Nat} (n2 : 2 ≤ n) (nm : n ≤ 2039) (h1 : dl_Pr n → post 1) (h0 : ¬ dl_Pr n → post 0) : ∀ k d, d + k = 50 → 2 ≤ d → (∀ c, 2 ≤ c → c < d → n % c ≠ 0) → ∀ m, k < m → wX_isPrime_9 post (nI n) P fo ff bs ts ky st m (nI d) := by
  intro k
  induction k with
  | zero =>
    intro d hd d2 hc m hm
    obtain ⟨m, rfl⟩ : ∃ m', m = m' + 1 := ⟨m - 1, by omega⟩
    have e : d = 50 := by omega
    subst e
    refine br_t ?_ (h1 ?_)
    · rw [pk_mul]
      exact nI_lt (by omega) (by decide)
    · refine dl_pr_sq n2 fun c c2 cc => hc c c2 ?_
      rcases Nat.lt_or_ge c 50 with l | l
      · exact l
      · have := Nat.mul_le_mul l l
        omega
  | succ k ih =>
    intro d hd d2 hc m hm
    obtain ⟨m, rfl⟩ : ∃ m', m = m' + 1 := ⟨m - 1, by omega⟩
    have dd : d * d < 2 ^ 31 := Nat.lt_of_le_of_lt (Nat.mul_le_mul (show d ≤ 50 by omega) (show d ≤ 50 by omega)) (by decide)
    refine pk_lt n (d * d) (fun l => h1 ?_) (fun l => ?_) rfl (pk_mul d d)
    · refine dl_pr_sq n2 fun c c2 cc => hc c c2 ?_
      rcases Nat.lt_or_ge c d with z | z
      · exact z
      · have := Nat.mul_le_mul z z
        omega
    · refine br_f (nI_ge (b := 50) (by omega) (by decide)) ⟨nI_ne0 (by omega) (by omega), ?_⟩
      refine pk_eq (n % d) 0 (fun z => h0 fun hp => ?_) (fun z => nm_r (nI_1 d) (ih (d + 1) (by omega) (by omega) ?_ m (by omega))) (pk_rem (by omega) (by omega) (by omega)) rfl (Nat.lt_of_le_of_lt (Nat.mod_le _ _) (by omega))
      · have l2 : 2 * d ≤ d * d := Nat.mul_le_mul_right d d2
        exact dl_pr_nd hp d2 (by omega) z
      · intro c c2 cd
        rcases Nat.lt_or_ge c d with y | y
        · exact hc c c2 y
        · have e : c = d := by omega
          rw [e]
          exact z
theorem xw_isPrime {post : Int32 → Prop} {P fo ff A : Int32} {bs ts ky st : Nat → Int32} (n : Nat) (hA : A = nI n) (n2 : 2 ≤ n) (nm : n ≤ 2039) (h1 : dl_Pr n → post 1) (h0 : ¬ dl_Pr n → post 0) : wpX_isPrime post (P, fo, ff, bs, ts, ky, st) A := by
  subst hA
  exact br_t (nI_le (a := 2) n2 (by omega)) ⟨49, xw_isPrime_9 n2 nm h1 h0 48 2 rfl (by decide) (fun c a b => by omega) 49 (by decide)⟩
def dl_FS (n F : Nat) (bs ts : Nat → Int32) : Prop := ∃ q e R : Nat → Nat, dl_Fac n F q e R ∧ ∀ f, f < F → bs f = nI (q f) ∧ ts f = nI (e f)
theorem xw_factor_70 {post : SX → Prop} {J : Int32 → Int32 → Int32 → (Nat → Int32) → (Nat → Int32) → (Nat → Int32) → (Nat → Int32) → Prop} {P fo : Int32} {bs ts0 ky st : Nat → Int32} {d F r0 : Nat} (d2 : 2 ≤ d) (dm : d ≤ 2039) (F5 : F < 5) (r1 : 1 ≤ r0) (rm : r0 ≤ 2038) (hd : r0 % d = 0)
    (hJ : ∀ i r ts, 1 ≤ i → r * d ^ i = r0 → r % d ≠ 0 → ts F = nI i → (∀ j, j ≠ F → ts j = ts0 j) → J (nI r) (nI (d + 1)) (nI (F + 1)) bs ts ky st) :
    ∀ k i r ts, i + k = 12 → r * d ^ i = r0 → ts F = nI i → (∀ j, j ≠ F → ts j = ts0 j) → ∀ m, k < m → wX_factor_70 post J (nI d) P fo (nI F) m (nI r) (nI i) bs ts ky st := by
  intro k
  induction k with
  | zero =>
    intro i r ts hi hr hF ht m hm
    exfalso
    have e : i = 12 := by omega
    subst e
    have a : 2 ^ 12 ≤ d ^ 12 := Nat.pow_le_pow_left d2 12
    have b : 1 ≤ r := by
      rcases Nat.eq_zero_or_pos r with z | z
      · rw [z, Nat.zero_mul] at hr; omega
      · exact z
    have c := Nat.mul_le_mul b a
    omega
  | succ k ih =>
    intro i r ts hi hr hF ht m hm
    obtain ⟨m, rfl⟩ : ∃ m', m = m' + 1 := ⟨m - 1, by omega⟩
    have rb : r ≤ r0 := by
      rw [← hr]
      exact Nat.le_mul_of_pos_right r (Nat.pow_pos (by omega))
    have cF : (nI F).toNatClampNeg = F := nI_clamp (by omega)
    refine br_f (nI_ge (b := 12) (by omega) (by decide)) ⟨nI_ne0 (by omega) (by omega), ?_⟩
    refine pk_eq (r % d) 0 (fun z => ?_) (fun z => ?_) (pk_rem (by omega) (by omega) (by omega)) rfl (Nat.lt_of_le_of_lt (Nat.mod_le _ _) (by omega))
    · refine ⟨nI_ne0 (by omega) (by omega), nm_r (pk_div (by omega) (by omega) (by omega)) ⟨pk_in F 5 F5, pk_in F 5 F5, ?_⟩⟩
      intro tt ett
      refine nm_r (nI_1 i) (ih (i + 1) (r / d) tt (by omega) ?_ ?_ ?_ m (by omega))
      · rw [Nat.pow_succ, Nat.mul_comm (d ^ i) d, ← Nat.mul_assoc, Nat.div_mul_cancel (Nat.dvd_of_mod_eq_zero z)]
        exact hr
      · rw [ett, cF, pk_us, hF, nI_1]
      · intro j hj
        rw [ett, cF, pk_un hj]
        exact ht j hj
    · refine nm_r (nI_1 F) (nm_r (nI_1 d) (hJ i r ts ?_ hr z hF ht))
      rcases Nat.eq_zero_or_pos i with y | y
      · rw [y, Nat.pow_zero, Nat.mul_one] at hr
        rw [hr] at z
        exact absurd hd z
      · exact y
def dl_fc : Nat → Nat
  | 0 => 1
  | f + 1 => dl_fc f * (f + 2)
def dl_FI (n r d F : Nat) (bs ts : Nat → Int32) : Prop := ∃ q e R : Nat → Nat, R 0 = n ∧ R F = r ∧ (∀ f, f < F → dl_Pr (q f) ∧ 1 ≤ e f ∧ R f = q f ^ e f * R (f + 1) ∧ q f < d ∧ bs f = nI (q f) ∧ ts f = nI (e f)) ∧ (∀ f g, f < F → g < F → q f = q g → f = g) ∧ (∀ c, 2 ≤ c → c < d → r % c ≠ 0) ∧ 1 ≤ r ∧ dl_fc F * r ≤ n ∧ F + 2 ≤ d ∧ F ≤ 5
theorem dl_fi_end {n d F : Nat} {bs ts : Nat → Int32} (h : dl_FI n 1 d F bs ts) : dl_FS n F bs ts := by
  obtain ⟨q, e, R, h0, hF, hf, hi, _, _, _, _, f5⟩ := h
  exact ⟨q, e, R, ⟨f5, h0, hF, fun f l => ⟨(hf f l).1, (hf f l).2.1, (hf f l).2.2.1⟩, hi⟩, fun f l => (hf f l).2.2.2.2⟩
theorem dl_fi_n {n r d F : Nat} {bs ts : Nat → Int32} (h : dl_FI n r d F bs ts) (z : r % d ≠ 0) : dl_FI n r (d + 1) F bs ts := by
  obtain ⟨q, e, R, h0, hF, hf, hi, hc, r1, hb, hd, f5⟩ := h
  refine ⟨q, e, R, h0, hF, fun f l => ?_, hi, fun c c2 cd => ?_, r1, hb, by omega, f5⟩
  · obtain ⟨a1, a2, a3, a4, a5, a6⟩ := hf f l
    exact ⟨a1, a2, a3, by omega, a5, a6⟩
  · rcases Nat.lt_or_ge c d with y | y
    · exact hc c c2 y
    · rw [show c = d by omega]
      exact z
theorem dl_fc_pos (F : Nat) : 1 ≤ dl_fc F := by
  induction F with
  | zero => exact Nat.le_refl 1
  | succ F ih => exact Nat.mul_pos ih (by omega)
theorem dl_fi_y {n r r' d F i : Nat} {bs ts bs' ts' : Nat → Int32} (h : dl_FI n r d F bs ts) (F5 : F < 5) (i1 : 1 ≤ i) (hr : r' * d ^ i = r) (z : r' % d ≠ 0) (b1 : bs' F = nI d) (b2 : ∀ j, j ≠ F → bs' j = bs j) (t1 : ts' F = nI i) (t2 : ∀ j, j ≠ F → ts' j = ts j) : dl_FI n r' (d + 1) (F + 1) bs' ts' := by
  obtain ⟨q, e, R, h0, hF, hf, hi, hc, r1, hb, hd, f5⟩ := h
  have d1 : d ∣ r := by
    rw [← hr]
    exact Nat.dvd_mul_left_of_dvd (Nat.dvd_of_pow_dvd i1 (Nat.dvd_refl _)) r'
  have hp : dl_Pr d := by
    refine dl_pr_of (by omega) fun c c2 cd w => hc c c2 cd ?_
    exact Nat.mod_eq_zero_of_dvd (Nat.dvd_trans (Nat.dvd_of_mod_eq_zero w) d1)
  have r1' : 1 ≤ r' := by
    rcases Nat.eq_zero_or_pos r' with y | y
    · rw [y, Nat.zero_mul] at hr; omega
    · exact y
  refine ⟨fun j => if j = F then d else q j, fun j => if j = F then i else e j, fun j => if j = F + 1 then r' else R j, ?_, ?_, ?_, ?_, ?_, r1', ?_, by omega, by omega⟩
  · show (if 0 = F + 1 then r' else R 0) = n
    rw [if_neg (by omega)]
    exact h0
  · exact if_pos rfl
  · intro f l
    rcases Nat.lt_or_ge f F with y | y
    · obtain ⟨a1, a2, a3, a4, a5, a6⟩ := hf f y
      show dl_Pr (if f = F then d else q f) ∧ 1 ≤ (if f = F then i else e f) ∧ (if f = F + 1 then r' else R f) = (if f = F then d else q f) ^ (if f = F then i else e f) * (if f + 1 = F + 1 then r' else R (f + 1)) ∧ (if f = F then d else q f) < d + 1 ∧ bs' f = nI (if f = F then d else q f) ∧ ts' f = nI (if f = F then i else e f)
      rw [if_neg (show ¬ f = F by omega), if_neg (show ¬ f = F by omega), if_neg (show ¬ f = F + 1 by omega), if_neg (show ¬ f + 1 = F + 1 by omega)]
      exact ⟨a1, a2, a3, by omega, (b2 f (by omega)).trans a5, (t2 f (by omega)).trans a6⟩
    · have ef : f = F := by omega
      subst ef
      show dl_Pr (if f = f then d else q f) ∧ 1 ≤ (if f = f then i else e f) ∧ (if f = f + 1 then r' else R f) = (if f = f then d else q f) ^ (if f = f then i else e f) * (if f + 1 = f + 1 then r' else R (f + 1)) ∧ (if f = f then d else q f) < d + 1 ∧ bs' f = nI (if f = f then d else q f) ∧ ts' f = nI (if f = f then i else e f)
      rw [if_pos rfl, if_pos rfl, if_neg (show ¬ f = f + 1 by omega), if_pos rfl, hF, Nat.mul_comm]
      exact ⟨hp, i1, hr.symm, by omega, b1, t1⟩
  · intro f g lf lg
    show (if f = F then d else q f) = (if g = F then d else q g) → f = g
    by_cases cf : f = F
    · by_cases cg : g = F
      · intro _; omega
      · rw [if_pos cf, if_neg cg]
        intro w
        have := (hf g (by omega)).2.2.2.1
        omega
    · by_cases cg : g = F
      · rw [if_neg cf, if_pos cg]
        intro w
        have := (hf f (by omega)).2.2.2.1
        omega
      · rw [if_neg cf, if_neg cg]
        exact hi f g (by omega) (by omega)
  · intro c c2 cd w
    rcases Nat.lt_or_ge c d with y | y
    · refine hc c c2 y (Nat.mod_eq_zero_of_dvd ?_)
      rw [← hr]
      exact Nat.dvd_mul_right_of_dvd (Nat.dvd_of_mod_eq_zero w) _
    · rw [show c = d by omega] at w
      exact z w
  · refine Nat.le_trans ?_ hb
    rw [dl_fc, Nat.mul_assoc]
    refine Nat.mul_le_mul_left _ ?_
    rw [← hr, Nat.mul_comm]
    refine Nat.mul_le_mul_left _ ?_
    exact Nat.le_trans hd (Nat.le_self_pow (by omega) d)
theorem xw_factor_22 {post : SX → Prop} {p : Nat} {ky st : Nat → Int32} (pm : p ≤ 2039) (hp : ∀ F bs ts, dl_FS (p - 1) F bs ts → post (nI p, nI (p - 1), nI F, bs, ts, ky, st)) : ∀ k d r F bs ts, d + k = 2040 → dl_FI (p - 1) r d F bs ts → ∀ m, k < m → wX_factor_22 post (nI p) (nI (p - 1)) m (nI r) (nI d) (nI F) bs ts ky st := by
  intro k
  induction k with
  | zero =>
    intro d r F bs ts hd hI m hm
    obtain ⟨m, rfl⟩ : ∃ m', m = m' + 1 := ⟨m - 1, by omega⟩
    refine br_t (nI_lt (a := 2039) (by omega) (by omega)) (hp F bs ts ?_)
    obtain ⟨q, e, R, h0, hF, hf, hi, hc, r1, hb, hd2, f5⟩ := hI
    have rl : r ≤ p - 1 := by
      refine Nat.le_trans ?_ hb
      have := Nat.mul_le_mul_right r (dl_fc_pos F)
      omega
    have e1 : r = 1 := by
      rcases Nat.lt_or_ge 1 r with l | l
      · exact absurd (Nat.mod_self r) (hc r l (by omega))
      · omega
    subst e1
    exact dl_fi_end ⟨q, e, R, h0, hF, hf, hi, hc, r1, hb, hd2, f5⟩
  | succ k ih =>
    intro d r F bs ts hd hI m hm
    obtain ⟨m, rfl⟩ : ∃ m', m = m' + 1 := ⟨m - 1, by omega⟩
    have hI' := hI
    obtain ⟨q, e, R, h0, hF, hf, hi, hc, r1, hb, hd2, f5⟩ := hI'
    have rl : r ≤ p - 1 := by
      refine Nat.le_trans ?_ hb
      have := Nat.mul_le_mul_right r (dl_fc_pos F)
      omega
    have cF : (nI F).toNatClampNeg = F := nI_clamp (by omega)
    refine br_f (nI_nlt (a := 2039) (by omega) (by decide)) ?_
    refine pk_le r 1 (fun l => ?_) (fun l => ⟨nI_ne0 (by omega) (by omega), ?_⟩)
    · have e1 : r = 1 := by omega
      subst e1
      exact hp F bs ts (dl_fi_end hI)
    · refine pk_eq (r % d) 0 (fun z => ?_) (fun z => ?_) (pk_rem (by omega) (by omega) (by omega)) rfl (Nat.lt_of_le_of_lt (Nat.mod_le _ _) (by omega))
      · have F4 : F < 5 := by
          rcases Nat.lt_or_ge F 5 with y | y
          · exact y
          · exfalso
            have e5 : F = 5 := by omega
            subst e5
            have : dl_fc 5 = 720 := by decide
            rw [this] at hb
            have := Nat.le_of_dvd (by omega) (Nat.dvd_of_mod_eq_zero z)
            omega
        refine br_f (nI_ge (b := 5) (by omega) (by decide)) ⟨pk_in F 5 F4, ?_⟩
        intro bb ebb
        refine ⟨pk_in F 5 F4, ?_⟩
        intro tt ett
        refine ⟨13, xw_factor_70 (ts0 := ts) (r0 := r) (by omega) (by omega) F4 r1 (by omega) z ?_ 12 0 r tt rfl (by rw [Nat.pow_zero, Nat.mul_one]) ?_ ?_ 13 (by decide)⟩
        · intro i r' ts' i1 hr' z' t1 t2
          refine ih (d + 1) r' (F + 1) bb ts' (by omega) (dl_fi_y hI F4 i1 hr' z' ?_ ?_ t1 t2) m (by omega)
          · rw [ebb, cF, pk_us]
          · intro j hj
            rw [ebb, cF, pk_un hj]
        · rw [ett, cF, pk_us]
          rfl
        · intro j hj
          rw [ett, cF, pk_un hj]
      · exact nm_r (nI_1 d) (ih (d + 1) r F bs ts (by omega) (dl_fi_n hI z) m (by omega))
theorem xw_factor {post : SX → Prop} {p : Nat} {fo ff : Int32} {bs ts ky st : Nat → Int32} (p3 : 3 ≤ p) (pm : p ≤ 2039) (hp : ∀ F bs ts, dl_FS (p - 1) F bs ts → post (nI p, nI (p - 1), nI F, bs, ts, ky, st)) : wpX_factor post (nI p, fo, ff, bs, ts, ky, st) := by
  refine nm_r (pk_sub (b := 1) (by omega)) ⟨2039, ?_⟩
  refine xw_factor_22 pm hp 2038 2 (p - 1) 0 bs ts rfl ?_ 2039 (by decide)
  refine ⟨fun _ => 0, fun _ => 0, fun _ => p - 1, rfl, rfl, fun f l => by omega, fun f g l => by omega, fun c a b => by omega, by omega, ?_, by decide, by decide⟩
  show 1 * (p - 1) ≤ p - 1
  omega
end
section
theorem xw_ord_29f {post : Int32 → Prop} {J : Int32 → Int32 → Prop} {P fo ff G Q N I : Int32} {bs ts ky st : Nat → Int32} {f : Nat} (f5 : f < 5) (hJ : J N (nI (f + 1))) (m : Nat) : wX_orderOf_29 post J G (nI f) Q P fo ff bs ts ky st (m + 1) N 0 I :=
  ⟨pk_in f 5 f5, br_c (fun _ => nm_r (nI_1 f) hJ) (fun _ => br_t rfl (nm_r (nI_1 f) hJ))⟩
theorem xw_ord_29 {post : Int32 → Prop} {J : Int32 → Int32 → Prop} {fo ff : Int32} {bs ts ky st : Nat → Int32} {p g k f q e T : Nat} (p2 : 2 ≤ p) (pm : p ≤ 2039) (gp : g < p) (o : dl_Ord p g k) (hq : dl_Pr q) (q0 : q ≤ 2039) (e0 : e < 2039) (f5 : f < 5) (ht : ts f = nI e)
    (hJ : ∀ N, 1 ≤ N → N ≤ p - 1 → dl_OI k N T → J (nI N) (nI (f + 1))) :
    ∀ j i, i + j = e → ∀ N, 1 ≤ N → N ≤ p - 1 → dl_OI k N (q ^ j * T) → ∀ m, j + 1 < m → wX_orderOf_29 post J (nI g) (nI f) (nI q) (nI p) fo ff bs ts ky st m (nI N) 1 (nI i) := by
  have ct : ts (nI f).toNatClampNeg = nI e := by rw [nI_clamp (by omega)]; exact ht
  have q2 := hq.1
  intro j
  induction j with
  | zero =>
    intro i hi N N1 Nm hO m hm
    obtain ⟨m, rfl⟩ : ∃ m', m = m' + 1 := ⟨m - 1, by omega⟩
    rw [Nat.pow_zero, Nat.one_mul] at hO
    refine ⟨pk_in f 5 f5, br_t ?_ (nm_r (nI_1 f) (hJ N N1 Nm hO))⟩
    rw [ct]
    exact nI_le (by omega) (by omega)
  | succ j ih =>
    intro i hi N N1 Nm hO m hm
    obtain ⟨m, rfl⟩ : ∃ m', m = m' + 1 := ⟨m - 1, by omega⟩
    have qN : q ∣ N := Nat.dvd_trans (Nat.dvd_mul_right_of_dvd (Nat.dvd_of_pow_dvd (show 1 ≤ j + 1 by omega) (Nat.dvd_refl _)) T) hO.2.1
    have hdiv : N / q ≤ N := Nat.div_le_self _ _
    refine ⟨pk_in f 5 f5, br_f ?_ (br_f (by decide) ⟨nI_ne0 (by omega) (by omega), nm_r (pk_div (by omega) (by omega) (by omega)) ?_⟩)⟩
    · rw [ct]
      exact nI_ge (by omega) (by omega)
    · have l1 : g ^ (N / q) % p < p := Nat.mod_lt _ (by omega)
      refine xw_pow g (N / q) _ rfl rfl rfl p2 pm gp (by omega) ?_
      refine pk_eq (g ^ (N / q) % p) 1 (fun z => ?_) (fun z => ?_)
      · refine br_f (by decide) (nm_r (nI_1 i) (ih (i + 1) (by omega) (N / q) ?_ (by omega) ?_ m (by omega)))
        · exact Nat.div_pos (Nat.le_of_dvd N1 qN) (by omega)
        · refine dl_oi_s (by omega) ?_ ((dl_dvd p2 o _).mp z)
          rw [Nat.pow_succ, Nat.mul_comm (q ^ j) q, Nat.mul_assoc] at hO
          exact hO
      · refine br_t rfl (nm_r (nI_1 i) ?_)
        obtain ⟨m, rfl⟩ : ∃ m', m = m' + 1 := ⟨m - 1, by omega⟩
        exact xw_ord_29f f5 (hJ N N1 Nm (dl_oi_f hq o.1 (show 1 ≤ j + 1 by omega) hO (fun d => z ((dl_dvd p2 o _).mpr d)))) m
theorem xw_ord_7 {post : Int32 → Prop} {bs ts ky st : Nat → Int32} {p g k F : Nat} {q e R : Nat → Nat} (H : dl_M p) (hF : dl_Fac (p - 1) F q e R) (hb : ∀ f, f < F → bs f = nI (q f) ∧ ts f = nI (e f)) (gp : g < p) (o : dl_Ord p g k) (h : post (nI k)) :
    ∀ j f, f + j = F → ∀ N, 1 ≤ N → N ≤ p - 1 → dl_OI k N (R f) → ∀ m, j < m → wX_orderOf_7 post (nI g) (nI p) (nI (p - 1)) (nI F) bs ts ky st m (nI N) (nI f) := by
  obtain ⟨_, p3, pm⟩ := H
  have F5 := hF.1
  intro j
  induction j with
  | zero =>
    intro f hf N N1 Nm hO m hm
    obtain ⟨m, rfl⟩ : ∃ m', m = m' + 1 := ⟨m - 1, by omega⟩
    have e1 : f = F := by omega
    subst e1
    rw [hF.2.2.1] at hO
    rw [dl_oi_e hO]
    exact br_t (nI_le (Nat.le_refl _) (by omega)) h
  | succ j ih =>
    intro f hf N N1 Nm hO m hm
    obtain ⟨m, rfl⟩ : ∃ m', m = m' + 1 := ⟨m - 1, by omega⟩
    obtain ⟨hq, he, hR⟩ := hF.2.2.2.1 f (by omega)
    obtain ⟨q2, qn, en⟩ := dl_fac_ql hF (by omega) (show f < F by omega)
    refine br_f (nI_ge (by omega) (by omega)) ⟨pk_in f 5 (by omega), ?_⟩
    refine nm_r (e' := nI (q f)) (by rw [nI_clamp (by omega)]; exact (hb f (by omega)).1) ⟨e f + 2, ?_⟩
    rw [hR] at hO
    exact xw_ord_29 (by omega) pm gp o hq (by omega) (by omega) (by omega) (hb f (by omega)).2 (fun N' a b c => ih (f + 1) (by omega) N' a b c m (by omega)) (e f) 0 (by omega) N N1 Nm hO (e f + 2) (by omega)
theorem xw_orderOf {post : Int32 → Prop} {A : Int32} {bs ts ky st : Nat → Int32} {p F : Nat} {q e R : Nat → Nat} (g k : Nat) (hA : A = nI g) (H : dl_M p) (hF : dl_Fac (p - 1) F q e R) (hb : ∀ f, f < F → bs f = nI (q f) ∧ ts f = nI (e f)) (g1 : 1 ≤ g) (gp : g < p) (o : dl_Ord p g k) (h : post (nI k)) : wpX_orderOf post (nI p, nI (p - 1), nI F, bs, ts, ky, st) A := by
  subst hA
  have p3 := H.2.1
  refine ⟨F + 1, xw_ord_7 H hF hb gp o h F 0 (by omega) (p - 1) (by omega) (Nat.le_refl _) ?_ (F + 1) (by omega)⟩
  have kd := (dl_dvd (by omega) o (p - 1)).mp (dl_fermat H g1 gp)
  rw [hF.2.1]
  exact ⟨kd, Nat.dvd_refl _, Nat.dvd_mul_left _ _⟩
theorem xw_gens_2 {post : Int32 → Prop} {bs ts ky st : Nat → Int32} {p g F : Nat} {q e R : Nat → Nat} (H : dl_M p) (hF : dl_Fac (p - 1) F q e R) (hb : ∀ f, f < F → bs f = nI (q f) ∧ ts f = nI (e f)) (g1 : 1 ≤ g) (gp : g < p) (h1 : dl_Ord p g (p - 1) → post 1) (h0 : ¬ dl_Ord p g (p - 1) → post 0) :
    ∀ j f, f + j = F → (∀ i, i < f → g ^ ((p - 1) / q i) % p ≠ 1) → ∀ m, j < m → wX_generates_2 post (nI g) (nI p) (nI (p - 1)) (nI F) bs ts ky st m (nI f) := by
  have HM := H
  obtain ⟨_, p3, pm⟩ := H
  have F5 := hF.1
  intro j
  induction j with
  | zero =>
    intro f hf hi m hm
    obtain ⟨m, rfl⟩ : ∃ m', m = m' + 1 := ⟨m - 1, by omega⟩
    have e1 : f = F := by omega
    subst e1
    refine br_t (nI_le (Nat.le_refl _) (by omega)) (h1 ?_)
    obtain ⟨k, ok, kd⟩ := dl_ord_of HM g1 gp
    have := dl_gens (by omega) hF ok kd hi
    rw [this] at ok
    exact ok
  | succ j ih =>
    intro f hf hi m hm
    obtain ⟨m, rfl⟩ : ∃ m', m = m' + 1 := ⟨m - 1, by omega⟩
    obtain ⟨q2, qn, en⟩ := dl_fac_ql hF (by omega) (show f < F by omega)
    have cb : bs (nI f).toNatClampNeg = nI (q f) := by rw [nI_clamp (by omega)]; exact (hb f (by omega)).1
    refine br_f (nI_ge (by omega) (by omega)) ⟨pk_in f 5 (by omega), ?_, ?_⟩
    · rw [cb]
      exact nI_ne0 (by omega) (by omega)
    · have l1 : g ^ ((p - 1) / q f) % p < p := Nat.mod_lt _ (by omega)
      have l2 : (p - 1) / q f ≤ p - 1 := Nat.div_le_self _ _
      refine xw_pow g ((p - 1) / q f) _ rfl (by rw [cb]; exact pk_div (by omega) (by omega) (by omega)) rfl (by omega) pm gp (by omega) ?_
      refine pk_eq (g ^ ((p - 1) / q f) % p) 1 (fun z => h0 fun oo => ?_) (fun z => nm_r (nI_1 f) (ih (f + 1) (by omega) ?_ m (by omega)))
      · exact dl_gens_n p3 hF oo (show f < F by omega) z
      · intro i hi2
        rcases Nat.lt_or_ge i f with y | y
        · exact hi i y
        · rw [show i = f by omega]
          exact z
theorem xw_generates {post : Int32 → Prop} {A : Int32} {bs ts ky st : Nat → Int32} {p F : Nat} {q e R : Nat → Nat} (g : Nat) (hA : A = nI g) (H : dl_M p) (hF : dl_Fac (p - 1) F q e R) (hb : ∀ f, f < F → bs f = nI (q f) ∧ ts f = nI (e f)) (g1 : 1 ≤ g) (gp : g < p) (h1 : dl_Ord p g (p - 1) → post 1) (h0 : ¬ dl_Ord p g (p - 1) → post 0) : wpX_generates post (nI p, nI (p - 1), nI F, bs, ts, ky, st) A := by
  subst hA
  exact ⟨F + 1, xw_gens_2 H hF hb g1 gp h1 h0 F 0 (by omega) (fun i hi => by omega) (F + 1) (by omega)⟩
theorem xw_gen_2 {post : Int32 → Prop} {bs ts ky st : Nat → Int32} {p F : Nat} {q e R : Nat → Nat} (H : dl_M p) (hF : dl_Fac (p - 1) F q e R) (hb : ∀ f, f < F → bs f = nI (q f) ∧ ts f = nI (e f)) (h : ∀ g, 1 ≤ g → g < p → dl_Ord p g (p - 1) → (∀ u, 1 ≤ u → u < g → ¬ dl_Ord p u (p - 1)) → post (nI g)) :
    ∀ j g, g + j = p → 1 ≤ g → (∀ u, 1 ≤ u → u < g → ¬ dl_Ord p u (p - 1)) → ∀ m, j < m → wX_generator_2 post (nI p) (nI (p - 1)) (nI F) bs ts ky st m (nI g) := by
  have HM := H
  obtain ⟨_, p3, pm⟩ := H
  intro j
  induction j with
  | zero =>
    intro g hg g1 hn m hm
    exfalso
    obtain ⟨c, c1, cp, co⟩ := dl_gen HM
    exact hn c c1 (by omega) co
  | succ j ih =>
    intro g hg g1 hn m hm
    obtain ⟨m, rfl⟩ : ∃ m', m = m' + 1 := ⟨m - 1, by omega⟩
    refine br_f (nI_ge (by omega) (by omega)) (br_f (nI_ge (b := 2039) (by omega) (by decide)) ?_)
    refine xw_generates g rfl HM hF hb g1 (by omega) (fun oo => ?_) (fun oo => ?_)
    · exact br_f (by decide) (h g g1 (by omega) oo hn)
    · refine br_t rfl (nm_r (nI_1 g) (ih (g + 1) (by omega) (by omega) ?_ m (by omega)))
      intro u u1 ug
      rcases Nat.lt_or_ge u g with y | y
      · exact hn u u1 y
      · rw [show u = g by omega]
        exact oo
theorem xw_generator {post : Int32 → Prop} {bs ts ky st : Nat → Int32} {p F : Nat} {q e R : Nat → Nat} (H : dl_M p) (hF : dl_Fac (p - 1) F q e R) (hb : ∀ f, f < F → bs f = nI (q f) ∧ ts f = nI (e f)) (h : ∀ g, 1 ≤ g → g < p → dl_Ord p g (p - 1) → (∀ u, 1 ≤ u → u < g → ¬ dl_Ord p u (p - 1)) → post (nI g)) : wpX_generator post (nI p, nI (p - 1), nI F, bs, ts, ky, st) := by
  have p3 := H.2.1
  exact ⟨p, xw_gen_2 H hF hb h (p - 1) 1 (by omega) (by omega) (fun u a b => by omega) p (by omega)⟩
theorem xw_tot_4 {post : Int32 → Prop} {P fo : Int32} {bs ts ky st : Nat → Int32} {d F : Nat} {q : Nat → Nat} (F5 : F ≤ 5) (dm : d < 2 ^ 31) (hb : ∀ f, f < F → bs f = nI (q f) ∧ 1 ≤ q f ∧ q f < 2 ^ 31) (h : post (nI (dl_tt q d F))) :
    ∀ j f, f + j = F → ∀ m, j < m → wX_totient_4 post (nI d) P fo (nI F) bs ts ky st m (nI (dl_tt q d f)) (nI f) := by
  intro j
  induction j with
  | zero =>
    intro f hf m hm
    obtain ⟨m, rfl⟩ : ∃ m', m = m' + 1 := ⟨m - 1, by omega⟩
    have e1 : f = F := by omega
    subst e1
    exact br_t (nI_le (Nat.le_refl _) (by omega)) h
  | succ j ih =>
    intro f hf m hm
    obtain ⟨m, rfl⟩ : ∃ m', m = m' + 1 := ⟨m - 1, by omega⟩
    obtain ⟨b1, q1, qm⟩ := hb f (by omega)
    have cb : bs (nI f).toNatClampNeg = nI (q f) := by rw [nI_clamp (by omega)]; exact b1
    have tl := dl_tt_le q d f
    have hq0 : ¬ bs (nI f).toNatClampNeg = 0 := by
      rw [cb]
      exact nI_ne0 (by omega) (by omega)
    have ih' := ih (f + 1) (by omega) m (by omega)
    rw [dl_tt] at ih'
    refine br_f (nI_ge (by omega) (by omega)) ⟨pk_in f 5 (by omega), hq0, ?_⟩
    refine pk_eq (d % q f) 0 (fun z => ?_) (fun z => ?_) (by rw [cb]; exact pk_rem (by omega) (by omega) (by omega)) rfl (Nat.lt_of_le_of_lt (Nat.mod_le _ _) (by omega))
    · rw [if_pos z] at ih'
      refine ⟨pk_in f 5 (by omega), hq0, pk_in f 5 (by omega), nm_r (e' := nI (dl_tt q d f / q f * (q f - 1))) ?_ (nm_r (nI_1 f) ih')⟩
      rw [cb, pk_div (by omega) (by omega) (by omega), ← pk_mul, ← pk_sub (b := 1) q1]
      rfl
    · rw [if_neg z] at ih'
      exact nm_r (nI_1 f) ih'
theorem xw_totient {post : Int32 → Prop} {P fo A : Int32} {bs ts ky st : Nat → Int32} {F : Nat} {q : Nat → Nat} (d : Nat) (hA : A = nI d) (F5 : F ≤ 5) (dm : d < 2 ^ 31) (hb : ∀ f, f < F → bs f = nI (q f) ∧ 1 ≤ q f ∧ q f < 2 ^ 31) (h : post (nI (dl_tt q d F))) : wpX_totient post (P, fo, nI F, bs, ts, ky, st) A := by
  subst hA
  exact ⟨F + 1, xw_tot_4 F5 dm hb h F 0 (by omega) (F + 1) (by omega)⟩
theorem dl_half {x y P B : Nat} (y0 : y ≠ 0) (l : y < x) (h : x * y * P ≤ B) : y * (x % y) * (2 * P) ≤ B := by
  refine Nat.le_trans ?_ h
  have a := Nat.mod_lt x (show 0 < y by omega)
  have b := Nat.div_add_mod x y
  have c : 1 ≤ x / y := Nat.div_pos (by omega) (by omega)
  have d : y * 1 ≤ y * (x / y) := Nat.mul_le_mul_left y c
  have e : 2 * (x % y) ≤ x := by omega
  have f : y * (x % y) * (2 * P) = (2 * (x % y)) * y * P := by
    rw [Nat.mul_comm y, Nat.mul_comm 2 P, ← Nat.mul_assoc, Nat.mul_comm _ 2, ← Nat.mul_assoc, ← Nat.mul_assoc]
  rw [f]
  exact Nat.mul_le_mul_right P (Nat.mul_le_mul_right y e)
theorem dl_gcd_s {x y G : Nat} (h : Nat.gcd x y = G) : Nat.gcd y (x % y) = G := by
  rw [Nat.gcd_comm, ← Nat.gcd_rec, Nat.gcd_comm]
  exact h
theorem xw_gcd_8 {post : Int32 → Prop} {P fo ff : Int32} {bs ts ky st : Nat → Int32} {G : Nat} (h : post (nI G)) :
    ∀ k i, i + k = 64 → ∀ x y, y < x → x < 2 ^ 31 → x * y * 2 ^ i ≤ 2 ^ 60 → Nat.gcd x y = G → ∀ m, k < m → wX_gcd_8 post P fo ff bs ts ky st m (nI x) (nI y) (nI i) := by
  intro k
  induction k with
  | zero =>
    intro i hi x y l xm hb hg m hm
    obtain ⟨m, rfl⟩ : ∃ m', m = m' + 1 := ⟨m - 1, by omega⟩
    have e1 : i = 64 := by omega
    subst e1
    have y0 : y = 0 := by
      rcases Nat.eq_zero_or_pos y with z | z
      · exact z
      · exfalso
        have a : 1 ≤ x * y := Nat.mul_pos (by omega) z
        have b := Nat.mul_le_mul_right (2 ^ 64) a
        omega
    rw [y0, Nat.gcd_zero_right] at hg
    rw [hg]
    exact br_t (nI_le (a := 64) (b := 64) (Nat.le_refl _) (by decide)) h
  | succ k ih =>
    intro i hi x y l xm hb hg m hm
    obtain ⟨m, rfl⟩ : ∃ m', m = m' + 1 := ⟨m - 1, by omega⟩
    refine br_f (nI_ge (b := 64) (by omega) (by decide)) ?_
    refine pk_eq y 0 (fun z => ?_) (fun z => ?_)
    · rw [z, Nat.gcd_zero_right] at hg
      rw [hg]
      exact h
    · refine ⟨nI_ne0 (by omega) (by omega), nm_r (pk_rem (by omega) (by omega) (by omega)) (nm_r (nI_1 i) ?_)⟩
      refine ih (i + 1) (by omega) y (x % y) (Nat.mod_lt _ (by omega)) (by omega) ?_ (dl_gcd_s hg) m (by omega)
      have := dl_half z l hb
      rw [Nat.pow_succ, Nat.mul_comm (2 ^ i) 2]
      exact this
theorem xw_gcd {post : Int32 → Prop} {P fo ff A B : Int32} {bs ts ky st : Nat → Int32} (a b : Nat) (hA : A = nI a) (hB : B = nI b) (am : a < 2 ^ 31) (bm : b < 2 ^ 28) (h : post (nI (Nat.gcd a b))) : wpX_gcd post (P, fo, ff, bs, ts, ky, st) A B := by
  subst hA hB
  refine ⟨65, ?_⟩
  refine br_f (by decide) ?_
  refine pk_eq b 0 (fun z => ?_) (fun z => ?_)
  · rw [z, Nat.gcd_zero_right] at h
    exact h
  · refine ⟨nI_ne0 (by omega) (by omega), nm_r (pk_rem (by omega) (by omega) (by omega)) (nm_r (nI_1 0) ?_)⟩
    have l := Nat.mod_lt a (show 0 < b by omega)
    refine xw_gcd_8 h 63 1 rfl b (a % b) l (by omega) ?_ (dl_gcd_s rfl) 64 (by decide)
    have := Nat.mul_le_mul (Nat.le_of_lt bm) (show a % b ≤ 2 ^ 28 by omega)
    have := Nat.mul_le_mul_right (2 ^ 1) this
    exact Nat.le_trans this (by decide)
/-- the reckoning of an inverse -/
def dl_EI (a M r0 r1 A B : Nat) (s0 s1 : Int32) : Prop := ∃ s : Int, ((s = 1 ∧ s0 = -nI A ∧ s1 = nI B) ∨ (s = -1 ∧ s0 = nI A ∧ s1 = -nI B)) ∧ (M : Int) ∣ (A : Int) * a + s * r0 ∧ (M : Int) ∣ (B : Int) * a - s * r1 ∧ A * r1 + B * r0 = M ∧ A ≤ B ∧ r1 < r0 ∧ Nat.gcd r0 r1 = 1
theorem dl_ei_s {a M r0 r1 A B : Nat} {s0 s1 : Int32} (h : dl_EI a M r0 r1 A B s0 s1) (z : r1 ≠ 0) : dl_EI a M r1 (r0 % r1) B (A + r0 / r1 * B) s1 (s0 - nI (r0 / r1) * s1) := by
  obtain ⟨s, hs, d1, d2, hM, hl, hr, hg⟩ := h
  have e := Nat.div_add_mod r0 r1
  have q1 : 1 ≤ r0 / r1 := Nat.div_pos (by omega) (by omega)
  have rm := Nat.mod_lt r0 (show 0 < r1 by omega)
  refine ⟨-s, ?_, ?_, ?_, ?_, ?_, rm, dl_gcd_s hg⟩
  · rcases hs with ⟨x, y, w⟩ | ⟨x, y, w⟩
    · refine Or.inr ⟨by omega, w, ?_⟩
      rw [y, w, ← nI_add, ← pk_mul]
      grind
    · refine Or.inl ⟨by omega, w, ?_⟩
      rw [y, w, ← nI_add, ← pk_mul]
      grind
  · rw [Int.neg_mul, ← Int.sub_eq_add_neg]
    exact d2
  · have e' : (r0 : Int) = (r1 : Int) * ((r0 / r1 : Nat) : Int) + ((r0 % r1 : Nat) : Int) := by
      rw [← Int.natCast_mul, ← Int.natCast_add, e]
    have key : ((A + r0 / r1 * B : Nat) : Int) * a - -s * ((r0 % r1 : Nat) : Int) = ((A : Int) * a + s * r0) + ((r0 / r1 : Nat) : Int) * ((B : Int) * a - s * r1) := by
      rw [Int.natCast_add, Int.natCast_mul, e']
      generalize ((r0 / r1 : Nat) : Int) = w
      generalize ((r0 % r1 : Nat) : Int) = v
      grind
    rw [key]
    exact Int.dvd_add d1 (Int.dvd_mul_of_dvd_right d2)
  · rw [← hM]
    generalize r0 / r1 = w at e
    generalize r0 % r1 = v at e
    rw [← e]
    grind
  · have : 1 * B ≤ r0 / r1 * B := Nat.mul_le_mul_right B q1
    omega
theorem dl_ei_mod {M x y : Nat} (h : (M : Int) ∣ (x : Int) - y) : x % M = y % M := by
  apply Int.ofNat_inj.mp
  show ((x % M : Nat) : Int) = ((y % M : Nat) : Int)
  rw [Int.natCast_emod, Int.natCast_emod]
  exact Int.emod_eq_emod_iff_emod_sub_eq_zero.mpr (Int.emod_eq_zero_of_dvd h)
theorem dl_ei_e {a M r0 A B : Nat} {s0 s1 : Int32} {post : Int32 → Prop} (Mm : M < 2 ^ 30) (h : dl_EI a M r0 0 A B s0 s1) (hp : ∀ s, s ≤ M → a * s % M = 1 % M → post (nI s)) : (0 ≤ s0 → post s0) ∧ (¬ 0 ≤ s0 → post (s0 + nI M)) := by
  obtain ⟨s, hs, d1, d2, hM, hl, hr, hg⟩ := h
  rw [Nat.gcd_zero_right] at hg
  subst hg
  rw [Nat.mul_zero, Nat.mul_one, Nat.zero_add] at hM
  subst hM
  rcases hs with ⟨x, y, w⟩ | ⟨x, y, w⟩
  · subst x
    rw [Int.one_mul] at d1
    have hs' : ∀ s, s = B - A → a * s % B = 1 % B := by
      intro s es
      apply dl_ei_mod
      have e2 : ((a * s : Nat) : Int) - ((1 : Nat) : Int) = (B : Int) * a - ((A : Int) * a + ((1 : Nat) : Int)) := by
        rw [es, Int.natCast_mul, Int.ofNat_sub hl]
        grind
      rw [e2]
      exact Int.dvd_sub (Int.dvd_mul_right _ _) d1
    rcases Nat.eq_zero_or_pos A with z | z
    · refine br_t ?_ ?_
      · rw [y, z]
        decide
      · have e1 : s0 = nI 0 := by
          rw [y, z]
          decide
        rw [e1]
        refine hp 0 (by omega) ?_
        have := hs' B (by omega)
        rw [Nat.mul_mod_left] at this
        rw [Nat.mul_zero, Nat.zero_mod]
        exact this
    · refine br_f ?_ ?_
      · rw [y, Int32.le_iff_toInt_le, Int32.toInt_neg, nI_toInt (by omega), Int.bmod_eq_of_le (by omega) (by omega)]
        show ¬ (0 : Int) ≤ _
        omega
      · have e1 : s0 + nI B = nI (B - A) := by
          rw [y, ← pk_sub hl]
          grind
        rw [e1]
        exact hp (B - A) (by omega) (hs' _ rfl)
  · subst x
    refine br_t ?_ ?_
    · rw [y]
      exact nI_pos' (by omega)
    · rw [y]
      refine hp A hl ?_
      apply dl_ei_mod
      have e2 : ((a * A : Nat) : Int) - ((1 : Nat) : Int) = (A : Int) * a + -1 * ((1 : Nat) : Int) := by
        rw [Int.natCast_mul]
        grind
      rw [e2]
      exact d1
theorem xw_inv_24 {post : Int32 → Prop} {P fo ff : Int32} {bs ts ky st : Nat → Int32} {a M : Nat} (Mm : M < 2 ^ 28) (hp : ∀ s, s ≤ M → a * s % M = 1 % M → post (nI s)) :
    ∀ k i, i + k = 64 → ∀ r0 r1 A B s0 s1, r0 ≤ M → r0 * r1 * 2 ^ i ≤ 2 ^ 60 → dl_EI a M r0 r1 A B s0 s1 → ∀ m, k < m → wX_invertBy_24 post (nI M) P fo ff bs ts ky st m (nI r0) (nI r1) s0 s1 (nI i) := by
  intro k
  induction k with
  | zero =>
    intro i hi r0 r1 A B s0 s1 rM hb hE m hm
    obtain ⟨m, rfl⟩ : ∃ m', m = m' + 1 := ⟨m - 1, by omega⟩
    have e1 : i = 64 := by omega
    subst e1
    have l : r1 < r0 := by
      obtain ⟨_, _, _, _, _, _, l, _⟩ := hE
      exact l
    have y0 : r1 = 0 := by
      rcases Nat.eq_zero_or_pos r1 with z | z
      · exact z
      · exfalso
        have a : 1 ≤ r0 * r1 := Nat.mul_pos (by omega) z
        have b := Nat.mul_le_mul_right (2 ^ 64) a
        omega
    rw [y0] at hE
    exact br_t (nI_le (a := 64) (b := 64) (Nat.le_refl _) (by decide)) (dl_ei_e (by omega) hE hp)
  | succ k ih =>
    intro i hi r0 r1 A B s0 s1 rM hb hE m hm
    obtain ⟨m, rfl⟩ : ∃ m', m = m' + 1 := ⟨m - 1, by omega⟩
    have l : r1 < r0 := by
      obtain ⟨_, _, _, _, _, _, l, _⟩ := hE
      exact l
    refine br_f (nI_ge (b := 64) (by omega) (by decide)) ?_
    refine pk_eq r1 0 (fun z => ?_) (fun z => ?_)
    · rw [z] at hE
      exact dl_ei_e (by omega) hE hp
    · refine ⟨nI_ne0 (by omega) (by omega), nm_r (pk_div (by omega) (by omega) (by omega)) (nm_r (e' := nI (r0 % r1)) ?_ (nm_e (nm_r (nI_1 i) ?_)))⟩
      · rw [pk_mul, pk_sub (Nat.div_mul_le_self _ _)]
        exact congrArg nI (by have := Nat.div_add_mod' r0 r1; omega)
      · refine ih (i + 1) (by omega) r1 (r0 % r1) B _ s1 _ (by omega) ?_ (dl_ei_s hE z) m (by omega)
        have := dl_half z l hb
        rw [Nat.pow_succ, Nat.mul_comm (2 ^ i) 2]
        exact this
theorem xw_invertBy {post : Int32 → Prop} {P fo ff A B : Int32} {bs ts ky st : Nat → Int32} (a M : Nat) (hA : A = nI a) (hB : B = nI M) (am : a < 2 ^ 31) (M1 : 1 ≤ M) (Mm : M < 2 ^ 28) (c : Nat.gcd a M = 1) (hp : ∀ s, s ≤ M → a * s % M = 1 % M → post (nI s)) : wpX_invertBy post (P, fo, ff, bs, ts, ky, st) A B := by
  subst hA hB
  have l := Nat.mod_lt a M1
  refine br_f (nI_nle M1 (by omega)) ⟨nI_ne0 M1 (by omega), nm_r (pk_rem (by omega) M1 (by omega)) ⟨65, ?_⟩⟩
  refine xw_inv_24 Mm hp 64 0 rfl M (a % M) 0 1 0 1 (Nat.le_refl _) ?_ ?_ 65 (by decide)
  · rw [Nat.pow_zero, Nat.mul_one]
    exact Nat.le_trans (Nat.mul_le_mul (show M ≤ 2 ^ 28 by omega) (show a % M ≤ 2 ^ 28 by omega)) (by decide)
  · refine ⟨1, Or.inl ⟨rfl, by decide, rfl⟩, ?_, ?_, ?_, by decide, l, ?_⟩
    · rw [Int.one_mul]
      show (M : Int) ∣ ((0 : Nat) : Int) * a + M
      rw [show ((0 : Nat) : Int) = 0 from rfl, Int.zero_mul, Int.zero_add]
      exact Int.dvd_refl _
    · rw [Int.one_mul, show ((1 : Nat) : Int) = 1 from rfl, Int.one_mul]
      refine ⟨((a / M : Nat) : Int), ?_⟩
      have e : (a : Int) = (M : Int) * ((a / M : Nat) : Int) + ((a % M : Nat) : Int) := by
        rw [← Int.natCast_mul, ← Int.natCast_add, Nat.div_add_mod]
      omega
    · rw [Nat.zero_mul, Nat.one_mul, Nat.zero_add]
    · exact dl_gcd_s c
theorem xw_timesBy {post : Int32 → Prop} {P fo ff A B C : Int32} {bs ts ky st : Nat → Int32} (a b M : Nat) (hA : A = nI a) (hB : B = nI b) (hC : C = nI M) (am : a < 2 ^ 31) (bm : b < 2 ^ 31) (M1 : 1 ≤ M) (Mm : M < 2 ^ 31) (h : post (nI (a * b % M))) : wpX_timesBy post (P, fo, ff, bs, ts, ky, st) A B C := by
  subst hA hB hC
  have ab : a * b < 2 ^ 63 := Nat.lt_of_le_of_lt (Nat.mul_le_mul (Nat.le_of_lt am) (Nat.le_of_lt bm)) (by decide)
  refine br_t (nI_le (a := 1) M1 (by omega)) (nm_r (e' := lN (a * b)) ?_ ⟨?_, ?_⟩)
  · rw [nI_l am, nI_l bm, lN_mul]
  · rw [nI_l Mm]
    intro z
    have : M = 0 := (lN_eq Mm (by decide)).mp z
    omega
  · rw [nI_l Mm, pk_lRem ab M1 (by omega), lN_i]
    exact h
end
section
theorem xw_clear_2 {post : SX → Prop} {P fo ff : Int32} {bs ts st : Nat → Int32} (h : ∀ ky : Nat → Int32, (∀ c, c < 128 → ky c = 0) → post (P, fo, ff, bs, ts, ky, st)) :
    ∀ k i, i + k = 128 → ∀ ky : Nat → Int32, (∀ c, c < i → ky c = 0) → ∀ m, k < m → wX_clearTable_2 post P fo ff m (nI i) bs ts ky st := by
  intro k
  induction k with
  | zero =>
    intro i hi ky hk m hm
    obtain ⟨m, rfl⟩ : ∃ m', m = m' + 1 := ⟨m - 1, by omega⟩
    have e1 : i = 128 := by omega
    subst e1
    exact br_t (nI_le (a := 128) (b := 128) (Nat.le_refl _) (by decide)) (h ky hk)
  | succ k ih =>
    intro i hi ky hk m hm
    obtain ⟨m, rfl⟩ : ∃ m', m = m' + 1 := ⟨m - 1, by omega⟩
    refine br_f (nI_ge (b := 128) (by omega) (by decide)) ⟨pk_in i 128 (by omega), ?_⟩
    intro kk ekk
    refine nm_r (nI_1 i) (ih (i + 1) (by omega) kk ?_ m (by omega))
    intro c hc
    rw [ekk, nI_clamp (by omega)]
    by_cases z : c = i
    · rw [z, pk_us]
    · rw [pk_un z]
      exact hk c (by omega)
theorem xw_clearTable {post : SX → Prop} {P fo ff : Int32} {bs ts ky st : Nat → Int32} (h : ∀ ky : Nat → Int32, (∀ c, c < 128 → ky c = 0) → post (P, fo, ff, bs, ts, ky, st)) : wpX_clearTable post (P, fo, ff, bs, ts, ky, st) :=
  ⟨129, xw_clear_2 h 128 0 rfl ky (fun c hc => by omega) 129 (by decide)⟩
def dl_hs (v t : Nat) : Nat := (v * 37 + t) % 128
theorem dl_hs_lt (v t : Nat) : dl_hs v t < 128 := Nat.mod_lt _ (by decide)
theorem xw_cell_10 {post : Int32 → Prop} {P fo ff : Int32} {bs ts ky st : Nat → Int32} {v t : Nat} (tm : t < 128) (hit : ky (dl_hs v t) = 0 ∨ ky (dl_hs v t) = nI v) (miss : ∀ s, s < t → ky (dl_hs v s) ≠ 0 ∧ ky (dl_hs v s) ≠ nI v) (h : post (nI (dl_hs v t))) :
    ∀ k s, s + k = t → ∀ m, k < m → wX_cellOf_10 post (nI v) P fo ff bs ts ky st m (nI (dl_hs v s)) (nI s) := by
  intro k
  induction k with
  | zero =>
    intro s hs m hm
    obtain ⟨m, rfl⟩ : ∃ m', m = m' + 1 := ⟨m - 1, by omega⟩
    have e1 : s = t := by omega
    subst e1
    have lt := dl_hs_lt v s
    have cl : (nI (dl_hs v s)).toNatClampNeg = dl_hs v s := nI_clamp (by omega)
    refine br_f (nI_ge (b := 128) (by omega) (by decide)) ⟨pk_in _ 128 lt, ?_⟩
    rw [cl]
    by_cases z : ky (dl_hs v s) = 0
    · exact br_t z h
    · refine br_f z ⟨pk_in _ 128 lt, br_t ?_ h⟩
      rcases hit with y | y
      · exact absurd y z
      · exact y
  | succ k ih =>
    intro s hs m hm
    obtain ⟨m, rfl⟩ : ∃ m', m = m' + 1 := ⟨m - 1, by omega⟩
    have lt := dl_hs_lt v s
    have cl : (nI (dl_hs v s)).toNatClampNeg = dl_hs v s := nI_clamp (by omega)
    obtain ⟨m1, m2⟩ := miss s (by omega)
    refine br_f (nI_ge (b := 128) (by omega) (by decide)) ⟨pk_in _ 128 lt, ?_⟩
    rw [cl]
    refine br_f m1 ⟨pk_in _ 128 lt, br_f m2 (nm_r (e' := nI (dl_hs v (s + 1))) ?_ (nm_r (nI_1 s) (ih (s + 1) (by omega) m (by omega))))⟩
    rw [nI_1, pk_andN (k := 7) (by omega) (by decide)]
    refine congrArg nI ?_
    show ((v * 37 + s) % 128 + 1) % 128 = (v * 37 + (s + 1)) % 128
    omega
theorem xw_cellOf {post : Int32 → Prop} {P fo ff A : Int32} {bs ts ky st : Nat → Int32} (v t : Nat) (hA : A = nI v) (vm : v ≤ 2039) (tm : t < 128) (hit : ky (dl_hs v t) = 0 ∨ ky (dl_hs v t) = nI v) (miss : ∀ s, s < t → ky (dl_hs v s) ≠ 0 ∧ ky (dl_hs v s) ≠ nI v) (h : post (nI (dl_hs v t))) : wpX_cellOf post (P, fo, ff, bs, ts, ky, st) A := by
  subst hA
  refine nm_r (e' := nI (dl_hs v 0)) ?_ ⟨t + 1, xw_cell_10 tm hit miss h t 0 (by omega) (t + 1) (by omega)⟩
  show (nI v * nI 37) &&& 127 = _
  rw [pk_mul, pk_andN (k := 7) (by omega) (by decide)]
  rfl
theorem xw_root_4 {post : Int32 → Prop} {P fo ff : Int32} {bs ts ky st : Nat → Int32} {q : Nat} (qm : q ≤ 2039) (h : ∀ w, 1 ≤ w → w ≤ 46 → q ≤ w * w → (w - 1) * (w - 1) < q → post (nI w)) :
    ∀ k i, i + k = 50 → i * i < q → ∀ m, k < m → wX_rootUp_4 post (nI q) P fo ff bs ts ky st m (nI (i + 1)) (nI i) := by
  intro k
  induction k with
  | zero =>
    intro i hi hq m hm
    exfalso
    have e1 : i = 50 := by omega
    subst e1
    omega
  | succ k ih =>
    intro i hi hq m hm
    obtain ⟨m, rfl⟩ : ∃ m', m = m' + 1 := ⟨m - 1, by omega⟩
    have i45 : i ≤ 45 := by
      rcases Nat.lt_or_ge 45 i with l | l
      · have := Nat.mul_le_mul l l
        omega
      · exact l
    have bb : (i + 1) * (i + 1) ≤ 46 * 46 := Nat.mul_le_mul (by omega) (by omega)
    refine br_f (nI_ge (b := 50) (by omega) (by decide)) ?_
    refine pk_le q ((i + 1) * (i + 1)) (fun l => h (i + 1) (by omega) (by omega) l (by rw [Nat.add_sub_cancel]; exact hq)) (fun l => nm_r (nI_1 (i + 1)) (nm_r (nI_1 i) (ih (i + 1) (by omega) l m (by omega)))) rfl (pk_mul _ _)
theorem xw_rootUp {post : Int32 → Prop} {P fo ff A : Int32} {bs ts ky st : Nat → Int32} (q : Nat) (hA : A = nI q) (q1 : 1 ≤ q) (qm : q ≤ 2039) (h : ∀ w, 1 ≤ w → w ≤ 46 → q ≤ w * w → (w - 1) * (w - 1) < q → post (nI w)) : wpX_rootUp post (P, fo, ff, bs, ts, ky, st) A := by
  subst hA
  exact ⟨51, xw_root_4 qm h 50 0 rfl (by omega) 51 (by decide)⟩
def dl_TB (p g j : Nat) (ky st : Nat → Int32) : Prop :=
  (∀ c, c < 128 → ky c = 0 ∨ ∃ i, i < j ∧ ky c = nI (g ^ i % p) ∧ st c = nI i) ∧
  (∀ i, i < j → ∃ t, t < 128 ∧ ky (dl_hs (g ^ i % p) t) = nI (g ^ i % p) ∧ ∀ s, s < t → ky (dl_hs (g ^ i % p) s) ≠ 0) ∧
  (∃ L : List Nat, L.length ≤ j ∧ ∀ c, c < 128 → ky c ≠ 0 → c ∈ L)
theorem dl_tb_0 {p g : Nat} {ky st : Nat → Int32} (h : ∀ c, c < 128 → ky c = 0) : dl_TB p g 0 ky st :=
  ⟨fun c hc => Or.inl (h c hc), fun i hi => by omega, [], Nat.le_refl 0, fun c hc z => absurd (h c hc) z⟩
theorem dl_tb_find {p g j : Nat} {ky st : Nat → Int32} (h : dl_TB p g j ky st) (jm : j < 128) (v : Nat) : ∃ t, t < 128 ∧ (ky (dl_hs v t) = 0 ∨ ky (dl_hs v t) = nI v) ∧ ∀ s, s < t → ky (dl_hs v s) ≠ 0 ∧ ky (dl_hs v s) ≠ nI v := by
  obtain ⟨_, _, L, hL, hc⟩ := h
  have ex : ∃ c, c < 128 ∧ ky c = 0 := by
    apply Classical.byContradiction
    intro no
    have sub : List.range 128 ⊆ L := by
      intro c m
      have cl := List.mem_range.mp m
      exact hc c cl (fun z => no ⟨c, cl, z⟩)
    have := List.Nodup.length_le_of_subset List.nodup_range sub
    rw [List.length_range] at this
    omega
  obtain ⟨c, c1, c0⟩ := ex
  have ext : ∃ t, t < 128 ∧ (ky (dl_hs v t) = 0 ∨ ky (dl_hs v t) = nI v) := by
    refine ⟨(c + (128 - (v * 37) % 128)) % 128, Nat.mod_lt _ (by decide), Or.inl ?_⟩
    have e : dl_hs v ((c + (128 - (v * 37) % 128)) % 128) = c := by
      unfold dl_hs
      omega
    rw [e]
    exact c0
  obtain ⟨t, ⟨t1, t2⟩, t3⟩ := pk_least (fun t => t < 128 ∧ (ky (dl_hs v t) = 0 ∨ ky (dl_hs v t) = nI v)) ext
  refine ⟨t, t1, t2, fun s hs => ⟨fun z => t3 s hs ⟨by omega, Or.inl z⟩, fun z => t3 s hs ⟨by omega, Or.inr z⟩⟩⟩
theorem dl_tb_ins {p g j t : Nat} {ky st : Nat → Int32} (h : dl_TB p g j ky st) (pm : p ≤ 2039) (hu : ∀ i, 1 ≤ g ^ i % p ∧ g ^ i % p < p) (tm : t < 128) (c0 : ky (dl_hs (g ^ j % p) t) = 0) (miss : ∀ s, s < t → ky (dl_hs (g ^ j % p) s) ≠ 0) : dl_TB p g (j + 1) (upd ky (dl_hs (g ^ j % p) t) (nI (g ^ j % p))) (upd st (dl_hs (g ^ j % p) t) (nI j)) := by
  obtain ⟨h1, h2, L, hL, hc⟩ := h
  have v0 : ∀ i, nI (g ^ i % p) ≠ 0 := fun i => nI_ne0 (hu i).1 (by have := (hu i).2; omega)
  have keep : ∀ x, ky x ≠ 0 → upd ky (dl_hs (g ^ j % p) t) (nI (g ^ j % p)) x ≠ 0 := by
    intro x hx
    by_cases z : x = dl_hs (g ^ j % p) t
    · rw [z, pk_us]
      exact v0 j
    · rw [pk_un z]
      exact hx
  refine ⟨fun c cl => ?_, fun i hi => ?_, dl_hs (g ^ j % p) t :: L, by rw [List.length_cons]; omega, fun c cl z => ?_⟩
  · by_cases z : c = dl_hs (g ^ j % p) t
    · refine Or.inr ⟨j, by omega, ?_, ?_⟩
      · rw [z, pk_us]
      · rw [z, pk_us]
    · rw [pk_un z, pk_un z]
      rcases h1 c cl with y | ⟨i, a, b, d⟩
      · exact Or.inl y
      · exact Or.inr ⟨i, by omega, b, d⟩
  · rcases Nat.lt_or_ge i j with y | y
    · obtain ⟨t', a, b, d⟩ := h2 i y
      refine ⟨t', a, ?_, fun s hs => keep _ (d s hs)⟩
      by_cases z : dl_hs (g ^ i % p) t' = dl_hs (g ^ j % p) t
      · rw [z, c0] at b
        exact absurd b.symm (v0 i)
      · rw [pk_un z]
        exact b
    · have e1 : i = j := by omega
      subst e1
      refine ⟨t, tm, pk_us, fun s hs => keep _ (miss s hs)⟩
  · by_cases y : c = dl_hs (g ^ j % p) t
    · rw [y]
      exact List.mem_cons_self
    · rw [pk_un y] at z
      exact List.mem_cons_of_mem _ (hc c cl z)
/-- a key that is found is a power below j; a power below j is found -/
theorem dl_tb_hit {p g j t i : Nat} {ky st : Nat → Int32} (h : dl_TB p g j ky st) (hi : i < j) (hit : ky (dl_hs (g ^ i % p) t) = 0 ∨ ky (dl_hs (g ^ i % p) t) = nI (g ^ i % p)) (miss : ∀ s, s < t → ky (dl_hs (g ^ i % p) s) ≠ 0 ∧ ky (dl_hs (g ^ i % p) s) ≠ nI (g ^ i % p)) : ky (dl_hs (g ^ i % p) t) = nI (g ^ i % p) := by
  obtain ⟨t', a, b, d⟩ := h.2.1 i hi
  rcases hit with y | y
  · rcases Nat.lt_trichotomy t t' with l | l | l
    · exact absurd y (d t l)
    · rw [l]
      exact b
    · exact absurd b (miss t' l).2
  · exact y
theorem xw_small_17 {post : Int32 → SX → Prop} {fo ff hh : Int32} {bs ts : Nat → Int32} {p g w q : Nat} (p2 : 2 ≤ p) (pm : p ≤ 2039) (g1 : 1 ≤ g) (gp : g < p) (o : dl_Ord p g q) (wm : w ≤ 46) (wq : w ≤ q)
    (hK : ∀ ky st, dl_TB p g w ky st → wpX_invert (fun r => ∃ n : Nat, wX_smallLog_89 post (nI w) r (nI p) fo ff bs ts ky st n hh 0) (nI p, fo, ff, bs, ts, ky, st) (nI (g ^ w % p))) :
    ∀ k j, j + k = w → ∀ ky st, dl_TB p g j ky st → ∀ m, k < m → wX_smallLog_17 post (nI g) hh (nI w) (nI p) fo ff m (nI (g ^ j % p)) (nI j) bs ts ky st := by
  have hu := dl_ord_unit p2 o
  intro k
  induction k with
  | zero =>
    intro j hj ky st hT m hm
    obtain ⟨m, rfl⟩ : ∃ m', m = m' + 1 := ⟨m - 1, by omega⟩
    have e1 : j = w := by omega
    subst e1
    exact br_t (nI_le (Nat.le_refl _) (by omega)) (hK ky st hT)
  | succ k ih =>
    intro j hj ky st hT m hm
    obtain ⟨m, rfl⟩ : ∃ m', m = m' + 1 := ⟨m - 1, by omega⟩
    obtain ⟨t, t1, t2, t3⟩ := dl_tb_find hT (by omega) (g ^ j % p)
    have vp := (hu j).2
    have lt := dl_hs_lt (g ^ j % p) t
    have cl : (nI (dl_hs (g ^ j % p) t)).toNatClampNeg = dl_hs (g ^ j % p) t := nI_clamp (by omega)
    have c0 : ky (dl_hs (g ^ j % p) t) = 0 := by
      rcases t2 with y | y
      · exact y
      · exfalso
        rcases hT.1 _ lt with z | ⟨i, il, iv, _⟩
        · rw [z] at y
          exact absurd y.symm (nI_ne0 (hu j).1 (by omega))
        · rw [iv] at y
          have vi := (hu i).2
          have := (nI_eq (by omega) (by omega)).mp y
          exact dl_inj_lt o il (by omega) this
    refine br_f (nI_ge (by omega) (by omega)) ?_
    refine xw_cellOf (g ^ j % p) t rfl (by omega) t1 t2 t3 ⟨pk_in _ 128 lt, ?_⟩
    rw [cl]
    refine br_t c0 ⟨pk_in _ 128 lt, nm_e ⟨pk_in _ 128 lt, nm_e ?_⟩⟩
    refine xw_mul (g ^ j % p) g (g ^ (j + 1) % p) rfl rfl ?_ (by omega) pm vp gp (nm_r (nI_1 j) ?_)
    · rw [Nat.pow_succ, Nat.mod_mul_mod]
    · exact ih (j + 1) (by omega) _ _ (dl_tb_ins hT pm hu t1 c0 (fun s hs => (t3 s hs).1)) m (by omega)
theorem dl_back {p u bk w : Nat} (e : u * bk % p = 1) : w * u % p * bk % p = w % p := by
  rw [Nat.mod_mul_mod, Nat.mul_assoc, Nat.mul_mod, e, Nat.mul_one, Nat.mod_mod]
theorem xw_small_89 {post : Int32 → SX → Prop} {fo ff : Int32} {bs ts ky st : Nat → Int32} {p g w q x bk : Nat} (p2 : 2 ≤ p) (pm : p ≤ 2039) (o : dl_Ord p g q) (w1 : 1 ≤ w) (wm : w ≤ 46) (wq : w ≤ q) (qw : q ≤ w * w) (qm : q ≤ 2039) (xq : x < q) (hT : dl_TB p g w ky st) (bp : bk < p) (hbk : g ^ w % p * bk % p = 1) (h : post (nI x) (nI p, fo, ff, bs, ts, ky, st)) :
    ∀ k i, i + k = x / w → ∀ m, k < m → wX_smallLog_89 post (nI w) (nI bk) (nI p) fo ff bs ts ky st m (nI (g ^ (x - i * w) % p)) (nI i) := by
  have hu := dl_ord_unit p2 o
  have xw : x / w < w := Nat.div_lt_of_lt_mul (by omega)
  have xd := Nat.div_add_mod x w
  have xr := Nat.mod_lt x w1
  intro k
  induction k with
  | zero =>
    intro i hi m hm
    obtain ⟨m, rfl⟩ : ∃ m', m = m' + 1 := ⟨m - 1, by omega⟩
    have e1 : i = x / w := by omega
    have e2 : x - i * w = x % w := by
      rw [e1, Nat.mul_comm]
      omega
    rw [e2]
    obtain ⟨t, t1, t2, t3⟩ := dl_tb_find hT (by omega) (g ^ (x % w) % p)
    have vp := (hu (x % w)).2
    have lt := dl_hs_lt (g ^ (x % w) % p) t
    have cl : (nI (dl_hs (g ^ (x % w) % p) t)).toNatClampNeg = dl_hs (g ^ (x % w) % p) t := nI_clamp (by omega)
    have c0 := dl_tb_hit hT xr t2 t3
    refine br_f (nI_ge (by omega) (by omega)) ?_
    refine xw_cellOf (g ^ (x % w) % p) t rfl (by omega) t1 t2 t3 ⟨pk_in _ 128 lt, ?_⟩
    rw [cl]
    refine br_t c0 ⟨pk_in _ 128 lt, ?_⟩
    have es : st (dl_hs (g ^ (x % w) % p) t) = nI (x % w) := by
      rcases hT.1 _ lt with z | ⟨i', il, iv, is⟩
      · rw [z] at c0
        exact absurd c0.symm (nI_ne0 (hu (x % w)).1 (by omega))
      · rw [iv] at c0
        have vi := (hu i').2
        have := (nI_eq (by omega) (by omega)).mp c0
        have := dl_inj o (by omega) (by omega) this
        exact is.trans (congrArg nI this)
    rw [es, pk_mul, nI_add, e1, Nat.mul_comm, xd]
    exact h
  | succ k ih =>
    intro i hi m hm
    obtain ⟨m, rfl⟩ : ∃ m', m = m' + 1 := ⟨m - 1, by omega⟩
    have le : (i + 1) * w ≤ x := by
      have := Nat.mul_le_mul_right w (show i + 1 ≤ x / w by omega)
      rw [Nat.mul_comm (x / w) w] at this
      omega
    rw [Nat.add_mul, Nat.one_mul] at le
    obtain ⟨t, t1, t2, t3⟩ := dl_tb_find hT (by omega) (g ^ (x - i * w) % p)
    have vp := (hu (x - i * w)).2
    have lt := dl_hs_lt (g ^ (x - i * w) % p) t
    have cl : (nI (dl_hs (g ^ (x - i * w) % p) t)).toNatClampNeg = dl_hs (g ^ (x - i * w) % p) t := nI_clamp (by omega)
    have c0 : ¬ ky (dl_hs (g ^ (x - i * w) % p) t) = nI (g ^ (x - i * w) % p) := by
      intro c0
      rcases hT.1 _ lt with z | ⟨i', il, iv, is⟩
      · rw [z] at c0
        exact absurd c0.symm (nI_ne0 (hu _).1 (by omega))
      · rw [iv] at c0
        have vi := (hu i').2
        have := (nI_eq (by omega) (by omega)).mp c0
        have := dl_inj o (by omega) (by omega) this
        omega
    refine br_f (nI_ge (by omega) (by omega)) ?_
    refine xw_cellOf (g ^ (x - i * w) % p) t rfl (by omega) t1 t2 t3 ⟨pk_in _ 128 lt, ?_⟩
    rw [cl]
    refine br_f c0 ?_
    refine xw_mul (g ^ (x - i * w) % p) bk (g ^ (x - (i + 1) * w) % p) rfl rfl ?_ (by omega) pm vp bp (nm_r (nI_1 i) (ih (i + 1) (by omega) m (by omega)))
    have e3 : x - i * w = (x - (i + 1) * w) + w := by
      rw [Nat.add_mul, Nat.one_mul]
      omega
    rw [e3, dl_pm, Nat.mod_mul_mod, Nat.mul_mod, ← Nat.mul_mod]
    have := dl_back (w := g ^ (x - (i + 1) * w) % p) hbk
    rw [Nat.mod_mod] at this
    rw [Nat.mod_mul_mod] at this
    exact this
theorem xw_smallLog {post : Int32 → SX → Prop} {fo ff A B C : Int32} {bs ts ky st : Nat → Int32} {p : Nat} (g h q x : Nat) (hA : A = nI g) (hB : B = nI h) (hC : C = nI q) (H : dl_M p) (g1 : 1 ≤ g) (gp : g < p) (o : dl_Ord p g q) (qm : q ≤ 2039) (q2 : 2 ≤ q) (xq : x < q) (hx : g ^ x % p = h) (hp : ∀ ky st, post (nI x) (nI p, fo, ff, bs, ts, ky, st)) : wpX_smallLog post (nI p, fo, ff, bs, ts, ky, st) A B C := by
  subst hA hB hC hx
  have p3 := H.2.1
  have pm := H.2.2
  unfold wpX_smallLog
  refine xw_clearTable fun ky' hk => ?_
  refine xw_rootUp q rfl (by omega) qm fun w w1 w46 qw wq => ?_
  have wle : w ≤ q := by
    rcases Nat.lt_or_ge w 3 with l | l
    · omega
    · have := Nat.mul_le_mul_right (w - 1) (show 2 ≤ w - 1 by omega)
      omega
  refine ⟨w + 1, ?_⟩
  have e0 : g ^ 0 % p = 1 := by
    rw [Nat.pow_zero]
    exact Nat.mod_eq_of_lt (by omega)
  have W := xw_small_17 (post := post) (fo := fo) (ff := ff) (hh := nI (g ^ x % p)) (bs := bs) (ts := ts) (by omega) pm g1 gp o w46 wle (fun ky2 st2 hT => ?_) w 0 (by omega) ky' st (dl_tb_0 hk) (w + 1) (by omega)
  · rw [e0] at W
    exact W
  · obtain ⟨u1, up⟩ := dl_ord_unit (by omega) o w
    refine xw_invert (g ^ w % p) _ rfl rfl (by omega) pm up ?_
    have hb := dl_inv H u1 up
    have bp : (g ^ w % p) ^ (p - 2) % p < p := Nat.mod_lt _ (by omega)
    have V := xw_small_89 (post := post) (fo := fo) (ff := ff) (bs := bs) (ts := ts) (by omega) pm o w1 w46 wle qw qm xq hT bp hb (hp ky2 st2) (x / w) 0 (by omega) (x / w + 1) (by omega)
    rw [Nat.zero_mul, Nat.sub_zero] at V
    exact ⟨_, V⟩
theorem dl_undo {p g bk a b : Nat} (p2 : 2 ≤ p) (e : g * bk % p = 1) : g ^ (a + b) % p * (bk ^ b % p) % p = g ^ a % p := by
  rw [← Nat.mul_mod, Nat.pow_add, Nat.mul_assoc, ← Nat.mul_pow, Nat.mul_mod, Nat.pow_mod (g * bk), e, Nat.one_pow, Nat.mod_eq_of_lt p2, Nat.mul_one, Nat.mod_mod]
theorem xw_plog_54 {post : Int32 → SX → Prop} {fo ff : Int32} {bs ts : Nat → Int32} {p g q e X bk : Nat} (H : dl_M p) (g1 : 1 ≤ g) (gp : g < p) (q2 : 2 ≤ q) (e1 : 1 ≤ e) (qe : q ^ e ≤ 2039) (o : dl_Ord p g (q ^ e)) (hX : X < q ^ e) (bp : bk < p) (hbk : g * bk % p = 1) (hp : ∀ ky st, post (nI X) (nI p, fo, ff, bs, ts, ky, st)) :
    ∀ k j, j + k = e → ∀ ky st m, k < m → wX_powerLog_54 post (nI (g ^ X % p)) (nI q) (nI e) (nI (g ^ (q ^ (e - 1)) % p)) (nI bk) m (nI (X % q ^ j)) (nI (q ^ j)) (nI (q ^ (e - 1) / q ^ j)) (nI j) (nI p) fo ff bs ts ky st := by
  have p3 := H.2.1
  have pm := H.2.2
  have p2 : 2 ≤ p := by omega
  have em : e < 2039 := Nat.lt_of_lt_of_le (Nat.lt_pow_self (by omega)) qe
  have qle : q ≤ q ^ e := Nat.le_self_pow (by omega) q
  have hpe : q ^ (e - 1) * q = q ^ e := by
    rw [← Nat.pow_succ]
    exact congrArg (fun z => q ^ z) (by omega)
  have oroot : dl_Ord p (g ^ (q ^ (e - 1)) % p) q := by
    refine dl_ord_pow p2 ?_
    rw [hpe]
    exact o
  have l1 : ∀ z y : Nat, z ^ y % p < p := fun z y => Nat.mod_lt _ (by omega)
  have top : q ^ (e - 1) ≤ q ^ e := Nat.pow_le_pow_right (by omega) (by omega)
  intro k
  induction k with
  | zero =>
    intro j hj ky st m hm
    obtain ⟨m, rfl⟩ : ∃ m', m = m' + 1 := ⟨m - 1, by omega⟩
    have e2 : j = e := by omega
    subst e2
    rw [Nat.mod_eq_of_lt hX]
    exact br_t (nI_le (Nat.le_refl _) (by omega)) (hp ky st)
  | succ k ih =>
    intro j hj ky st m hm
    obtain ⟨m, rfl⟩ : ∃ m', m = m' + 1 := ⟨m - 1, by omega⟩
    have qj0 : 0 < q ^ j := Nat.pow_pos (by omega)
    have qj : q ^ j ≤ q ^ e := Nat.pow_le_pow_right (by omega) (by omega)
    have xl : X % q ^ j ≤ X := Nat.mod_le _ _
    have dv := Nat.div_le_self (q ^ (e - 1)) (q ^ j)
    have xdm := Nat.div_add_mod X (q ^ j)
    have eh : q ^ j * (q ^ (e - 1) / q ^ j) = q ^ (e - 1) := Nat.mul_div_cancel' (Nat.pow_dvd_pow q (by omega))
    refine br_f (nI_ge (by omega) (by omega)) ?_
    refine xw_pow bk (X % q ^ j) _ rfl rfl rfl p2 pm bp (by omega) ?_
    have ea : g ^ X % p * (bk ^ (X % q ^ j) % p) % p = g ^ (q ^ j * (X / q ^ j)) % p := by
      have := dl_undo (a := q ^ j * (X / q ^ j)) (b := X % q ^ j) p2 hbk
      rw [xdm] at this
      exact this
    refine xw_mul (g ^ X % p) (bk ^ (X % q ^ j) % p) _ rfl rfl ea (by omega) pm (l1 _ _) (l1 _ _) ?_
    have eb : (g ^ (q ^ j * (X / q ^ j)) % p) ^ (q ^ (e - 1) / q ^ j) % p = (g ^ (q ^ (e - 1)) % p) ^ (X / q ^ j % q) % p := by
      rw [← dl_red p2 oroot.2.1, dl_pp, dl_pp, Nat.mul_right_comm, eh]
    refine xw_pow _ (q ^ (e - 1) / q ^ j) _ rfl rfl eb p2 pm (l1 _ _) (by omega) ?_
    have dg : X / q ^ j % q < q := Nat.mod_lt _ (by omega)
    have ou := dl_ord_unit p2 o (q ^ (e - 1))
    refine xw_smallLog _ _ q (X / q ^ j % q) rfl rfl rfl H ou.1 ou.2 oroot (by omega) q2 dg rfl fun ky2 st2 => ?_
    refine nm_r (e' := nI (X % q ^ (j + 1))) ?_ (nm_r (e' := nI (q ^ (j + 1))) ?_ ?_)
    · rw [pk_mul, nI_add, Nat.mod_pow_succ, Nat.mul_comm (q ^ j)]
    · rw [pk_mul, Nat.pow_succ]
    · refine br_f (nI_nle (by omega) (by omega)) ⟨nI_ne0 (by omega) (by omega), nm_r (e' := nI (q ^ (e - 1) / q ^ (j + 1))) ?_ (nm_r (nI_1 j) (ih (j + 1) (by omega) ky2 st2 m (by omega)))⟩
      rw [pk_div (by omega) (by omega) (by omega), Nat.div_div_eq_div_mul, Nat.pow_succ]
theorem xw_plog_6 {post : Int32 → SX → Prop} {P fo ff G h : Int32} {bs ts ky st : Nat → Int32} {q e : Nat} (em : e < 2 ^ 30) (hK : wpX_pow (fun r => wpX_invert (fun r' => ∃ n : Nat, wX_powerLog_54 post h (nI q) (nI e) r r' n 0 1 (nI (q ^ (e - 1))) 0 P fo ff bs ts ky st) (P, fo, ff, bs, ts, ky, st) G) (P, fo, ff, bs, ts, ky, st) G (nI (q ^ (e - 1)))) :
    ∀ k i, 1 ≤ i → i + k = e → ∀ m, k < m → wX_powerLog_6 post G h (nI q) (nI e) P fo ff bs ts ky st m (nI (q ^ (i - 1))) (nI i) := by
  intro k
  induction k with
  | zero =>
    intro i i1 hi m hm
    obtain ⟨m, rfl⟩ : ∃ m', m = m' + 1 := ⟨m - 1, by omega⟩
    have e2 : i = e := by omega
    subst e2
    exact br_t (nI_le (Nat.le_refl _) (by omega)) hK
  | succ k ih =>
    intro i i1 hi m hm
    obtain ⟨m, rfl⟩ : ∃ m', m = m' + 1 := ⟨m - 1, by omega⟩
    refine br_f (nI_ge (by omega) (by omega)) (nm_r (e' := nI (q ^ (i + 1 - 1))) ?_ (nm_r (nI_1 i) (ih (i + 1) (by omega) (by omega) m (by omega))))
    rw [pk_mul, ← Nat.pow_succ]
    exact congrArg (fun z => nI (q ^ z)) (by omega)
theorem xw_powerLog {post : Int32 → SX → Prop} {fo ff A B C D : Int32} {bs ts ky st : Nat → Int32} {p : Nat} (g h q e X : Nat) (hA : A = nI g) (hB : B = nI h) (hC : C = nI q) (hD : D = nI e) (H : dl_M p) (g1 : 1 ≤ g) (gp : g < p) (q2 : 2 ≤ q) (e1 : 1 ≤ e) (qe : q ^ e ≤ 2039) (o : dl_Ord p g (q ^ e)) (hX : X < q ^ e) (hx : g ^ X % p = h) (hp : ∀ ky st, post (nI X) (nI p, fo, ff, bs, ts, ky, st)) : wpX_powerLog post (nI p, fo, ff, bs, ts, ky, st) A B C D := by
  subst hA hB hC hD hx
  have p3 := H.2.1
  have pm := H.2.2
  have em : e < 2039 := Nat.lt_of_lt_of_le (Nat.lt_pow_self (by omega)) qe
  have top : q ^ (e - 1) ≤ q ^ e := Nat.pow_le_pow_right (by omega) (by omega)
  refine ⟨e, ?_⟩
  have W := xw_plog_6 (post := post) (P := nI p) (fo := fo) (ff := ff) (G := nI g) (h := nI (g ^ X % p)) (bs := bs) (ts := ts) (ky := ky) (st := st) (q := q) (e := e) (by omega) ?_ (e - 1) 1 (by omega) (by omega) e (by omega)
  · exact W
  · refine xw_pow g (q ^ (e - 1)) _ rfl rfl rfl (by omega) pm gp (by omega) ?_
    refine xw_invert g _ rfl rfl (by omega) pm gp ?_
    have V := xw_plog_54 (post := post) (fo := fo) (ff := ff) (bs := bs) (ts := ts) H g1 gp q2 e1 qe o hX (show g ^ (p - 2) % p < p from Nat.mod_lt _ (by omega)) (dl_inv H g1 gp) hp e 0 (by omega) ky st (e + 1) (by omega)
    rw [Nat.pow_zero, Nat.mod_one, Nat.div_one] at V
    exact ⟨_, V⟩
theorem xw_ndiv {w s : Nat} (hw : w < 2 ^ 30) (s1 : 1 ≤ s) (hs : s < 2 ^ 30) : (-nI w) / nI s = -nI (w / s) := by
  have d : w / s ≤ w := Nat.div_le_self _ _
  have t : ∀ z, z < 2 ^ 30 → (-nI z).toInt = -(z : Int) := by
    intro z hz
    rw [Int32.toInt_neg, nI_toInt (by omega)]
    exact Int.bmod_eq_of_le (by omega) (by omega)
  apply Int32.toInt_inj.mp
  rw [Int32.toInt_div, t w hw, nI_toInt (by omega), t (w / s) (by omega), Int.neg_tdiv, Int.tdiv_eq_ediv_of_nonneg (by omega), ← Int.natCast_ediv]
  generalize w / s = v at d
  exact Int.bmod_eq_of_le (by omega) (by omega)
theorem xw_gap {W : Int32 → Prop} {x y s : Nat} (xm : x < 2 ^ 30) (ym : y < 2 ^ 30) (s1 : 1 ≤ s) (sm : s < 2 ^ 30) (h : ∀ gp, gp < s → (x + gp) % s = y % s → W (nI gp)) : ∀ z, z = (nI y - nI x) - (nI y - nI x) / nI s * nI s → ((0 ≤ z → W z) ∧ (¬ 0 ≤ z → ∀ z', z' = z + nI s → W z')) := by
  intro z ez
  rcases Nat.le_total x y with l | l
  · rw [pk_sub l, pk_rem (by omega) s1 (by omega)] at ez
    subst ez
    have lt := Nat.mod_lt (y - x) s1
    refine br_t (nI_pos' (by omega)) (h _ lt ?_)
    rw [Nat.add_mod, Nat.mod_mod, ← Nat.add_mod]
    exact congrArg (fun w => w % s) (by omega)
  · have e1 : nI y - nI x = -nI (x - y) := by
      rw [← pk_sub l]
      grind
    have lt := Nat.mod_lt (x - y) s1
    have dm := Nat.div_add_mod (x - y) s
    have e2 : z = -nI ((x - y) % s) := by
      rw [ez, e1, xw_ndiv (by omega) s1 sm, ← pk_rem (a := x - y) (by omega) s1 (by omega), pk_div (by omega) s1 (by omega)]
      grind
    have xe : x = y + s * ((x - y) / s) + (x - y) % s := by omega
    rcases Nat.eq_zero_or_pos ((x - y) % s) with w | w
    · have e3 : z = nI 0 := by
        rw [e2, w]
        decide
      refine br_t ?_ ?_
      · rw [e3]
        decide
      · rw [e3]
        refine h 0 s1 ?_
        rw [w, Nat.add_zero] at xe
        rw [Nat.add_zero, xe, Nat.add_mul_mod_self_left]
    · have hz : ¬ 0 ≤ z := by
        rw [e2, Int32.le_iff_toInt_le, Int32.toInt_neg, nI_toInt (by omega), Int.bmod_eq_of_le (by omega) (by omega)]
        show ¬ (0 : Int) ≤ _
        omega
      refine br_f hz (nm_r (e' := nI (s - (x - y) % s)) ?_ (h _ (by omega) ?_))
      · rw [e2, ← pk_sub (Nat.le_of_lt lt)]
        grind
      · have e4 : x + (s - (x - y) % s) = y + s * ((x - y) / s + 1) := by
          rw [Nat.mul_add, Nat.mul_one]
          omega
        rw [e4, Nat.add_mul_mod_self_left]
theorem xw_join {post : Int32 → Prop} {P fo ff A B C D : Int32} {bs ts ky st : Nat → Int32} (X m s : Nat) (hA : A = nI (X % m)) (hB : B = nI m) (hC : C = nI (X % s)) (hD : D = nI s) (m1 : 1 ≤ m) (mm : m < 2 ^ 28) (s1 : 1 ≤ s) (sm : s < 2 ^ 28) (c : Nat.Coprime m s) (h : post (nI (X % (m * s)))) : wpX_join post (P, fo, ff, bs, ts, ky, st) A B C D := by
  subst hA hB hC hD
  have xm := Nat.mod_lt X m1
  have xs := Nat.mod_lt X s1
  unfold wpX_join
  refine xw_invertBy m s rfl rfl (by omega) s1 sm c fun inv i1 i2 => ⟨nI_ne0 s1 (by omega), ?_⟩
  refine xw_gap (W := fun z => wX_join_29 post (nI (X % m)) (nI m) (nI s) (nI inv) z P fo ff bs ts ky st) (by omega) (by omega) s1 (by omega) fun gp g1 g2 => ?_
  refine xw_timesBy gp inv s rfl rfl rfl (by omega) (by omega) s1 (by omega) ?_
  rw [Nat.mod_mod] at g2
  rw [pk_mul, nI_add, dl_join m1 s1 c i2 g2]
  exact h
end
section
theorem xw_ll_59 {post : Int32 → SX → Prop} {J : Int32 → Int32 → Int32 → Int32 → Int32 → Int32 → (Nat → Int32) → (Nat → Int32) → (Nat → Int32) → (Nat → Int32) → Prop} {P fo ff G h x5 x6 x7 : Int32} {bs ts ky st : Nat → Int32} {k q : Nat} (k1 : 1 ≤ k) (km : k ≤ 2038) (q2 : 2 ≤ q) (qm : q ≤ 2039) (hE : ∀ v, q ^ v ∣ k → ¬ q ^ (v + 1) ∣ k → wX_leastLog_92 post J G h (nI k) x5 x6 x7 (nI q) (nI v) (nI (q ^ v)) P fo ff bs ts ky st) :
    ∀ j i, i + j = 12 → q ^ i ∣ k → ∀ m, j < m → wX_leastLog_59 post J G h (nI k) x5 x6 x7 (nI q) P fo ff bs ts ky st m (nI i) (nI (q ^ i)) (nI i) := by
  intro j
  induction j with
  | zero =>
    intro i hi hd m hm
    exfalso
    have e1 : i = 12 := by omega
    subst e1
    have a : 2 ^ 12 ≤ q ^ 12 := Nat.pow_le_pow_left q2 12
    have b := Nat.le_of_dvd k1 hd
    omega
  | succ j ih =>
    intro i hi hd m hm
    obtain ⟨m, rfl⟩ : ∃ m', m = m' + 1 := ⟨m - 1, by omega⟩
    have qi0 : 0 < q ^ i := Nat.pow_pos (by omega)
    have qi := Nat.le_of_dvd k1 hd
    have b1 : q ^ i * q ≤ 2038 * 2039 := Nat.mul_le_mul (by omega) qm
    have b0 : 0 < q ^ i * q := Nat.mul_pos qi0 (by omega)
    refine br_f (nI_ge (b := 12) (by omega) (by decide)) ⟨?_, ?_⟩
    · rw [pk_mul]
      exact nI_ne0 b0 (by omega)
    · refine pk_eq (k % (q ^ i * q)) 0 (fun z => ?_) (fun z => ?_) (by rw [pk_mul]; exact pk_rem (by omega) b0 (by omega)) rfl (Nat.lt_of_le_of_lt (Nat.mod_le _ _) (by omega))
      · refine nm_r (e' := nI (q ^ (i + 1))) ?_ (nm_r (nI_1 i) (nm_r (nI_1 i) (ih (i + 1) (by omega) ?_ m (by omega))))
        · rw [pk_mul, Nat.pow_succ]
        · rw [Nat.pow_succ]
          exact Nat.dvd_of_mod_eq_zero z
      · refine hE i hd fun w => z ?_
        rw [Nat.pow_succ] at w
        exact Nat.mod_eq_zero_of_dvd w
theorem xw_ll_92 {post : Int32 → SX → Prop} {J : Int32 → Int32 → Int32 → Int32 → Int32 → Int32 → (Nat → Int32) → (Nat → Int32) → (Nat → Int32) → (Nat → Int32) → Prop} {fo ff : Int32} {bs ts ky st : Nat → Int32} {p g k q v X m f : Nat} (H : dl_M p) (g1 : 1 ≤ g) (gp : g < p) (o : dl_Ord p g k) (kp : k ≤ p - 1) (q2 : 2 ≤ q) (qm : q ≤ 2039) (hv : q ^ v ∣ k) (m1 : 1 ≤ m) (mk : m ≤ k) (cp : Nat.Coprime m (q ^ v))
    (hJ : ∀ ky st, J (nI (X % (m * q ^ v))) (nI (m * q ^ v)) (nI (f + 1)) (nI p) fo ff bs ts ky st) : wX_leastLog_92 post J (nI g) (nI (g ^ X % p)) (nI k) (nI (X % m)) (nI m) (nI f) (nI q) (nI v) (nI (q ^ v)) (nI p) fo ff bs ts ky st := by
  have p3 := H.2.1
  have pm := H.2.2
  have p2 : 2 ≤ p := by omega
  have k1 := o.1
  have s0 : 0 < q ^ v := Nat.pow_pos (by omega)
  have sk := Nat.le_of_dvd k1 hv
  have vs : v < q ^ v := Nat.lt_pow_self (by omega)
  rcases Nat.eq_zero_or_pos v with z | z
  · subst z
    have h0 := hJ ky st
    rw [Nat.pow_zero, Nat.mul_one] at h0
    exact br_t (by decide) (nm_r (nI_1 f) h0)
  · have l1 : ∀ z y : Nat, z ^ y % p < p := fun z y => Nat.mod_lt _ (by omega)
    have kd : k / q ^ v ≤ k := Nat.div_le_self _ _
    have ek : k / q ^ v * q ^ v = k := Nat.div_mul_cancel hv
    have og : dl_Ord p (g ^ (k / q ^ v) % p) (q ^ v) := by
      refine dl_ord_pow p2 ?_
      rw [ek]
      exact o
    have ou := dl_ord_unit p2 o (k / q ^ v)
    refine br_f (nI_nle z (by omega)) ⟨nI_ne0 s0 (by omega), ?_⟩
    refine xw_pow g (k / q ^ v) _ rfl (pk_div (by omega) s0 (by omega)) rfl p2 pm gp (by omega) ⟨nI_ne0 s0 (by omega), ?_⟩
    have eh : (g ^ X % p) ^ (k / q ^ v) % p = (g ^ (k / q ^ v) % p) ^ (X % q ^ v) % p := by
      rw [← dl_red p2 og.2.1, dl_pp, dl_pp, Nat.mul_comm]
    refine xw_pow (g ^ X % p) (k / q ^ v) _ rfl (pk_div (by omega) s0 (by omega)) eh p2 pm (l1 _ _) (by omega) ?_
    refine xw_powerLog _ _ q v (X % q ^ v) rfl rfl rfl rfl H ou.1 ou.2 q2 z (by omega) og (Nat.mod_lt _ s0) rfl fun ky2 st2 => ?_
    refine xw_join X m (q ^ v) rfl rfl rfl rfl m1 (by omega) s0 (by omega) cp ?_
    exact nm_r (pk_mul m (q ^ v)) (nm_r (nI_1 f) (hJ ky2 st2))
theorem xw_ll_32 {post : Int32 → SX → Prop} {bs ts : Nat → Int32} {p g k X F : Nat} {q e R : Nat → Nat} (H : dl_M p) (hF : dl_Fac (p - 1) F q e R) (hb : ∀ f, f < F → bs f = nI (q f) ∧ ts f = nI (e f)) (g1 : 1 ≤ g) (gp : g < p) (o : dl_Ord p g k) (kp : k ≤ p - 1) (hX : X < k) (hp : ∀ ky st, post (nI X) (nI p, nI (p - 1), nI F, bs, ts, ky, st)) :
    ∀ j f, f + j = F → ∀ m c ky st, k = m * c → c ∣ R f → (∀ i, f ≤ i → i < F → ¬ q i ∣ m) → ∀ mm, j < mm → wX_leastLog_32 post (nI g) (nI (g ^ X % p)) (nI k) mm (nI (X % m)) (nI m) (nI f) (nI p) (nI (p - 1)) (nI F) bs ts ky st := by
  have p3 := H.2.1
  have pm := H.2.2
  have k1 := o.1
  have F5 := hF.1
  intro j
  induction j with
  | zero =>
    intro f hf m c ky st hk hc hn mm hm
    obtain ⟨mm, rfl⟩ : ∃ m', mm = m' + 1 := ⟨mm - 1, by omega⟩
    have e1 : f = F := by omega
    subst e1
    rw [hF.2.2.1] at hc
    have c1 := Nat.eq_one_of_dvd_one hc
    rw [c1, Nat.mul_one] at hk
    rw [← hk, Nat.mod_eq_of_lt hX]
    exact br_t (nI_le (Nat.le_refl _) (by omega)) (hp ky st)
  | succ j ih =>
    intro f hf m c ky st hk hc hn mm hm
    obtain ⟨mm, rfl⟩ : ∃ m', mm = m' + 1 := ⟨mm - 1, by omega⟩
    obtain ⟨hq, he, hR⟩ := hF.2.2.2.1 f (by omega)
    obtain ⟨q2, qn, en⟩ := dl_fac_ql hF (by omega) (show f < F by omega)
    have m1 : 1 ≤ m := Nat.pos_of_ne_zero fun z => by rw [z, Nat.zero_mul] at hk; omega
    have mk : m ≤ k := Nat.le_of_dvd k1 ⟨c, hk⟩
    have nd := hn f (Nat.le_refl _) (by omega)
    refine br_f (nI_ge (by omega) (by omega)) ⟨pk_in f 5 (by omega), ?_⟩
    refine nm_r (e' := nI (q f)) (by rw [nI_clamp (by omega)]; exact (hb f (by omega)).1) ⟨13, ?_⟩
    refine xw_ll_59 k1 (by omega) q2 (by omega) (fun v v1 v2 => ?_) 12 0 rfl (by rw [Nat.pow_zero]; exact Nat.one_dvd k) 13 (by decide)
    have cq : Nat.Coprime (q f ^ v) m := (dl_cop hq nd).pow_left v
    refine xw_ll_92 H g1 gp o kp q2 (by omega) v1 m1 mk cq.symm fun ky2 st2 => ?_
    have d1 : q f ^ v ∣ c := by
      rw [hk] at v1
      exact cq.dvd_of_dvd_mul_left v1
    obtain ⟨c', hc'⟩ := d1
    have nc : ¬ q f ∣ c' := by
      rintro ⟨w, hw⟩
      apply v2
      refine ⟨m * w, ?_⟩
      rw [hk, hc', hw, Nat.pow_succ]
      grind
    refine ih (f + 1) (by omega) (m * q f ^ v) c' ky2 st2 ?_ ?_ ?_ mm (by omega)
    · rw [hk, hc', Nat.mul_assoc]
    · have d2 : c' ∣ q f ^ e f * R (f + 1) := by
        rw [← hR]
        refine Nat.dvd_trans ?_ hc
        rw [hc']
        exact Nat.dvd_mul_left _ _
      exact (((dl_cop hq nc).pow_left (e f)).symm).dvd_of_dvd_mul_left d2
    · intro i fi iF hd
      have hqi := (hF.2.2.2.1 i iF).1
      rcases dl_euc hqi hd with y | y
      · exact hn i (by omega) iF y
      · have := hF.2.2.2.2 i f iF (by omega) (dl_pr_eq hqi hq (dl_euc_pow hqi v y))
        omega
theorem xw_leastLog {post : Int32 → SX → Prop} {A B : Int32} {bs ts ky st : Nat → Int32} {p F : Nat} {q e R : Nat → Nat} (g h k : Nat) (hA : A = nI g) (hB : B = nI h) (H : dl_M p) (hF : dl_Fac (p - 1) F q e R) (hb : ∀ f, f < F → bs f = nI (q f) ∧ ts f = nI (e f)) (g1 : 1 ≤ g) (gp : g < p) (h1 : 1 ≤ h) (hp : h < p) (o : dl_Ord p g k) (hs : ∀ X ky st, X < k → g ^ X % p = h → post (nI X) (nI p, nI (p - 1), nI F, bs, ts, ky, st)) (hn : (∀ x, g ^ x % p ≠ h) → post (-4) (nI p, nI (p - 1), nI F, bs, ts, ky, st)) : wpX_leastLog post (nI p, nI (p - 1), nI F, bs, ts, ky, st) A B := by
  subst hA hB
  have p3 := H.2.1
  have pm := H.2.2
  have p2 : 2 ≤ p := by omega
  have kd := (dl_dvd p2 o (p - 1)).mp (dl_fermat H g1 gp)
  have kp := Nat.le_of_dvd (by omega) kd
  unfold wpX_leastLog
  refine xw_orderOf g k rfl H hF hb g1 gp o ?_
  refine xw_pow h k _ rfl rfl rfl p2 pm hp (by omega) ?_
  have l1 : h ^ k % p < p := Nat.mod_lt _ (by omega)
  refine pk_eq (h ^ k % p) 1 (fun z => ?_) (fun z => hn fun x ex => ?_)
  · obtain ⟨X, X1, X2⟩ := dl_cyc H g1 gp h1 hp o z
    subst X2
    refine ⟨F + 1, ?_⟩
    have W := xw_ll_32 (post := post) H hF hb g1 gp o kp X1 (fun ky st => hs X ky st X1 rfl) F 0 (by omega) 1 k ky st (by omega) (by rw [hF.2.1]; exact kd) (fun i _ iF hd => by
      have := (hF.2.2.2.1 i iF).1.1
      have := Nat.le_of_dvd (by decide) hd
      omega) (F + 1) (by omega)
    rw [Nat.mod_one] at W
    exact W
  · apply z
    rw [← ex, dl_pp, Nat.mul_comm]
    exact dl_p1 p2 o.2.1 x
end
section
theorem yw_prime_2 {post : Int32 → Prop} {P : Int32} {mk : Nat → Int32} {n : Nat} (n3 : 3 ≤ n) (nm : n ≤ 2039) (h1 : dl_Pr n → post 1) (h0 : ¬ dl_Pr n → post 0) : ∀ k d, d + k = n → 2 ≤ d → (∀ c, 2 ≤ c → c < d → n % c ≠ 0) → ∀ m, k < m → wY_isPrime_2 post (nI n) P mk m (nI d) := by
  intro k
  induction k with
  | zero =>
    intro d hd d2 hc m hm
    obtain ⟨m, rfl⟩ : ∃ m', m = m' + 1 := ⟨m - 1, by omega⟩
    refine br_t (nI_le (by omega) (by omega)) (br_f (nI_nlt (b := 3) n3 (by omega)) (h1 ?_))
    exact dl_pr_of (by omega) fun c c2 cn => hc c c2 (by omega)
  | succ k ih =>
    intro d hd d2 hc m hm
    obtain ⟨m, rfl⟩ : ∃ m', m = m' + 1 := ⟨m - 1, by omega⟩
    refine br_f (nI_ge (by omega) (by omega)) ⟨nI_ne0 (by omega) (by omega), ?_⟩
    refine pk_eq (n % d) 0 (fun z => h0 fun hp => dl_pr_nd hp d2 (by omega) z) (fun z => nm_r (nI_1 d) (ih (d + 1) (by omega) (by omega) ?_ m (by omega))) (pk_rem (by omega) (by omega) (by omega)) rfl (Nat.lt_of_le_of_lt (Nat.mod_le _ _) (by omega))
    intro c c2 cd
    rcases Nat.lt_or_ge c d with y | y
    · exact hc c c2 y
    · rw [show c = d by omega]
      exact z
theorem yw_isPrime {post : Int32 → Prop} {P A : Int32} {mk : Nat → Int32} (n : Nat) (hA : A = nI n) (n3 : 3 ≤ n) (nm : n ≤ 2039) (h1 : dl_Pr n → post 1) (h0 : ¬ dl_Pr n → post 0) : wpY_isPrime post (P, mk) A := by
  subst hA
  exact ⟨n, yw_prime_2 n3 nm h1 h0 (n - 2) 2 (by omega) (by decide) (fun c a b => by omega) n (by omega)⟩
theorem yw_isUnit {post : Int32 → Prop} {A : Int32} {mk : Nat → Int32} {p : Nat} (pm : p ≤ 2039) (h0 : (∀ g : Nat, A = nI g → ¬ (1 ≤ g ∧ g < p)) → post 0) (h1 : ∀ g : Nat, A = nI g → 1 ≤ g → g < p → post 1) : wpY_isUnit post (nI p, mk) A := by
  by_cases c : A < 1
  · refine br_t c (h0 fun g e hg => ?_)
    rw [e] at c
    exact nI_nlt (a := g) (b := 1) hg.1 (by omega) c
  · have c0 : ¬ A < 0 := fun z => c (Int32.lt_trans z (by decide))
    obtain ⟨g, hg, rfl⟩ := nI_of c0
    have g1 : 1 ≤ g := by
      rcases Nat.eq_zero_or_pos g with z | z
      · rw [z] at c
        exact absurd (show (nI 0 : Int32) < 1 by decide) c
      · exact z
    refine br_f c ?_
    refine pk_le p g (fun l => h0 fun j e hj => ?_) (fun l => h1 g rfl g1 l)
    have := (nI_eq hg (by omega)).mp e
    omega
theorem yw_unit {post : Int32 → Prop} {A : Int32} {mk : Nat → Int32} {p : Nat} (pm : p ≤ 2039) (g : Nat) (hA : A = nI g) (g1 : 1 ≤ g) (gp : g < p) (h : post 1) : wpY_isUnit post (nI p, mk) A :=
  yw_isUnit pm (fun no => absurd ⟨g1, gp⟩ (no g hA)) (fun _ _ _ _ => h)
theorem yw_nunit {post : Int32 → Prop} {A : Int32} {mk : Nat → Int32} {p : Nat} (pm : p ≤ 2039) (no : ∀ g : Nat, A = nI g → ¬ (1 ≤ g ∧ g < p)) (h : post 0) : wpY_isUnit post (nI p, mk) A :=
  yw_isUnit pm (fun _ => h) (fun g e g1 gp => absurd ⟨g1, gp⟩ (no g e))
theorem yw_raised_6 {post : Int32 → Prop} {mk : Nat → Int32} {p g x : Nat} (p2 : 2 ≤ p) (pm : p ≤ 2039) (gp : g < p) (hx : x < 2 ^ 31) (h : post (nI (g ^ x % p))) : ∀ k, k ≤ 20 → ∀ m, k < m → wY_raised_6 post (nI g) (nI x) (nI p) mk m (nI (g ^ (x / 2 ^ k) % p)) (nI k + (-1)) := by
  intro k
  induction k with
  | zero =>
    intro _ m hm
    obtain ⟨m, rfl⟩ : ∃ m', m = m' + 1 := ⟨m - 1, by omega⟩
    rw [Nat.pow_zero, Nat.div_one]
    exact br_t (by decide) h
  | succ k ih =>
    intro hk m hm
    obtain ⟨m, rfl⟩ : ∃ m', m = m' + 1 := ⟨m - 1, by omega⟩
    have l1 : ∀ z, g ^ z % p < p := fun z => Nat.mod_lt _ (by omega)
    have ih' := ih (by omega) m (by omega)
    have e1 : x / 2 ^ k = 2 * (x / 2 ^ (k + 1)) + x / 2 ^ k % 2 := by
      rw [Nat.pow_succ, ← Nat.div_div_eq_div_mul]
      omega
    rw [pk_m1]
    refine br_f (nI_pos (by omega)) ⟨nI_ne0 (by omega) (by omega), nm_r (e' := nI (g ^ (2 * (x / 2 ^ (k + 1))) % p)) ?_ ?_⟩
    · rw [pk_mul, pk_rem (xw_mb (l1 _) (l1 _) pm) (by omega) (by omega), ← dl_pm, Nat.two_mul]
    · rw [xw_bit hx (by omega)]
      refine pk_eq (x / 2 ^ k % 2) 1 (fun z => ?_) (fun z => ?_)
      · refine ⟨nI_ne0 (by omega) (by omega), nm_r (e' := nI (g ^ (x / 2 ^ k) % p)) ?_ (nm_e ih')⟩
        rw [pk_mul, pk_rem (xw_mb (l1 _) gp pm) (by omega) (by omega), Nat.mod_mul_mod, ← Nat.pow_succ, e1, z]
      · rw [show x / 2 ^ k % 2 = 0 by omega, Nat.add_zero] at e1
        rw [← e1]
        exact nm_e ih'
theorem yw_raised {post : Int32 → Prop} {A B : Int32} {mk : Nat → Int32} {p : Nat} (g x : Nat) (hA : A = nI g) (hB : B = nI x) (p2 : 2 ≤ p) (pm : p ≤ 2039) (gp : g < p) (hx : x < 2 ^ 20) (h : post (nI (g ^ x % p))) : wpY_raised post (nI p, mk) A B := by
  subst hA hB
  have w := yw_raised_6 (mk := mk) p2 pm gp (by omega) h 20 (by decide) 21 (by decide)
  rw [Nat.div_eq_of_lt hx, Nat.pow_zero, Nat.mod_eq_of_lt p2] at w
  exact ⟨21, w⟩
theorem yw_inverse_14 {post : Int32 → Prop} {mk : Nat → Int32} {p g w : Nat} (pm : p ≤ 2039) (gp : g < p) (wp : w < p) (ew : g * w % p = 1) (h : post (nI w)) : ∀ k y, y + k = p → ∀ fn, (fn = nI w ∨ y ≤ w) → ∀ m, k < m → wY_inverse_14 post (nI g) (nI p) mk m fn (nI y) := by
  intro k
  induction k with
  | zero =>
    intro y hy fn hf m hm
    obtain ⟨m, rfl⟩ : ∃ m', m = m' + 1 := ⟨m - 1, by omega⟩
    have e : fn = nI w := by
      rcases hf with z | z
      · exact z
      · omega
    rw [e]
    exact br_t (nI_le (by omega) (by omega)) h
  | succ k ih =>
    intro y hy fn hf m hm
    obtain ⟨m, rfl⟩ : ∃ m', m = m' + 1 := ⟨m - 1, by omega⟩
    refine br_f (nI_ge (by omega) (by omega)) ⟨nI_ne0 (by omega) (by omega), ?_⟩
    refine pk_eq (g * y % p) 1 (fun z => ?_) (fun z => ?_) (by rw [pk_mul]; exact pk_rem (xw_mb gp (by omega) pm) (by omega) (by omega)) rfl (Nat.lt_of_lt_of_le (Nat.mod_lt _ (by omega)) (by omega))
    · have e := dl_inv_un (show y < p by omega) wp z ew
      exact nm_r (nI_1 y) (ih (y + 1) (by omega) _ (Or.inl (by rw [e])) m (by omega))
    · refine nm_r (nI_1 y) (ih (y + 1) (by omega) _ ?_ m (by omega))
      rcases hf with q | q
      · exact Or.inl q
      · refine Or.inr ?_
        rcases Nat.lt_or_ge y w with l | l
        · exact l
        · have : y = w := by omega
          rw [this] at z
          exact absurd ew z
theorem yw_orderOf_4 {post : Int32 → Prop} {mk : Nat → Int32} {p g k : Nat} (p2 : 2 ≤ p) (pm : p ≤ 2039) (gp : g < p) (o : dl_Ord p g k) (kp : k ≤ p - 1) (h : post (nI k)) : ∀ j x, x + j = k → 1 ≤ x → ∀ m, j < m → wY_orderOf_4 post (nI g) (nI p) mk m (nI x) (nI (g ^ x % p)) := by
  intro j
  induction j with
  | zero =>
    intro x hx x1 m hm
    obtain ⟨m, rfl⟩ : ∃ m', m = m' + 1 := ⟨m - 1, by omega⟩
    have e : x = k := by omega
    subst e
    refine br_f (nI_ge (by omega) (by omega)) (br_t ?_ h)
    rw [o.2.1]
    rfl
  | succ j ih =>
    intro x hx x1 m hm
    obtain ⟨m, rfl⟩ : ∃ m', m = m' + 1 := ⟨m - 1, by omega⟩
    have l1 : g ^ x % p < p := Nat.mod_lt _ (by omega)
    refine br_f (nI_ge (by omega) (by omega)) ?_
    refine pk_eq (g ^ x % p) 1 (fun z => absurd z (o.2.2 x x1 (by omega))) (fun z => ⟨nI_ne0 (by omega) (by omega), nm_r (e' := nI (g ^ (x + 1) % p)) ?_ (nm_r (nI_1 x) (ih (x + 1) (by omega) (by omega) m (by omega)))⟩)
    rw [pk_mul, pk_rem (xw_mb l1 gp pm) (by omega) (by omega), Nat.mod_mul_mod, ← Nat.pow_succ]
theorem yw_orderOf {post : Int32 → Prop} {A : Int32} {mk : Nat → Int32} {p : Nat} (g k : Nat) (hA : A = nI g) (H : dl_M p) (g1 : 1 ≤ g) (gp : g < p) (o : dl_Ord p g k) (h : post (nI k)) : wpY_orderOf post (nI p, mk) A := by
  subst hA
  have p3 := H.2.1
  have kp := Nat.le_of_dvd (show 0 < p - 1 by omega) ((dl_dvd (by omega) o (p - 1)).mp (dl_fermat H g1 gp))
  have w := yw_orderOf_4 (mk := mk) (by omega) H.2.2 gp o kp h (k - 1) 1 (by have := o.1; omega) (by decide) k (by have := o.1; omega)
  rw [Nat.pow_one, Nat.mod_eq_of_lt gp] at w
  exact ⟨k, w⟩
theorem yw_uoo_9 {post : Int32 → Prop} {mk : Nat → Int32} {p d : Nat} (H : dl_M p) (dm : d < 2 ^ 31) (hs : ∀ u, 1 ≤ u → u < p → dl_o p u = d → (∀ w, 1 ≤ w → w < u → dl_o p w ≠ d) → post (nI u)) (hn : (∀ u, 1 ≤ u → u < p → dl_o p u ≠ d) → post (-4)) :
    ∀ k u, u + k = p → 1 ≤ u → (∀ w, 1 ≤ w → w < u → dl_o p w ≠ d) → ∀ m, k < m → wY_unitOfOrder_9 post (nI d) (nI p) mk m (nI u) := by
  have p3 := H.2.1
  have pm := H.2.2
  intro k
  induction k with
  | zero =>
    intro u hu u1 hw m hm
    obtain ⟨m, rfl⟩ : ∃ m', m = m' + 1 := ⟨m - 1, by omega⟩
    exact br_t (nI_le (by omega) (by omega)) (hn fun w w1 wp => hw w w1 (by omega))
  | succ k ih =>
    intro u hu u1 hw m hm
    obtain ⟨m, rfl⟩ : ∃ m', m = m' + 1 := ⟨m - 1, by omega⟩
    have ol := dl_o_le H u1 (show u < p by omega)
    refine br_f (nI_ge (by omega) (by omega)) ?_
    refine yw_orderOf u (dl_o p u) rfl H u1 (by omega) (dl_o_spec H u1 (by omega)) ?_
    refine pk_eq (dl_o p u) d (fun z => hs u u1 (by omega) z hw) (fun z => nm_r (nI_1 u) (ih (u + 1) (by omega) (by omega) ?_ m (by omega)))
    intro w w1 wu
    rcases Nat.lt_or_ge w u with y | y
    · exact hw w w1 y
    · rw [show w = u by omega]
      exact z
theorem yw_unitOfOrder {post : Int32 → Prop} {A : Int32} {mk : Nat → Int32} {p : Nat} (d : Nat) (hA : A = nI d) (d1 : 1 ≤ d) (dm : d < 2 ^ 31) (H : dl_M p) (hs : ∀ u, 1 ≤ u → u < p → dl_o p u = d → (∀ w, 1 ≤ w → w < u → dl_o p w ≠ d) → post (nI u)) (hn : (∀ u, 1 ≤ u → u < p → dl_o p u ≠ d) → post (-4)) : wpY_unitOfOrder post (nI p, mk) A := by
  subst hA
  have p3 := H.2.1
  exact br_t (nI_le (a := 1) d1 dm) ⟨p, yw_uoo_9 H dm hs hn (p - 1) 1 (by omega) (by decide) (fun w a b => by omega) p (by omega)⟩
theorem yw_uso_11 {post : Int32 → Prop} {mk : Nat → Int32} {p d : Nat} (H : dl_M p) (dm : d < 2 ^ 31) (h : post (nI (dl_cn (fun i => decide (dl_o p (i + 1) = d)) (p - 1)))) :
    ∀ k i, i + k = p - 1 → ∀ m, k < m → wY_unitsOfOrder_11 post (nI d) (nI p) mk m (nI (dl_cn (fun i => decide (dl_o p (i + 1) = d)) i)) (nI (i + 1)) := by
  have p3 := H.2.1
  have pm := H.2.2
  intro k
  induction k with
  | zero =>
    intro i hi m hm
    obtain ⟨m, rfl⟩ : ∃ m', m = m' + 1 := ⟨m - 1, by omega⟩
    have e : i = p - 1 := by omega
    subst e
    exact br_t (nI_le (by omega) (by omega)) h
  | succ k ih =>
    intro i hi m hm
    obtain ⟨m, rfl⟩ : ∃ m', m = m' + 1 := ⟨m - 1, by omega⟩
    have ol := dl_o_le H (show 1 ≤ i + 1 by omega) (show i + 1 < p by omega)
    have ih' := ih (i + 1) (by omega) m (by omega)
    rw [dl_cn_s] at ih'
    refine br_f (nI_ge (by omega) (by omega)) ?_
    refine yw_orderOf (i + 1) (dl_o p (i + 1)) rfl H (by omega) (by omega) (dl_o_spec H (by omega) (by omega)) ?_
    refine pk_eq (dl_o p (i + 1)) d (fun z => ?_) (fun z => ?_)
    · rw [if_pos (decide_eq_true z)] at ih'
      exact nm_r (nI_1 _) (nm_r (nI_1 _) ih')
    · rw [if_neg (by rw [decide_eq_false z]; decide), Nat.add_zero] at ih'
      exact nm_r (nI_1 _) ih'
theorem yw_unitsOfOrder {post : Int32 → Prop} {A : Int32} {mk : Nat → Int32} {p : Nat} (d : Nat) (hA : A = nI d) (d1 : 1 ≤ d) (dm : d < 2 ^ 31) (H : dl_M p) (h : post (nI (dl_cn (fun i => decide (dl_o p (i + 1) = d)) (p - 1)))) : wpY_unitsOfOrder post (nI p, mk) A := by
  subst hA
  have p3 := H.2.1
  exact br_t (nI_le (a := 1) d1 dm) ⟨p, yw_uso_11 H dm h (p - 1) 0 (by omega) p (by omega)⟩
theorem yw_log_23 {post : Int32 → Prop} {mk : Nat → Int32} {p g h : Nat} (p2 : 2 ≤ p) (pm : p ≤ 2039) (gp : g < p) (hp : h < p) (hs : ∀ x, x < p - 1 → g ^ x % p = h → (∀ y, y < x → g ^ y % p ≠ h) → post (nI x)) (hn : (∀ x, x < p - 1 → g ^ x % p ≠ h) → post (-4)) :
    ∀ k x, x + k = p - 1 → (∀ y, y < x → g ^ y % p ≠ h) → ∀ m, k < m → wY_log_23 post (nI g) (nI h) (nI p) mk m (nI (g ^ x % p)) (nI x) := by
  have ep : nI p - 1 = nI (p - 1) := pk_sub (b := 1) (by omega)
  intro k
  induction k with
  | zero =>
    intro x hx hy m hm
    obtain ⟨m, rfl⟩ : ∃ m', m = m' + 1 := ⟨m - 1, by omega⟩
    refine br_t ?_ (hn fun y yl => hy y (by omega))
    rw [ep]
    exact nI_le (by omega) (by omega)
  | succ k ih =>
    intro x hx hy m hm
    obtain ⟨m, rfl⟩ : ∃ m', m = m' + 1 := ⟨m - 1, by omega⟩
    have l1 : g ^ x % p < p := Nat.mod_lt _ (by omega)
    refine br_f (by rw [ep]; exact nI_ge (by omega) (by omega)) ?_
    refine pk_eq (g ^ x % p) h (fun z => hs x (by omega) z hy) (fun z => ⟨nI_ne0 (by omega) (by omega), nm_r (e' := nI (g ^ (x + 1) % p)) ?_ (nm_r (nI_1 x) (ih (x + 1) (by omega) ?_ m (by omega)))⟩)
    · rw [pk_mul, pk_rem (xw_mb l1 gp pm) (by omega) (by omega), Nat.mod_mul_mod, ← Nat.pow_succ]
    · intro y yl
      rcases Nat.lt_or_ge y x with w | w
      · exact hy y w
      · rw [show y = x by omega]
        exact z
theorem yw_root_20 {post : Int32 → Prop} {mk : Nat → Int32} {p h e : Nat} (p2 : 2 ≤ p) (pm : p ≤ 2039) (hp : h < p) (em : e < 2 ^ 20) (hs : ∀ y, 1 ≤ y → y < p → y ^ e % p = h → (∀ w, 1 ≤ w → w < y → w ^ e % p ≠ h) → post (nI y)) (hn : (∀ y, 1 ≤ y → y < p → y ^ e % p ≠ h) → post (-4)) :
    ∀ k y, y + k = p → 1 ≤ y → (∀ w, 1 ≤ w → w < y → w ^ e % p ≠ h) → ∀ m, k < m → wY_root_20 post (nI h) (nI e) (nI p) mk m (nI y) := by
  intro k
  induction k with
  | zero =>
    intro y hy y1 hw m hm
    obtain ⟨m, rfl⟩ : ∃ m', m = m' + 1 := ⟨m - 1, by omega⟩
    exact br_t (nI_le (by omega) (by omega)) (hn fun w w1 wp => hw w w1 (by omega))
  | succ k ih =>
    intro y hy y1 hw m hm
    obtain ⟨m, rfl⟩ : ∃ m', m = m' + 1 := ⟨m - 1, by omega⟩
    have l1 : y ^ e % p < p := Nat.mod_lt _ (by omega)
    refine br_f (nI_ge (by omega) (by omega)) ?_
    refine yw_raised y e rfl rfl p2 pm (by omega) em ?_
    refine pk_eq (y ^ e % p) h (fun z => hs y y1 (by omega) z hw) (fun z => nm_r (nI_1 y) (ih (y + 1) (by omega) (by omega) ?_ m (by omega)))
    intro w w1 wu
    rcases Nat.lt_or_ge w y with q | q
    · exact hw w w1 q
    · rw [show w = y by omega]
      exact z
theorem yw_roots_23 {post : Int32 → Prop} {mk : Nat → Int32} {p h e : Nat} (p2 : 2 ≤ p) (pm : p ≤ 2039) (hp : h < p) (em : e < 2 ^ 20) (hh : post (nI (dl_cn (fun i => decide ((i + 1) ^ e % p = h)) (p - 1)))) :
    ∀ k i, i + k = p - 1 → ∀ m, k < m → wY_roots_23 post (nI h) (nI e) (nI p) mk m (nI (dl_cn (fun i => decide ((i + 1) ^ e % p = h)) i)) (nI (i + 1)) := by
  intro k
  induction k with
  | zero =>
    intro i hi m hm
    obtain ⟨m, rfl⟩ : ∃ m', m = m' + 1 := ⟨m - 1, by omega⟩
    have e : i = p - 1 := by omega
    subst e
    exact br_t (nI_le (by omega) (by omega)) hh
  | succ k ih =>
    intro i hi m hm
    obtain ⟨m, rfl⟩ : ∃ m', m = m' + 1 := ⟨m - 1, by omega⟩
    have l1 : (i + 1) ^ e % p < p := Nat.mod_lt _ (by omega)
    have ih' := ih (i + 1) (by omega) m (by omega)
    rw [dl_cn_s] at ih'
    refine br_f (nI_ge (by omega) (by omega)) ?_
    refine yw_raised (i + 1) e rfl rfl p2 pm (by omega) em ?_
    refine pk_eq ((i + 1) ^ e % p) h (fun z => ?_) (fun z => ?_)
    · rw [if_pos (decide_eq_true z)] at ih'
      exact nm_r (nI_1 _) (nm_r (nI_1 _) ih')
    · rw [if_neg (by rw [decide_eq_false z]; decide), Nat.add_zero] at ih'
      exact nm_r (nI_1 _) ih'
theorem yw_isExp {post : Int32 → Prop} {P A : Int32} {mk : Nat → Int32} (h0 : (∀ k : Nat, A = nI k → ¬ (1 ≤ k ∧ k ≤ 1000000)) → post 0) (h1 : ∀ k : Nat, A = nI k → 1 ≤ k → k ≤ 1000000 → post 1) : wpY_isExponent post (P, mk) A := by
  by_cases c : A < 1
  · refine br_t c (h0 fun g e hg => ?_)
    rw [e] at c
    exact nI_nlt (a := g) (b := 1) hg.1 (by omega) c
  · have c0 : ¬ A < 0 := fun z => c (Int32.lt_trans z (by decide))
    obtain ⟨g, hg, rfl⟩ := nI_of c0
    have g1 : 1 ≤ g := by
      rcases Nat.eq_zero_or_pos g with z | z
      · rw [z] at c
        exact absurd (show (nI 0 : Int32) < 1 by decide) c
      · exact z
    refine br_f c ?_
    refine pk_lt 1000000 g (fun l => h0 fun j e hj => ?_) (fun l => h1 g rfl g1 l)
    have := (nI_eq hg (by omega)).mp e
    omega
theorem yw_logWith_47 {post : Int32 → Prop} {mk : Nat → Int32} {p g h r w : Nat} (p2 : 2 ≤ p) (pm : p ≤ 2039) (gp : g < p) (hp : h < p) (w1 : 1 ≤ w) (w60 : w ≤ 60) (rw' : r < w) (hs : ∀ x, x < (p - 1) * w → g ^ x % p = h → x % w = r → (∀ y, y < x → ¬ (g ^ y % p = h ∧ y % w = r)) → post (nI x)) (hn : (∀ x, x < (p - 1) * w → ¬ (g ^ x % p = h ∧ x % w = r)) → post (-4)) :
    ∀ k x, x + k = (p - 1) * w → (∀ y, y < x → ¬ (g ^ y % p = h ∧ y % w = r)) → ∀ m, k < m → wY_logWith_47 post (nI g) (nI h) (nI r) (nI w) (nI p) mk m (nI (g ^ x % p)) (nI x) := by
  have ep : (nI p - 1) * nI w = nI ((p - 1) * w) := by
    rw [← pk_mul, ← pk_sub (b := 1) (show 1 ≤ p by omega)]
    rfl
  have bnd : (p - 1) * w ≤ 2038 * 60 := Nat.mul_le_mul (by omega) w60
  intro k
  induction k with
  | zero =>
    intro x hx hy m hm
    obtain ⟨m, rfl⟩ : ∃ m', m = m' + 1 := ⟨m - 1, by omega⟩
    refine br_t ?_ (hn fun y yl => hy y (by omega))
    rw [ep]
    exact nI_le (by omega) (by omega)
  | succ k ih =>
    intro x hx hy m hm
    obtain ⟨m, rfl⟩ : ∃ m', m = m' + 1 := ⟨m - 1, by omega⟩
    have l1 : g ^ x % p < p := Nat.mod_lt _ (by omega)
    have step : ¬ (g ^ x % p = h ∧ x % w = r) → wY_logWith_79 post (wY_logWith_47 post (nI g) (nI h) (nI r) (nI w) (nI p) mk m) (nI g) (nI h) (nI r) (nI w) (nI (g ^ x % p)) (nI x) (nI p) mk := by
      intro z
      refine ⟨nI_ne0 (by omega) (by omega), nm_r (e' := nI (g ^ (x + 1) % p)) ?_ (nm_r (nI_1 x) (ih (x + 1) (by omega) ?_ m (by omega)))⟩
      · rw [pk_mul, pk_rem (xw_mb l1 gp pm) (by omega) (by omega), Nat.mod_mul_mod, ← Nat.pow_succ]
      · intro y yl
        rcases Nat.lt_or_ge y x with q | q
        · exact hy y q
        · rw [show y = x by omega]
          exact z
    refine br_f (by rw [ep]; exact nI_ge (by omega) (by omega)) ?_
    have mw := Nat.mod_lt x w1
    refine pk_eq (g ^ x % p) h (fun z => ⟨nI_ne0 w1 (by omega), ?_⟩) (fun z => step fun c => z c.1)
    exact pk_eq (x % w) r (fun z2 => hs x (by omega) z z2 hy) (fun z2 => step fun c => z2 c.2) (pk_rem (by omega) w1 (by omega)) rfl
theorem yw_nar1 : vp_nar .boolean 1 = 1 := rfl
theorem yw_nar0 : vp_nar .boolean 0 = 0 := rfl
theorem yw_com_94 {post : Int32 → SY → Prop} {mk : Nat → Int32} {p h b : Nat} (p2 : 2 ≤ p) (pm : p ≤ 2039) (hp : h < p) (bm : b < 2 ^ 30) (hh : post (nI (dl_cn (fun i => decide (¬ mk (h ^ (i + 1) % p) = 0)) b)) (nI p, mk)) :
    ∀ k i, i + k = b → ∀ m, k < m → wY_common_94 post (nI h) (nI b) (nI p) mk m (nI (h ^ (i + 1) % p)) (nI (dl_cn (fun i => decide (¬ mk (h ^ (i + 1) % p) = 0)) i)) (nI i) := by
  intro k
  induction k with
  | zero =>
    intro i hi m hm
    obtain ⟨m, rfl⟩ : ∃ m', m = m' + 1 := ⟨m - 1, by omega⟩
    have e : i = b := by omega
    subst e
    exact br_t (nI_le (by omega) (by omega)) hh
  | succ k ih =>
    intro i hi m hm
    obtain ⟨m, rfl⟩ : ∃ m', m = m' + 1 := ⟨m - 1, by omega⟩
    have l1 : h ^ (i + 1) % p < p := Nat.mod_lt _ (by omega)
    have ih' := ih (i + 1) (by omega) m (by omega)
    rw [dl_cn_s] at ih'
    have cl : (nI (h ^ (i + 1) % p)).toNatClampNeg = h ^ (i + 1) % p := nI_clamp (by omega)
    have vin : vp_in (nI (h ^ (i + 1) % p)) 2040 := vp_in_nI (by omega) (by decide)
    have ev : nI (h ^ (i + 1) % p) * nI h - nI (h ^ (i + 1) % p) * nI h / nI p * nI p = nI (h ^ (i + 1 + 1) % p) := by
      rw [pk_mul, pk_rem (xw_mb l1 hp pm) (by omega) (by omega), Nat.mod_mul_mod, ← Nat.pow_succ]
    refine br_f (nI_ge (by omega) (by omega)) ⟨vin, ?_⟩
    rw [cl]
    by_cases z : mk (h ^ (i + 1) % p) = 0
    · rw [if_neg (by rw [decide_eq_false (fun w => w z)]; decide), Nat.add_zero] at ih'
      exact br_t z ⟨nI_ne0 (by omega) (by omega), nm_r ev (nm_r (nI_1 i) ih')⟩
    · rw [if_pos (decide_eq_true z)] at ih'
      exact br_f z (nm_r (nI_1 _) ⟨nI_ne0 (by omega) (by omega), nm_r ev (nm_r (nI_1 i) ih')⟩)
theorem yw_com_46 {post : Int32 → SY → Prop} {p g b h : Nat} (H : dl_M p) (g1 : 1 ≤ g) (gp : g < p) (h1 : 1 ≤ h) (hp : h < p) (o : dl_Ord p h b) (hh : ∀ mk : Nat → Int32, (∀ u, u < p → (¬ mk u = 0 ↔ ∃ i, i < p - 1 ∧ g ^ i % p = u)) → post (nI (dl_cn (fun i => decide (¬ mk (h ^ (i + 1) % p) = 0)) b)) (nI p, mk)) :
    ∀ k x, x + k = p - 1 → ∀ mk : Nat → Int32, (∀ u, u < p → (¬ mk u = 0 ↔ ∃ i, i < x ∧ g ^ i % p = u)) → ∀ m, k < m → wY_common_46 post (nI g) (nI h) (nI p) m (nI (g ^ x % p)) (nI x) mk := by
  have p3 := H.2.1
  have pm := H.2.2
  have ep : nI p - 1 = nI (p - 1) := pk_sub (b := 1) (by omega)
  have bl := Nat.le_of_dvd (show 0 < p - 1 by omega) ((dl_dvd (by omega) o (p - 1)).mp (dl_fermat H h1 hp))
  intro k
  induction k with
  | zero =>
    intro x hx mk hk m hm
    obtain ⟨m, rfl⟩ : ∃ m', m = m' + 1 := ⟨m - 1, by omega⟩
    have e : x = p - 1 := by omega
    subst e
    refine br_t ?_ ?_
    · rw [ep]
      exact nI_le (by omega) (by omega)
    · refine yw_orderOf h b rfl H h1 hp o ⟨b + 1, ?_⟩
      have w := yw_com_94 (by omega) pm hp (by omega) (hh mk hk) b 0 (by omega) (b + 1) (by omega)
      rw [Nat.zero_add, Nat.pow_one, Nat.mod_eq_of_lt hp] at w
      exact w
  | succ k ih =>
    intro x hx mk hk m hm
    obtain ⟨m, rfl⟩ : ∃ m', m = m' + 1 := ⟨m - 1, by omega⟩
    have l1 : g ^ x % p < p := Nat.mod_lt _ (by omega)
    have cl : (nI (g ^ x % p)).toNatClampNeg = g ^ x % p := nI_clamp (by omega)
    have vin : vp_in (nI (g ^ x % p)) 2040 := vp_in_nI (by omega) (by decide)
    refine br_f (by rw [ep]; exact nI_ge (by omega) (by omega)) ⟨vin, ?_⟩
    intro mk2 em
    rw [cl, yw_nar1] at em
    refine ⟨nI_ne0 (by omega) (by omega), nm_r (e' := nI (g ^ (x + 1) % p)) ?_ (nm_r (nI_1 x) (ih (x + 1) (by omega) mk2 ?_ m (by omega)))⟩
    · rw [pk_mul, pk_rem (xw_mb l1 gp pm) (by omega) (by omega), Nat.mod_mul_mod, ← Nat.pow_succ]
    · intro u up
      rw [em]
      by_cases z : u = g ^ x % p
      · rw [z, pk_us]
        exact ⟨fun _ => ⟨x, by omega, rfl⟩, fun _ => by decide⟩
      · rw [pk_un z, hk u up]
        constructor
        · rintro ⟨i, il, ie⟩
          exact ⟨i, by omega, ie⟩
        · rintro ⟨i, il, ie⟩
          refine ⟨i, ?_, ie⟩
          rcases Nat.lt_or_ge i x with q | q
          · exact q
          · exfalso
            apply z
            rw [← ie, show i = x by omega]
theorem yw_com_20 {post : Int32 → SY → Prop} {p : Nat} {G h : Int32} (pm : p ≤ 2039) (hh : ∀ mk : Nat → Int32, (∀ u, u < p → mk u = 0) → ∃ n : Nat, wY_common_46 post G h (nI p) n 1 0 mk) :
    ∀ k x, x + k = p → ∀ mk : Nat → Int32, (∀ u, u < x → mk u = 0) → ∀ m, k < m → wY_common_20 post G h (nI p) m (nI x) mk := by
  intro k
  induction k with
  | zero =>
    intro x hx mk hk m hm
    obtain ⟨m, rfl⟩ : ∃ m', m = m' + 1 := ⟨m - 1, by omega⟩
    exact br_t (nI_le (by omega) (by omega)) (hh mk fun u up => hk u (by omega))
  | succ k ih =>
    intro x hx mk hk m hm
    obtain ⟨m, rfl⟩ : ∃ m', m = m' + 1 := ⟨m - 1, by omega⟩
    refine br_f (nI_ge (by omega) (by omega)) ⟨pk_in x 2040 (by omega), ?_⟩
    intro mk2 em
    rw [nI_clamp (by omega), yw_nar0] at em
    refine nm_r (nI_1 x) (ih (x + 1) (by omega) mk2 ?_ m (by omega))
    intro u ul
    rw [em]
    by_cases z : u = x
    · rw [z, pk_us]
    · rw [pk_un z]
      exact hk u (by omega)
end
section
theorem dl_root_iff {p g k h a : Nat} (p2 : 2 ≤ p) (o : dl_Ord p g (p - 1)) (ea : g ^ a % p = h) (i : Nat) : (g ^ i % p) ^ k % p = h ↔ i * k % (p - 1) = a % (p - 1) := by
  rw [dl_pp, ← ea]
  exact dl_eq p2 o _ _
theorem dl_root_1 {p g k h a : Nat} (p3 : 3 ≤ p) (o : dl_Ord p g (p - 1)) (ea : g ^ a % p = h) : h ^ ((p - 1) / Nat.gcd k (p - 1)) % p = 1 ↔ Nat.gcd k (p - 1) ∣ a := by
  have n1 : 0 < p - 1 := by omega
  have d0 : 0 < Nat.gcd k (p - 1) := Nat.gcd_pos_of_pos_right k n1
  obtain ⟨m, hm⟩ := Nat.gcd_dvd_right k (p - 1)
  have m0 : 0 < m := Nat.pos_of_ne_zero fun z => by rw [z, Nat.mul_zero] at hm; omega
  rw [← ea, dl_pp, dl_dvd (by omega) o]
  generalize Nat.gcd k (p - 1) = d at d0 hm
  rw [hm, Nat.mul_div_cancel_left _ d0]
  exact Nat.mul_dvd_mul_iff_right m0
theorem dl_gcd_div {k n : Nat} (n1 : 0 < n) : ∃ k' m, k = Nat.gcd k n * k' ∧ n = Nat.gcd k n * m ∧ Nat.gcd k' m = 1 ∧ 0 < m ∧ k / Nat.gcd k n = k' ∧ n / Nat.gcd k n = m := by
  have d0 : 0 < Nat.gcd k n := Nat.gcd_pos_of_pos_right k n1
  refine ⟨k / Nat.gcd k n, n / Nat.gcd k n, (Nat.mul_div_cancel' (Nat.gcd_dvd_left k n)).symm, (Nat.mul_div_cancel' (Nat.gcd_dvd_right k n)).symm, Nat.coprime_div_gcd_div_gcd d0, Nat.div_pos (Nat.le_of_dvd n1 (Nat.gcd_dvd_right k n)) d0, rfl, rfl⟩
theorem dl_roots {p k h : Nat} (H : dl_M p) (h1 : 1 ≤ h) (hp : h < p) : dl_cn (fun i => decide ((i + 1) ^ k % p = h)) (p - 1) = if h ^ ((p - 1) / Nat.gcd k (p - 1)) % p = 1 then Nat.gcd k (p - 1) else 0 := by
  obtain ⟨g, g1, gp, go⟩ := dl_gen H
  have p3 := H.2.1
  have p2 : 2 ≤ p := by omega
  obtain ⟨a, _, ea⟩ := dl_surj p2 go h1 hp
  have iff1 := dl_root_1 (k := k) p3 go ea
  have iff2 := fun i => dl_root_iff (k := k) p2 go ea i
  rw [dl_cn_gen p2 go (fun u => decide (u ^ k % p = h))]
  have n1 : 0 < p - 1 := by omega
  by_cases z : Nat.gcd k (p - 1) ∣ a
  · rw [if_pos (iff1.mpr z)]
    obtain ⟨k', m, hk, hm, hc, m0, _, _⟩ := dl_gcd_div (k := k) n1
    obtain ⟨a', ha⟩ := z
    obtain ⟨s, hs⟩ := dl_bez k' m m0
    rw [hc] at hs
    have d0 : 0 < Nat.gcd k (p - 1) := Nat.gcd_pos_of_pos_right k n1
    generalize Nat.gcd k (p - 1) = d at d0 hk hm ha
    have e1 : dl_cn (fun i => decide ((g ^ i % p) ^ k % p = h)) (p - 1) = dl_cn (fun i => decide (i % m = a' * s % m)) (p - 1) := by
      refine dl_cn_c fun i _ => decide_eq_decide.mpr ((iff2 i).trans ?_)
      rw [hk, hm, ha]
      exact dl_lin d0 hs i
    rw [e1, hm, Nat.mul_comm d m]
    exact dl_cn_per (Nat.mod_lt _ m0) d
  · rw [if_neg (fun w => z (iff1.mp w))]
    refine dl_cn_0 fun i _ => decide_eq_false fun w => z ?_
    exact dl_lin0 ((iff2 i).mp w)
theorem dl_common {p g h a b : Nat} {mk : Nat → Int32} (H : dl_M p) (g1 : 1 ≤ g) (gp : g < p) (h1 : 1 ≤ h) (hp : h < p) (oa : dl_Ord p g a) (ob : dl_Ord p h b) (hk : ∀ u, u < p → (¬ mk u = 0 ↔ ∃ i, i < p - 1 ∧ g ^ i % p = u)) : dl_cn (fun i => decide (¬ mk (h ^ (i + 1) % p) = 0)) b = Nat.gcd a b := by
  have p3 := H.2.1
  have p2 : 2 ≤ p := by omega
  have al := Nat.le_of_dvd (show 0 < p - 1 by omega) ((dl_dvd p2 oa (p - 1)).mp (dl_fermat H g1 gp))
  obtain ⟨a', m, ha, hm, hc, m0, _, _⟩ := dl_gcd_div (k := a) ob.1
  have d0 : 0 < Nat.gcd a b := Nat.gcd_pos_of_pos_right a ob.1
  have key : ∀ i, (¬ mk (h ^ (i + 1) % p) = 0) ↔ i % m = m - 1 := by
    intro i
    obtain ⟨u1, up⟩ := dl_ord_unit p2 ob (i + 1)
    rw [hk _ up]
    have s1 : (∃ j, j < p - 1 ∧ g ^ j % p = h ^ (i + 1) % p) ↔ (h ^ (i + 1) % p) ^ a % p = 1 := by
      constructor
      · rintro ⟨j, _, e⟩
        rw [← e, dl_pp, Nat.mul_comm]
        exact dl_p1 p2 oa.2.1 j
      · intro e
        obtain ⟨x, xl, xe⟩ := dl_cyc H g1 gp u1 up oa e
        exact ⟨x, by omega, xe⟩
    rw [s1, dl_pp, dl_dvd p2 ob]
    generalize Nat.gcd a b = d at d0 ha hm
    have s2 : b ∣ (i + 1) * a ↔ m ∣ i + 1 := by
      rw [hm, ha, Nat.mul_left_comm, Nat.mul_dvd_mul_iff_left d0]
      have cc : Nat.Coprime m a' := by rw [Nat.gcd_comm] at hc; exact hc
      exact ⟨fun w => cc.dvd_of_dvd_mul_right w, fun w => Nat.dvd_mul_right_of_dvd w a'⟩
    rw [s2]
    have dm := Nat.div_add_mod i m
    have ml := Nat.mod_lt i m0
    constructor
    · intro w
      rcases Nat.lt_or_ge (i % m) (m - 1) with l | l
      · exfalso
        have e1 : (i + 1) % m = i % m + 1 := by
          rw [← dm, Nat.add_assoc, Nat.mul_add_mod, Nat.mod_eq_of_lt (by omega), Nat.mul_add_mod, Nat.mod_mod]
        have := Nat.mod_eq_zero_of_dvd w
        omega
      · omega
    · intro w
      refine ⟨i / m + 1, ?_⟩
      rw [Nat.mul_add, Nat.mul_one]
      omega
  have e1 : dl_cn (fun i => decide (¬ mk (h ^ (i + 1) % p) = 0)) b = dl_cn (fun i => decide (i % m = m - 1)) b :=
    dl_cn_c fun i _ => decide_eq_decide.mpr (key i)
  rw [e1]
  have e2 : b = m * Nat.gcd a b := by rw [Nat.mul_comm]; exact hm
  have e3 : dl_cn (fun i => decide (i % m = m - 1)) b = dl_cn (fun i => decide (i % m = m - 1)) (m * Nat.gcd a b) := congrArg _ e2
  rw [e3]
  exact dl_cn_per (by omega) _
theorem xw_badRoot {post : Int32 → Prop} {fo ff A B : Int32} {bs ts ky st : Nat → Int32} {p : Nat} (pm : p ≤ 2039) (hb1 : (∀ h : Nat, A = nI h → ¬ (1 ≤ h ∧ h < p)) → post 1) (hb2 : ∀ h : Nat, A = nI h → 1 ≤ h → h < p → (∀ k : Nat, B = nI k → ¬ (1 ≤ k ∧ k ≤ 1000000)) → post 1) (h0 : ∀ h k : Nat, A = nI h → B = nI k → 1 ≤ h → h < p → 1 ≤ k → k ≤ 1000000 → post 0) : wpX_badRoot post (nI p, fo, ff, bs, ts, ky, st) A B := by
  unfold wpX_badRoot
  refine xw_notUnit pm (fun no => br_f (by decide) (hb1 no)) (fun h eh h1 hp => br_t rfl ?_)
  by_cases c : B < 1
  · refine br_t c (hb2 h eh h1 hp fun g e hg => ?_)
    rw [e] at c
    exact nI_nlt (a := g) (b := 1) hg.1 (by omega) c
  · have c0 : ¬ B < 0 := fun z => c (Int32.lt_trans z (by decide))
    obtain ⟨g, hg, rfl⟩ := nI_of c0
    have g1 : 1 ≤ g := by
      rcases Nat.eq_zero_or_pos g with z | z
      · rw [z] at c
        exact absurd (show (nI 0 : Int32) < 1 by decide) c
      · exact z
    refine br_f c ?_
    refine pk_le g 1000000 (fun l => h0 h g eh rfl h1 hp g1 l) (fun l => hb2 h eh h1 hp fun j e hj => ?_)
    have := (nI_eq hg (by omega)).mp e
    omega
theorem xw_root_113 {post : Int32 → SX → Prop} {fo ff : Int32} {bs ts ky st : Nat → Int32} {p g x m d : Nat} (p2 : 2 ≤ p) (pm : p ≤ 2039) (d1 : 1 ≤ d) (dm : d ≤ 2038) (hK : ∀ r, (∃ j, j < d ∧ g ^ (x + j * m) % p = r) → (∀ j, j < d → r ≤ g ^ (x + j * m) % p) → post (nI r) (nI p, fo, ff, bs, ts, ky, st)) :
    ∀ k j, j + k = d → ∀ best, (∃ i, i < d ∧ g ^ (x + i * m) % p = best) → (∀ i, i < j → best ≤ g ^ (x + i * m) % p) → ∀ mm, k < mm → wX_root_113 post (nI d) (nI (g ^ m % p)) (nI p) fo ff bs ts ky st mm (nI (g ^ (x + j * m) % p)) (nI best) (nI j) := by
  have l1 : ∀ z, g ^ z % p < p := fun z => Nat.mod_lt _ (by omega)
  intro k
  induction k with
  | zero =>
    intro j hj best hb hl mm hm
    obtain ⟨mm, rfl⟩ : ∃ m', mm = m' + 1 := ⟨mm - 1, by omega⟩
    have e : j = d := by omega
    subst e
    exact br_t (nI_le (Nat.le_refl _) (by omega)) (hK best hb hl)
  | succ k ih =>
    intro j hj best hb hl mm hm
    obtain ⟨mm, rfl⟩ : ∃ m', mm = m' + 1 := ⟨mm - 1, by omega⟩
    have bl : best < p := by
      obtain ⟨i, _, e⟩ := hb
      rw [← e]
      exact l1 _
    have lj := l1 (x + j * m)
    have em : g ^ (x + j * m) % p * (g ^ m % p) % p = g ^ (x + (j + 1) * m) % p := by
      rw [← dl_pm, Nat.add_mul, Nat.one_mul, Nat.add_assoc]
    refine br_f (nI_ge (by omega) (by omega)) (br_f (nI_ge (b := 2039) (by omega) (by decide)) ?_)
    refine pk_le best (g ^ (x + j * m) % p) (fun l => ?_) (fun l => ?_)
    · refine xw_mul _ _ _ rfl rfl em (by omega) pm (l1 _) (l1 _) (nm_r (nI_1 j) (ih (j + 1) (by omega) best hb ?_ mm (by omega)))
      intro i hi
      rcases Nat.lt_or_ge i j with y | y
      · exact hl i y
      · rw [show i = j by omega]
        exact l
    · refine xw_mul _ _ _ rfl rfl em (by omega) pm (l1 _) (l1 _) (nm_r (nI_1 j) (ih (j + 1) (by omega) (g ^ (x + j * m) % p) ⟨j, by omega, rfl⟩ ?_ mm (by omega)))
      intro i hi
      rcases Nat.lt_or_ge i j with y | y
      · exact Nat.le_trans (Nat.le_of_lt l) (hl i y)
      · rw [show i = j by omega]
        exact Nat.le_refl _
theorem xw_uoo_56 {post : Int32 → Prop} {fo ff : Int32} {bs ts ky st : Nat → Int32} {p t d : Nat} (p2 : 2 ≤ p) (pm : p ≤ 2039) (tp : t < p) (d1 : 1 ≤ d) (dm : d ≤ 2038) (hK : ∀ r, (∃ j, j < d ∧ Nat.gcd j d = 1 ∧ t ^ j % p = r) → (∀ j, j < d → Nat.gcd j d = 1 → r ≤ t ^ j % p) → post (nI r)) :
    ∀ k j, j + k = d → ∀ best, best ≤ p → ((∀ i, i < j → Nat.gcd i d ≠ 1) ∨ ∃ i, i < d ∧ Nat.gcd i d = 1 ∧ t ^ i % p = best) → (best = p ∨ ∃ i, i < d ∧ Nat.gcd i d = 1 ∧ t ^ i % p = best) → (∀ i, i < j → Nat.gcd i d = 1 → best ≤ t ^ i % p) → ∀ mm, k < mm → wX_unitOfOrder_56 post (nI d) (nI t) (nI p) fo ff bs ts ky st mm (nI (t ^ j % p)) (nI best) (nI j) := by
  have l1 : ∀ z, t ^ z % p < p := fun z => Nat.mod_lt _ (by omega)
  intro k
  induction k with
  | zero =>
    intro j hj best bp ha hb hl mm hm
    obtain ⟨mm, rfl⟩ : ∃ m', mm = m' + 1 := ⟨mm - 1, by omega⟩
    have e : j = d := by omega
    subst e
    refine br_t (nI_le (Nat.le_refl _) (by omega)) (hK best ?_ hl)
    rcases ha with z | z
    · exfalso
      refine z (1 % j) (Nat.mod_lt _ d1) ?_
      rw [← Nat.gcd_rec, Nat.gcd_one_right]
    · exact z
  | succ k ih =>
    intro j hj best bp ha hb hl mm hm
    obtain ⟨mm, rfl⟩ : ∃ m', mm = m' + 1 := ⟨mm - 1, by omega⟩
    have lj := l1 j
    have em : t ^ j % p * t % p = t ^ (j + 1) % p := by rw [Nat.mod_mul_mod, ← Nat.pow_succ]
    have gl : Nat.gcd j d ≤ d := Nat.gcd_le_right j (by omega)
    refine br_f (nI_ge (by omega) (by omega)) (br_f (nI_ge (b := 2039) (by omega) (by decide)) ?_)
    refine xw_gcd j d rfl rfl (by omega) (by omega) ?_
    refine pk_eq (Nat.gcd j d) 1 (fun z => ?_) (fun z => ?_)
    · refine pk_le best (t ^ j % p) (fun l => ?_) (fun l => ?_)
      · have hb' : ∃ i, i < d ∧ Nat.gcd i d = 1 ∧ t ^ i % p = best := by
          rcases hb with y | y
          · omega
          · exact y
        refine xw_mul _ _ _ rfl rfl em (by omega) pm (l1 _) tp (nm_r (nI_1 j) (ih (j + 1) (by omega) best bp (Or.inr hb') hb ?_ mm (by omega)))
        intro i hi gi
        rcases Nat.lt_or_ge i j with y | y
        · exact hl i y gi
        · rw [show i = j by omega]
          exact l
      · have hb' : ∃ i, i < d ∧ Nat.gcd i d = 1 ∧ t ^ i % p = t ^ j % p := ⟨j, by omega, z, rfl⟩
        refine xw_mul _ _ _ rfl rfl em (by omega) pm (l1 _) tp (nm_r (nI_1 j) (ih (j + 1) (by omega) (t ^ j % p) (by omega) (Or.inr hb') (Or.inr hb') ?_ mm (by omega)))
        intro i hi gi
        rcases Nat.lt_or_ge i j with y | y
        · exact Nat.le_trans (Nat.le_of_lt l) (hl i y gi)
        · rw [show i = j by omega]
          exact Nat.le_refl _
    · refine xw_mul _ _ _ rfl rfl em (by omega) pm (l1 _) tp (nm_r (nI_1 j) (ih (j + 1) (by omega) best bp ?_ hb ?_ mm (by omega)))
      · rcases ha with y | y
        · refine Or.inl fun i hi => ?_
          rcases Nat.lt_or_ge i j with w | w
          · exact y i w
          · rw [show i = j by omega]
            exact z
        · exact Or.inr y
      · intro i hi gi
        rcases Nat.lt_or_ge i j with y | y
        · exact hl i y gi
        · rw [show i = j by omega] at gi
          exact absurd gi z
theorem dl_addc {x a b w : Nat} : (x + a) % w = (x + b) % w ↔ a % w = b % w := by
  have key : ∀ a b, a ≤ b → ((x + a) % w = (x + b) % w ↔ a % w = b % w) := by
    intro a b l
    constructor
    · intro e
      have := dl_md (show x + a ≤ x + b by omega) e
      rw [show x + b - (x + a) = b - a by omega] at this
      exact dl_dm l this
    · intro e
      rw [Nat.add_mod, e, ← Nat.add_mod]
  rcases Nat.le_total a b with l | l
  · exact key a b l
  · exact ⟨fun e => ((key b a l).mp e.symm).symm, fun e => ((key b a l).mpr e.symm).symm⟩
theorem dl_lw {p g h k X w r gap : Nat} (p2 : 2 ≤ p) (o : dl_Ord p g k) (hX : X < k) (ex : g ^ X % p = h) (rl : r < w) (hg : (X + gap) % w = r % w) (y : Nat) : (g ^ y % p = h ∧ y % w = r) ↔ ∃ t, y = X + k * t ∧ t * k % w = gap % w := by
  constructor
  · rintro ⟨e1, e2⟩
    rw [← ex] at e1
    have e3 := (dl_eq p2 o _ _).mp e1
    rw [Nat.mod_eq_of_lt hX] at e3
    have e4 := Nat.div_add_mod y k
    have e5 : y = X + k * (y / k) := by omega
    refine ⟨y / k, e5, ?_⟩
    rw [Nat.mod_eq_of_lt rl, ← e2] at hg
    rw [Nat.mul_comm]
    refine (dl_addc (x := X)).mp ?_
    rw [hg, ← e5]
  · rintro ⟨t, e1, e2⟩
    constructor
    · rw [e1, dl_pm, dl_p1 p2 o.2.1, Nat.mul_one, Nat.mod_mod]
      exact ex
    · rw [e1, Nat.mul_comm, (dl_addc (x := X)).mpr e2, hg, Nat.mod_eq_of_lt rl]
end
section
/-- the relation: a prime, the prime powers below it as the arrays hold them; key, step and marked hold anything -/
def i_Rel (k : Nat) (u : SX) (v : SY) : Prop := ∃ (p F : Nat) (q e R : Nat → Nat) (bs ts ky st mk : Nat → Int32), dl_M p ∧ dl_Fac (p - 1) F q e R ∧ (∀ f, f < F → bs f = nI (q f) ∧ ts f = nI (e f)) ∧ u = (nI p, nI (p - 1), nI F, bs, ts, ky, st) ∧ v = (nI p, mk)
theorem i_up {k : Nat} {u : SX} {v : SY} (h : i_Rel k u v) : i_Rel (k + 5) u v := h
theorem ir_mk {k p F : Nat} {q e R : Nat → Nat} {bs ts ky st mk : Nat → Int32} (H : dl_M p) (hF : dl_Fac (p - 1) F q e R) (hb : ∀ f, f < F → bs f = nI (q f) ∧ ts f = nI (e f)) : i_Rel k (nI p, nI (p - 1), nI F, bs, ts, ky, st) (nI p, mk) :=
  ⟨p, F, q, e, R, bs, ts, ky, st, mk, H, hF, hb, rfl, rfl⟩
theorem ir_fs {k p F : Nat} {bs ts ky st mk : Nat → Int32} (H : dl_M p) (h : dl_FS (p - 1) F bs ts) : i_Rel k (nI p, nI (p - 1), nI F, bs, ts, ky, st) (nI p, mk) := by
  obtain ⟨q, e, R, hF, hb⟩ := h
  exact ir_mk H hF hb
theorem dl_M3 : dl_M 3 := by
  refine ⟨dl_pr_of (by decide) fun d d2 d3 => ?_, by decide, by decide⟩
  have : d = 2 := by omega
  subst this
  decide
theorem i_vc0 : wpX_init (fun u => wpY_init (fun v => i_Rel 0 u v)) := by
  unfold wpX_init
  refine xw_factor (p := 3) (by decide) (by decide) fun F bs ts hs => ?_
  exact ir_fs (k := 0) dl_M3 hs
theorem ir_3 {v1 : Int32} (c3 : ¬ v1 < 3) (c9 : ¬ 2039 < v1) : ∃ n, v1 = nI n ∧ 3 ≤ n ∧ n ≤ 2039 := by
  have c0 : ¬ v1 < 0 := fun z => c3 (Int32.lt_trans z (by decide))
  obtain ⟨n, hn, rfl⟩ := nI_of c0
  refine ⟨n, rfl, ?_, ?_⟩
  · rcases Nat.lt_or_ge n 3 with l | l
    · exact absurd (nI_lt (b := 3) l (by decide)) c3
    · exact l
  · rcases Nat.lt_or_ge 2039 n with l | l
    · exact absurd (nI_lt (a := 2039) l hn) c9
    · exact l
theorem i_vc_prime {k : Nat} {u : SX} {v : SY} (I : i_Rel k u v) (hk : k + 5 ≤ 2560) (v1 : Int32) : wpX_prime (fun r u' => wpY_prime (fun r' v' => r' = r ∧ i_Rel (k + 5) u' v') v v1) u v1 := by
  obtain ⟨p, F, q, e, R, bs, ts, ky, st, mk, H, hF, hb, rfl, rfl⟩ := I
  by_cases c3 : v1 < 3
  · exact br_t c3 (br_t rfl (br_t c3 ⟨rfl, ir_mk H hF hb⟩))
  · refine br_f c3 ?_
    by_cases c9 : 2039 < v1
    · exact br_t c9 (br_t rfl (br_f c3 (br_t c9 ⟨rfl, ir_mk H hF hb⟩)))
    · refine br_f c9 ?_
      obtain ⟨n, rfl, n3, nm⟩ := ir_3 c3 c9
      refine xw_isPrime n rfl (by omega) nm (fun hp => ?_) (fun hn => ?_)
      · refine br_f (by decide) (br_f (by decide) ?_)
        refine xw_factor n3 nm fun F' bs' ts' hs => ?_
        refine br_f c3 (br_f c9 ?_)
        exact yw_isPrime n rfl n3 nm (fun _ => br_f (by decide) ⟨rfl, ir_fs ⟨hp, n3, nm⟩ hs⟩) (fun no => absurd hp no)
      · refine br_t rfl (br_t rfl ?_)
        refine br_f c3 (br_f c9 ?_)
        exact yw_isPrime n rfl n3 nm (fun hp => absurd hp hn) (fun _ => br_t rfl ⟨rfl, ir_mk H hF hb⟩)
theorem i_vc_modulus {k : Nat} {u : SX} {v : SY} (I : i_Rel k u v) (hk : k + 5 ≤ 2560) : wpX_modulus (fun r => wpY_modulus (fun r' => r' = r ∧ i_Rel (k + 5) u v) v) u := by
  obtain ⟨p, F, q, e, R, bs, ts, ky, st, mk, H, hF, hb, rfl, rfl⟩ := I
  exact ⟨rfl, ir_mk H hF hb⟩
theorem xw_next_7 {post : Int32 → SX → Prop} {fo ff : Int32} {bs ts ky st : Nat → Int32} {p : Nat} (p3 : 3 ≤ p) (hs : ∀ n, p < n → n ≤ 2039 → dl_Pr n → (∀ c, p < c → c < n → ¬ dl_Pr c) → ∀ F bs ts, dl_FS (n - 1) F bs ts → post (nI n) (nI n, nI (n - 1), nI F, bs, ts, ky, st)) (hn : (∀ c, p < c → c ≤ 2039 → ¬ dl_Pr c) → post (-4) (nI p, fo, ff, bs, ts, ky, st)) :
    ∀ k n, n + k = 2040 → p < n → (∀ c, p < c → c < n → ¬ dl_Pr c) → ∀ m, k < m → wX_nextPrime_7 post (nI p) fo ff bs ts ky st m (nI n) := by
  intro k
  induction k with
  | zero =>
    intro n hnk pn hc m hm
    obtain ⟨m, rfl⟩ : ∃ m', m = m' + 1 := ⟨m - 1, by omega⟩
    exact br_t (nI_lt (a := 2039) (by omega) (by omega)) (hn fun c c1 c2 => hc c c1 (by omega))
  | succ k ih =>
    intro n hnk pn hc m hm
    obtain ⟨m, rfl⟩ : ∃ m', m = m' + 1 := ⟨m - 1, by omega⟩
    refine br_f (nI_nlt (a := 2039) (by omega) (by decide)) ?_
    refine xw_isPrime n rfl (by omega) (by omega) (fun hp => br_f (by decide) ?_) (fun hp => br_t rfl (nm_r (nI_1 n) (ih (n + 1) (by omega) (by omega) ?_ m (by omega))))
    · exact xw_factor (by omega) (by omega) fun F bs ts h => hs n pn (by omega) hp hc F bs ts h
    · intro c c1 c2
      rcases Nat.lt_or_ge c n with y | y
      · exact hc c c1 y
      · rw [show c = n by omega]
        exact hp
theorem yw_next_7 {post : Int32 → SY → Prop} {mk : Nat → Int32} {p : Nat} (p3 : 3 ≤ p) (hs : ∀ n, p < n → n ≤ 2039 → dl_Pr n → (∀ c, p < c → c < n → ¬ dl_Pr c) → post (nI n) (nI n, mk)) (hn : (∀ c, p < c → c ≤ 2039 → ¬ dl_Pr c) → post (-4) (nI p, mk)) :
    ∀ k n, n + k = 2040 → p < n → (∀ c, p < c → c < n → ¬ dl_Pr c) → ∀ m, k < m → wY_nextPrime_7 post (nI p) mk m (nI n) := by
  intro k
  induction k with
  | zero =>
    intro n hnk pn hc m hm
    obtain ⟨m, rfl⟩ : ∃ m', m = m' + 1 := ⟨m - 1, by omega⟩
    exact br_t (nI_lt (a := 2039) (by omega) (by omega)) (hn fun c c1 c2 => hc c c1 (by omega))
  | succ k ih =>
    intro n hnk pn hc m hm
    obtain ⟨m, rfl⟩ : ∃ m', m = m' + 1 := ⟨m - 1, by omega⟩
    refine br_f (nI_nlt (a := 2039) (by omega) (by decide)) ?_
    refine yw_isPrime n rfl (by omega) (by omega) (fun hp => br_f (by decide) (hs n pn (by omega) hp hc)) (fun hp => br_t rfl (nm_r (nI_1 n) (ih (n + 1) (by omega) (by omega) ?_ m (by omega))))
    intro c c1 c2
    rcases Nat.lt_or_ge c n with y | y
    · exact hc c c1 y
    · rw [show c = n by omega]
      exact hp
theorem i_vc_nextPrime {k : Nat} {u : SX} {v : SY} (I : i_Rel k u v) (hk : k + 5 ≤ 2560) : wpX_nextPrime (fun r u' => wpY_nextPrime (fun r' v' => r' = r ∧ i_Rel (k + 5) u' v') v) u := by
  obtain ⟨p, F, q, e, R, bs, ts, ky, st, mk, H, hF, hb, rfl, rfl⟩ := I
  have p3 := H.2.1
  have pm := H.2.2
  refine nm_r (nI_1 p) ⟨2040, xw_next_7 p3 (fun n pn nm hp hc F' bs' ts' h => ?_) (fun no => ?_) (2039 - p) (p + 1) (by omega) (by omega) (fun c a b => by omega) 2040 (by omega)⟩
  · refine nm_r (nI_1 p) ⟨2040, yw_next_7 p3 (fun n' pn' nm' hp' hc' => ?_) (fun no => absurd hp (no n pn nm)) (2039 - p) (p + 1) (by omega) (by omega) (fun c a b => by omega) 2040 (by omega)⟩
    have e1 : n' = n := by
      rcases Nat.lt_trichotomy n' n with l | l | l
      · exact absurd hp' (hc n' pn' l)
      · exact l
      · exact absurd hp (hc' n pn l)
    subst e1
    exact ⟨rfl, ir_fs ⟨hp, by omega, nm⟩ h⟩
  · refine nm_r (nI_1 p) ⟨2040, yw_next_7 p3 (fun n' pn' nm' hp' hc' => absurd hp' (no n' pn' nm')) (fun _ => ?_) (2039 - p) (p + 1) (by omega) (by omega) (fun c a b => by omega) 2040 (by omega)⟩
    exact ⟨rfl, ir_mk H hF hb⟩
theorem i_vc_power {k : Nat} {u : SX} {v : SY} (I : i_Rel k u v) (hk : k + 5 ≤ 2560) (v1 : Int32) (v2 : Int32) : wpX_power (fun r => wpY_power (fun r' => r' = r ∧ i_Rel (k + 5) u v) v v1 v2) u v1 v2 := by
  obtain ⟨p, F, q, e, R, bs, ts, ky, st, mk, H, hF, hb, rfl, rfl⟩ := I
  have p3 := H.2.1
  have pm := H.2.2
  unfold wpX_power
  refine xw_notUnit pm (fun no => br_f (by decide) ?_) (fun g eg g1 gp => br_t rfl ?_)
  · unfold wpY_power
    exact yw_nunit pm no (br_t rfl ⟨rfl, ir_mk H hF hb⟩)
  · by_cases c0 : v2 < 0
    · refine br_t c0 ?_
      unfold wpY_power
      exact yw_unit pm g eg g1 gp (br_f (by decide) (br_t c0 ⟨rfl, ir_mk H hF hb⟩))
    · obtain ⟨x, hx, rfl⟩ := nI_of c0
      refine br_f c0 (pk_le x 1000000 (fun l => ?_) (fun l => ?_))
      · refine xw_pow g x _ eg rfl rfl (by omega) pm gp hx ?_
        unfold wpY_power
        refine yw_unit pm g eg g1 gp (br_f (by decide) (br_f c0 (br_t (nI_le (b := 1000000) l (by decide)) ?_)))
        exact yw_raised g x eg rfl (by omega) pm gp (by omega) ⟨rfl, ir_mk H hF hb⟩
      · unfold wpY_power
        exact yw_unit pm g eg g1 gp (br_f (by decide) (br_f c0 (br_f (nI_ge (a := 1000000) l hx) ⟨rfl, ir_mk H hF hb⟩)))
theorem i_vc_inverse {k : Nat} {u : SX} {v : SY} (I : i_Rel k u v) (hk : k + 5 ≤ 2560) (v1 : Int32) : wpX_inverse (fun r => wpY_inverse (fun r' => r' = r ∧ i_Rel (k + 5) u v) v v1) u v1 := by
  obtain ⟨p, F, q, e, R, bs, ts, ky, st, mk, H, hF, hb, rfl, rfl⟩ := I
  have p3 := H.2.1
  have pm := H.2.2
  unfold wpX_inverse
  refine xw_notUnit pm (fun no => br_f (by decide) ?_) (fun g eg g1 gp => br_t rfl ?_)
  · unfold wpY_inverse
    exact yw_nunit pm no (br_t rfl ⟨rfl, ir_mk H hF hb⟩)
  · refine xw_invert g _ eg rfl (by omega) pm gp ?_
    unfold wpY_inverse
    refine yw_unit pm g eg g1 gp (br_f (by decide) ⟨p, ?_⟩)
    have ei := dl_inv H g1 gp
    have w1 : 1 ≤ g ^ (p - 2) % p := by
      rcases Nat.eq_zero_or_pos (g ^ (p - 2) % p) with z | z
      · rw [z, Nat.mul_zero, Nat.zero_mod] at ei
        omega
      · exact z
    rw [eg]
    exact yw_inverse_14 pm gp (Nat.mod_lt _ (by omega)) ei ⟨rfl, ir_mk H hF hb⟩ (p - 1) 1 (by omega) 0 (Or.inr w1) p (by omega)
theorem i_vc_order {k : Nat} {u : SX} {v : SY} (I : i_Rel k u v) (hk : k + 5 ≤ 2560) (v1 : Int32) : wpX_order (fun r => wpY_order (fun r' => r' = r ∧ i_Rel (k + 5) u v) v v1) u v1 := by
  obtain ⟨p, F, q, e, R, bs, ts, ky, st, mk, H, hF, hb, rfl, rfl⟩ := I
  have p3 := H.2.1
  have pm := H.2.2
  unfold wpX_order
  refine xw_notUnit pm (fun no => br_f (by decide) ?_) (fun g eg g1 gp => br_t rfl ?_)
  · unfold wpY_order
    exact yw_nunit pm no (br_t rfl ⟨rfl, ir_mk H hF hb⟩)
  · have o := dl_o_spec H g1 gp
    refine xw_orderOf g _ eg H hF hb g1 gp o ?_
    unfold wpY_order
    refine yw_unit pm g eg g1 gp (br_f (by decide) ?_)
    exact yw_orderOf g _ eg H g1 gp o ⟨rfl, ir_mk H hF hb⟩
theorem i_vc_generator {k : Nat} {u : SX} {v : SY} (I : i_Rel k u v) (hk : k + 5 ≤ 2560) : wpX_generator (fun r => wpY_generator (fun r' => r' = r ∧ i_Rel (k + 5) u v) v) u := by
  obtain ⟨p, F, q, e, R, bs, ts, ky, st, mk, H, hF, hb, rfl, rfl⟩ := I
  have p3 := H.2.1
  have pm := H.2.2
  refine xw_generator H hF hb fun g g1 gp o hl => ?_
  unfold wpY_generator
  have eg := dl_ord_un (dl_o_spec H g1 gp) o
  refine yw_unitOfOrder (p - 1) (pk_sub (b := 1) (by omega)) (by omega) (by omega) H (fun u u1 up eu hw => ?_) (fun no => absurd eg (no g g1 gp))
  have e1 : u = g := by
    rcases Nat.lt_trichotomy u g with l | l | l
    · exfalso
      have o2 := dl_o_spec H u1 up
      rw [eu] at o2
      exact hl u u1 l o2
    · exact l
    · exact absurd eg (hw g g1 l)
  subst e1
  exact ⟨rfl, ir_mk H hF hb⟩
theorem i_vc_generators {k : Nat} {u : SX} {v : SY} (I : i_Rel k u v) (hk : k + 5 ≤ 2560) : wpX_generators (fun r => wpY_generators (fun r' => r' = r ∧ i_Rel (k + 5) u v) v) u := by
  obtain ⟨p, F, q, e, R, bs, ts, ky, st, mk, H, hF, hb, rfl, rfl⟩ := I
  have p3 := H.2.1
  have pm := H.2.2
  unfold wpX_generators
  refine xw_totient (q := q) (p - 1) rfl hF.1 (by omega) (fun f hf => ?_) ?_
  · obtain ⟨a, b, _⟩ := dl_fac_ql hF (by omega) hf
    exact ⟨(hb f hf).1, by omega, by omega⟩
  · unfold wpY_generators
    refine yw_unitsOfOrder (p - 1) (pk_sub (b := 1) (by omega)) (by omega) (by omega) H ?_
    rw [dl_cnt_ord H (Nat.dvd_refl _), dl_tot hF (Nat.dvd_refl _)]
    exact ⟨rfl, ir_mk H hF hb⟩
end
section
theorem i_vc_log {k : Nat} {u : SX} {v : SY} (I : i_Rel k u v) (hk : k + 5 ≤ 2560) (v1 : Int32) (v2 : Int32) : wpX_log (fun r u' => wpY_log (fun r' => r' = r ∧ i_Rel (k + 5) u' v) v v1 v2) u v1 v2 := by
  obtain ⟨p, F, q, e, R, bs, ts, ky, st, mk, H, hF, hb, rfl, rfl⟩ := I
  have p3 := H.2.1
  have pm := H.2.2
  unfold wpX_log
  refine xw_notUnit pm (fun no => br_f (by decide) ?_) (fun g eg g1 gp => br_t rfl ?_)
  · unfold wpY_log
    exact yw_nunit pm no (br_t rfl ⟨rfl, ir_mk H hF hb⟩)
  · refine xw_notUnit pm (fun no => br_f (by decide) ?_) (fun h eh h1 hp => br_t rfl ?_)
    · unfold wpY_log
      exact yw_unit pm g eg g1 gp (br_f (by decide) (yw_nunit pm no (br_t rfl ⟨rfl, ir_mk H hF hb⟩)))
    · have o := dl_o_spec H g1 gp
      have ol := dl_o_le H g1 gp
      have Y : ∀ post : Int32 → Prop, (∀ x, x < p - 1 → g ^ x % p = h → (∀ y, y < x → g ^ y % p ≠ h) → post (nI x)) → ((∀ x, x < p - 1 → g ^ x % p ≠ h) → post (-4)) → wpY_log post (nI p, mk) v1 v2 := by
        intro post hs hn
        subst eg eh
        unfold wpY_log
        refine yw_unit pm g rfl g1 gp (br_f (by decide) (yw_unit pm h rfl h1 hp (br_f (by decide) ⟨p, ?_⟩)))
        have w := yw_log_23 (mk := mk) (by omega) pm gp hp hs hn (p - 1) 0 (by omega) (fun y yl => by omega) p (by omega)
        rw [Nat.pow_zero, Nat.mod_eq_of_lt (show 1 < p by omega)] at w
        exact w
      refine xw_leastLog g h _ eg eh H hF hb g1 gp h1 hp o (fun X ky2 st2 X1 X2 => ?_) (fun no => ?_)
      · refine Y _ (fun x xl xe xm => ?_) (fun no => absurd X2 (no X (by omega)))
        have e1 : x = X := by
          rcases Nat.lt_or_ge X x with l | l
          · exact absurd X2 (xm X l)
          · exact dl_inj o (by omega) X1 (xe.trans X2.symm)
        subst e1
        exact ⟨rfl, ir_mk H hF hb⟩
      · exact Y _ (fun x xl xe xm => absurd xe (no x)) (fun _ => ⟨rfl, ir_mk H hF hb⟩)
theorem yw_root {post : Int32 → Prop} {A B : Int32} {mk : Nat → Int32} {p : Nat} (h x : Nat) (hA : A = nI h) (hB : B = nI x) (p2 : 2 ≤ p) (pm : p ≤ 2039) (h1 : 1 ≤ h) (hp : h < p) (x1 : 1 ≤ x) (xm : x ≤ 1000000) (hs : ∀ y, 1 ≤ y → y < p → y ^ x % p = h → (∀ w, 1 ≤ w → w < y → w ^ x % p ≠ h) → post (nI y)) (hn : (∀ y, 1 ≤ y → y < p → y ^ x % p ≠ h) → post (-4)) : wpY_root post (nI p, mk) A B := by
  subst hA hB
  unfold wpY_root
  refine yw_unit pm h rfl h1 hp (br_f (by decide) ?_)
  refine yw_isExp (fun no => absurd ⟨x1, xm⟩ (no x rfl)) (fun _ _ _ _ => br_f (by decide) ⟨p, ?_⟩)
  exact yw_root_20 p2 pm hp (by omega) hs hn (p - 1) 1 (by omega) (by decide) (fun w a b => by omega) p (by omega)
theorem i_vc_root {k : Nat} {u : SX} {v : SY} (I : i_Rel k u v) (hk : k + 5 ≤ 2560) (v1 : Int32) (v2 : Int32) : wpX_root (fun r u' => wpY_root (fun r' => r' = r ∧ i_Rel (k + 5) u' v) v v1 v2) u v1 v2 := by
  obtain ⟨p, F, q, e, R, bs, ts, ky, st, mk, H, hF, hb, rfl, rfl⟩ := I
  have p3 := H.2.1
  have pm := H.2.2
  have p2 : 2 ≤ p := by omega
  unfold wpX_root
  refine xw_badRoot pm (fun no => br_f (by decide) ?_) (fun h eh h1 hp no => br_f (by decide) ?_) (fun h x eh ex h1 hp x1 xm => br_t rfl ?_)
  · unfold wpY_root
    exact yw_nunit pm no (br_t rfl ⟨rfl, ir_mk H hF hb⟩)
  · unfold wpY_root
    refine yw_unit pm h eh h1 hp (br_f (by decide) ?_)
    exact yw_isExp (fun _ => br_t rfl ⟨rfl, ir_mk H hF hb⟩) (fun y ey y1 ym => absurd ⟨y1, ym⟩ (no y ey))
  · refine xw_generator H hF hb fun g g1 gp o _ => ?_
    refine xw_leastLog g h (p - 1) rfl eh H hF hb g1 gp h1 hp o (fun a ky2 st2 a1 a2 => ?_) (fun no => ?_)
    · have n1 : 0 < p - 1 := by omega
      have iff2 := fun i => dl_root_iff (k := x) p2 o a2 i
      have d0 : 0 < Nat.gcd x (p - 1) := Nat.gcd_pos_of_pos_right x n1
      have dl := Nat.gcd_le_right x n1
      refine xw_gcd x (p - 1) ex rfl (by omega) (by omega) ?_
      have nz : ¬ nI (Nat.gcd x (p - 1)) = 0 := nI_ne0 d0 (by omega)
      refine br_f (nI_nlt (b := 1) d0 (by omega)) ⟨nz, ?_⟩
      refine pk_eq (a % Nat.gcd x (p - 1)) 0 (fun z => ?_) (fun z => ?_) (pk_rem (by omega) d0 (by omega)) rfl (Nat.lt_of_le_of_lt (Nat.mod_le _ _) (by omega))
      · obtain ⟨x', m, hx', hm, hc, m0, dx, dn⟩ := dl_gcd_div (k := x) n1
        have ml : m ≤ p - 1 := by
          rw [← dn]
          exact Nat.div_le_self _ _
        have xl : x' ≤ x := by
          rw [← dx]
          exact Nat.div_le_self _ _
        obtain ⟨a', ha⟩ := Nat.dvd_of_mod_eq_zero z
        have al : a / Nat.gcd x (p - 1) = a' := by rw [ha, Nat.mul_div_cancel_left _ d0]
        have al2 : a' ≤ a := by
          rw [← al]
          exact Nat.div_le_self _ _
        refine ⟨nz, nm_r (e' := nI m) (by rw [pk_div (by omega) d0 (by omega), dn]) ⟨nz, ?_⟩⟩
        refine xw_invertBy x' m (by rw [ex, pk_div (by omega) d0 (by omega), dx]) rfl (by omega) m0 (by omega) hc fun s sl se => ⟨nz, ?_⟩
        refine xw_timesBy a' s m (by rw [pk_div (by omega) d0 (by omega), al]) rfl rfl (by omega) (by omega) m0 (by omega) ?_
        have tl := Nat.mod_lt (a' * s) m0
        refine xw_pow g (a' * s % m) _ rfl rfl rfl p2 pm gp (by omega) ?_
        refine xw_pow g m _ rfl rfl rfl p2 pm gp (by omega) ⟨Nat.gcd x (p - 1) + 1, ?_⟩
        generalize hd : Nat.gcd x (p - 1) = d at *
        have sol : ∀ i, (g ^ i % p) ^ x % p = h ↔ i % m = a' * s % m := by
          intro i
          refine (iff2 i).trans ?_
          rw [hx', hm, ha]
          exact dl_lin d0 se i
        have W := xw_root_113 (post := fun r u' => wpY_root (fun r' => r' = r ∧ i_Rel (k + 5) u' (nI p, mk)) (nI p, mk) v1 v2) (fo := nI (p - 1)) (ff := nI F) (bs := bs) (ts := ts) (ky := ky2) (st := st2) (g := g) (x := a' * s % m) (m := m) (d := d) p2 pm d0 (by omega) ?_ d 0 (by omega) (g ^ (a' * s % m) % p) ⟨0, d0, by rw [Nat.zero_mul, Nat.add_zero]⟩ (fun i hi => by omega) (d + 1) (by omega)
        · rw [Nat.zero_mul, Nat.add_zero] at W
          exact W
        · intro r hr hl
          obtain ⟨j, jd, ej⟩ := hr
          obtain ⟨r1, rp⟩ := dl_ord_unit p2 o (a' * s % m + j * m)
          rw [ej] at r1 rp
          have rs : r ^ x % p = h := by
            rw [← ej]
            refine (sol _).mpr ?_
            rw [Nat.add_mul_mod_self_right, Nat.mod_mod]
          refine yw_root h x eh ex p2 pm h1 hp x1 xm (fun y y1 yp ys yl => ?_) (fun no => absurd rs (no r r1 rp))
          have e1 : y = r := by
            rcases Nat.lt_trichotomy y r with l | l | l
            · exfalso
              obtain ⟨i, il, ei⟩ := dl_surj p2 o y1 yp
              rw [← ei] at ys
              have e2 := (sol i).mp ys
              have dm := Nat.div_add_mod i m
              have il2 : i / m < d := by
                apply Nat.div_lt_of_lt_mul
                rw [Nat.mul_comm, ← hm]
                exact il
              have := hl (i / m) il2
              rw [← e2, Nat.mul_comm, Nat.add_comm, dm, ei] at this
              omega
            · exact l
            · exact absurd rs (yl r r1 l)
          subst e1
          exact ⟨rfl, ir_mk H hF hb⟩
      · refine yw_root h x eh ex p2 pm h1 hp x1 xm (fun y y1 yp ys yl => ?_) (fun _ => ⟨rfl, ir_mk H hF hb⟩)
        exfalso
        obtain ⟨i, il, ei⟩ := dl_surj p2 o y1 yp
        rw [← ei] at ys
        exact z (Nat.mod_eq_zero_of_dvd (dl_lin0 ((iff2 i).mp ys)))
    · exfalso
      obtain ⟨i, _, ei⟩ := dl_surj p2 o h1 hp
      exact no i ei
theorem i_vc_roots {k : Nat} {u : SX} {v : SY} (I : i_Rel k u v) (hk : k + 5 ≤ 2560) (v1 : Int32) (v2 : Int32) : wpX_roots (fun r => wpY_roots (fun r' => r' = r ∧ i_Rel (k + 5) u v) v v1 v2) u v1 v2 := by
  obtain ⟨p, F, q, e, R, bs, ts, ky, st, mk, H, hF, hb, rfl, rfl⟩ := I
  have p3 := H.2.1
  have pm := H.2.2
  have p2 : 2 ≤ p := by omega
  unfold wpX_roots
  refine xw_badRoot pm (fun no => br_f (by decide) ?_) (fun h eh h1 hp no => br_f (by decide) ?_) (fun h x eh ex h1 hp x1 xm => br_t rfl ?_)
  · unfold wpY_roots
    exact yw_nunit pm no (br_t rfl ⟨rfl, ir_mk H hF hb⟩)
  · unfold wpY_roots
    refine yw_unit pm h eh h1 hp (br_f (by decide) ?_)
    exact yw_isExp (fun _ => br_t rfl ⟨rfl, ir_mk H hF hb⟩) (fun y ey y1 ym => absurd ⟨y1, ym⟩ (no y ey))
  · have n1 : 0 < p - 1 := by omega
    have d0 : 0 < Nat.gcd x (p - 1) := Nat.gcd_pos_of_pos_right x n1
    have dl := Nat.gcd_le_right x n1
    have dd : (p - 1) / Nat.gcd x (p - 1) ≤ p - 1 := Nat.div_le_self _ _
    have cnt := dl_roots (k := x) H h1 hp
    have Y : ∀ r : Nat, dl_cn (fun i => decide ((i + 1) ^ x % p = h)) (p - 1) = r → wpY_roots (fun r' => r' = nI r ∧ i_Rel (k + 5) (nI p, nI (p - 1), nI F, bs, ts, ky, st) (nI p, mk)) (nI p, mk) v1 v2 := by
      intro r er
      unfold wpY_roots
      refine yw_unit pm h eh h1 hp (br_f (by decide) ?_)
      refine yw_isExp (fun no => absurd ⟨x1, xm⟩ (no x ex)) (fun _ _ _ _ => br_f (by decide) ⟨p, ?_⟩)
      subst eh ex
      refine yw_roots_23 p2 pm hp (by omega) ?_ (p - 1) 0 (by omega) p (by omega)
      rw [er]
      exact ⟨rfl, ir_mk H hF hb⟩
    refine xw_gcd x (p - 1) ex rfl (by omega) (by omega) ?_
    refine br_t (nI_le (a := 1) d0 (by omega)) ⟨nI_ne0 d0 (by omega), ?_⟩
    have hl : h ^ ((p - 1) / Nat.gcd x (p - 1)) % p < p := Nat.mod_lt _ (by omega)
    refine xw_pow h ((p - 1) / Nat.gcd x (p - 1)) _ eh (pk_div (by omega) d0 (by omega)) rfl p2 pm hp (by omega) ?_
    refine pk_eq (h ^ ((p - 1) / Nat.gcd x (p - 1)) % p) 1 (fun z => ?_) (fun z => ?_)
    · rw [if_pos z] at cnt
      exact Y _ cnt
    · rw [if_neg z] at cnt
      exact Y _ cnt
end
section
theorem i_vc_logWith {k : Nat} {u : SX} {v : SY} (I : i_Rel k u v) (hk : k + 5 ≤ 2560) (v1 : Int32) (v2 : Int32) (v3 : Int32) (v4 : Int32) : wpX_logWith (fun r u' => wpY_logWith (fun r' => r' = r ∧ i_Rel (k + 5) u' v) v v1 v2 v3 v4) u v1 v2 v3 v4 := by
  obtain ⟨p, F, q, e, R, bs, ts, ky, st, mk, H, hF, hb, rfl, rfl⟩ := I
  have p3 := H.2.1
  have pm := H.2.2
  have p2 : 2 ≤ p := by omega
  unfold wpX_logWith
  refine xw_notUnit pm (fun no => br_f (by decide) ?_) (fun g eg g1 gp => br_t rfl ?_)
  · unfold wpY_logWith
    exact yw_nunit pm no (br_t rfl ⟨rfl, ir_mk H hF hb⟩)
  · refine xw_notUnit pm (fun no => br_f (by decide) ?_) (fun h eh h1 hp => br_t rfl ?_)
    · unfold wpY_logWith
      exact yw_unit pm g eg g1 gp (br_f (by decide) (yw_nunit pm no (br_t rfl ⟨rfl, ir_mk H hF hb⟩)))
    · have Y0 : ∀ post : Int32 → Prop, ((v4 < 1 → post (-1)) ∧ (¬ v4 < 1 → ((60 < v4 → post (-1)) ∧ (¬ 60 < v4 → ((v3 < 0 → post (-1)) ∧ (¬ v3 < 0 → ((v3 < v4 → (∃ n47 : Nat, wY_logWith_47 post v1 v2 v3 v4 (nI p) mk n47 1 0)) ∧ (¬ v3 < v4 → post (-1))))))))) → wpY_logWith post (nI p, mk) v1 v2 v3 v4 := by
        intro post w
        unfold wpY_logWith
        exact yw_unit pm g eg g1 gp (br_f (by decide) (yw_unit pm h eh h1 hp (br_f (by decide) w)))
      by_cases c1 : v4 < 1
      · exact br_t c1 (Y0 _ (br_t c1 ⟨rfl, ir_mk H hF hb⟩))
      refine br_f c1 ?_
      by_cases c2 : 60 < v4
      · exact br_t c2 (Y0 _ (br_f c1 (br_t c2 ⟨rfl, ir_mk H hF hb⟩)))
      refine br_f c2 ?_
      by_cases c3 : v3 < 0
      · exact br_t c3 (Y0 _ (br_f c1 (br_f c2 (br_t c3 ⟨rfl, ir_mk H hF hb⟩))))
      refine br_f c3 ?_
      by_cases c4 : v3 < v4
      case neg => exact br_f c4 (Y0 _ (br_f c1 (br_f c2 (br_f c3 (br_f c4 ⟨rfl, ir_mk H hF hb⟩)))))
      refine br_t c4 ?_
      obtain ⟨w, wm, rfl⟩ := nI_of (x := v4) (fun z => c1 (Int32.lt_trans z (by decide)))
      obtain ⟨r, rm, rfl⟩ := nI_of (x := v3) c3
      have w1 : 1 ≤ w := by
        rcases Nat.eq_zero_or_pos w with z | z
        · rw [z] at c1
          exact absurd (show (nI 0 : Int32) < 1 by decide) c1
        · exact z
      have w60 : w ≤ 60 := by
        rcases Nat.lt_or_ge 60 w with l | l
        · exact absurd (nI_lt (a := 60) l wm) c2
        · exact l
      have rw1 : r < w := (nI_ltI rm wm).mp c4
      have o := dl_o_spec H g1 gp
      have ol := dl_o_le H g1 gp
      generalize dl_o p g = n at o ol
      have n1 := o.1
      have Y : ∀ post : Int32 → Prop, (∀ x, x < (p - 1) * w → g ^ x % p = h → x % w = r → (∀ y, y < x → ¬ (g ^ y % p = h ∧ y % w = r)) → post (nI x)) → ((∀ x, x < (p - 1) * w → ¬ (g ^ x % p = h ∧ x % w = r)) → post (-4)) → wpY_logWith post (nI p, mk) v1 v2 (nI r) (nI w) := by
        intro post hs hn
        refine Y0 post (br_f c1 (br_f c2 (br_f c3 (br_t c4 ⟨(p - 1) * w + 1, ?_⟩))))
        subst eg eh
        have W := yw_logWith_47 (mk := mk) p2 pm gp hp w1 w60 rw1 hs hn ((p - 1) * w) 0 (by omega) (fun y yl => by omega) ((p - 1) * w + 1) (by omega)
        rw [Nat.pow_zero, Nat.mod_eq_of_lt (show 1 < p by omega)] at W
        exact W
      refine xw_leastLog g h n eg eh H hF hb g1 gp h1 hp o (fun X ky2 st2 X1 X2 => ?_) (fun no => ?_)
      · refine br_t (nI_pos' (by omega)) ?_
        refine xw_orderOf g n eg H hF hb g1 gp o ?_
        have d0 : 0 < Nat.gcd n w := Nat.gcd_pos_of_pos_right n w1
        have dl := Nat.gcd_le_right n w1
        refine xw_gcd n w rfl rfl (by omega) (by omega) ⟨nI_ne0 w1 wm, ?_⟩
        refine xw_gap (W := fun z => wX_logWith_95 (fun r_1 u' => wpY_logWith (fun r' => r' = r_1 ∧ i_Rel (k + 5) u' (nI p, mk)) (nI p, mk) v1 v2 (nI r) (nI w)) (nI w) (nI X) (nI n) (nI (Nat.gcd n w)) z (nI p) (nI (p - 1)) (nI F) bs ts ky2 st2) (by omega) (by omega) w1 (by omega) fun gap gl ge => ?_
        have LW := fun y => dl_lw p2 o X1 X2 rw1 ge y
        have nz : ¬ nI (Nat.gcd n w) = 0 := nI_ne0 d0 (by omega)
        refine br_f (nI_nlt (b := 1) d0 (by omega)) ⟨nz, ?_⟩
        refine pk_eq (gap % Nat.gcd n w) 0 (fun z => ?_) (fun z => ?_) (pk_rem (by omega) d0 (by omega)) rfl (Nat.lt_of_le_of_lt (Nat.mod_le _ _) (by omega))
        · obtain ⟨n', m, hn', hm, hc, m0, dn, dw⟩ := dl_gcd_div (k := n) w1
          have ml : m ≤ w := by
            rw [← dw]
            exact Nat.div_le_self _ _
          have nl : n' ≤ n := by
            rw [← dn]
            exact Nat.div_le_self _ _
          obtain ⟨a', ha⟩ := Nat.dvd_of_mod_eq_zero z
          have al : gap / Nat.gcd n w = a' := by rw [ha, Nat.mul_div_cancel_left _ d0]
          have al2 : a' ≤ gap := by
            rw [← al]
            exact Nat.div_le_self _ _
          refine ⟨nz, nm_r (e' := nI m) (by rw [pk_div wm d0 (by omega), dw]) ⟨nz, ?_⟩⟩
          refine xw_invertBy n' m (by rw [pk_div (by omega) d0 (by omega), dn]) rfl (by omega) m0 (by omega) hc fun s sl se => ⟨nz, ?_⟩
          refine xw_timesBy a' s m (by rw [pk_div (by omega) d0 (by omega), al]) rfl rfl (by omega) (by omega) m0 (by omega) ?_
          rw [pk_mul, nI_add]
          have tl := Nat.mod_lt (a' * s) m0
          have sol : ∀ t, t * n % w = gap % w ↔ t % m = a' * s % m := by
            intro t
            generalize Nat.gcd n w = d at *
            rw [hn', hm, ha]
            exact dl_lin d0 se t
          have ok := (LW (X + n * (a' * s % m))).mpr ⟨_, rfl, (sol _).mpr (Nat.mod_mod _ _)⟩
          have bd : X + n * (a' * s % m) < (p - 1) * w := by
            have b1 : n * (a' * s % m + 1) ≤ n * w := Nat.mul_le_mul_left n (by omega)
            have b2 : n * w ≤ (p - 1) * w := Nat.mul_le_mul_right w ol
            rw [Nat.mul_add, Nat.mul_one] at b1
            omega
          have least : ∀ y, (g ^ y % p = h ∧ y % w = r) → X + n * (a' * s % m) ≤ y := by
            intro y hy
            obtain ⟨t, et, ht⟩ := (LW y).mp hy
            have e1 := (sol t).mp ht
            have e2 : a' * s % m ≤ t := by
              rw [← e1]
              exact Nat.mod_le _ _
            have := Nat.mul_le_mul_left n e2
            omega
          refine Y _ (fun y yl y1 y2 y3 => ?_) (fun no => absurd ok (no _ bd))
          have e1 : y = X + n * (a' * s % m) := by
            rcases Nat.lt_or_ge (X + n * (a' * s % m)) y with l | l
            · exact absurd ok (y3 _ l)
            · have := least y ⟨y1, y2⟩
              omega
          rw [e1]
          exact ⟨rfl, ir_mk H hF hb⟩
        · refine Y _ (fun y yl y1 y2 y3 => ?_) (fun _ => ⟨rfl, ir_mk H hF hb⟩)
          exfalso
          obtain ⟨t, et, ht⟩ := (LW y).mp ⟨y1, y2⟩
          exact z (Nat.mod_eq_zero_of_dvd (dl_lin0 ht))
      · refine br_f (by decide) ?_
        exact Y _ (fun y yl y1 y2 y3 => absurd y1 (no y)) (fun _ => ⟨rfl, ir_mk H hF hb⟩)
theorem i_vc_common {k : Nat} {u : SX} {v : SY} (I : i_Rel k u v) (hk : k + 5 ≤ 2560) (v1 : Int32) (v2 : Int32) : wpX_common (fun r => wpY_common (fun r' v' => r' = r ∧ i_Rel (k + 5) u v') v v1 v2) u v1 v2 := by
  obtain ⟨p, F, q, e, R, bs, ts, ky, st, mk, H, hF, hb, rfl, rfl⟩ := I
  have p3 := H.2.1
  have pm := H.2.2
  have p2 : 2 ≤ p := by omega
  unfold wpX_common
  refine xw_notUnit pm (fun no => br_f (by decide) ?_) (fun g eg g1 gp => br_t rfl ?_)
  · unfold wpY_common
    exact yw_nunit pm no (br_t rfl ⟨rfl, ir_mk H hF hb⟩)
  · refine xw_notUnit pm (fun no => br_f (by decide) ?_) (fun h eh h1 hp => br_t rfl ?_)
    · unfold wpY_common
      exact yw_unit pm g eg g1 gp (br_f (by decide) (yw_nunit pm no (br_t rfl ⟨rfl, ir_mk H hF hb⟩)))
    · have oa := dl_o_spec H g1 gp
      have ob := dl_o_spec H h1 hp
      have la := dl_o_le H g1 gp
      have lb := dl_o_le H h1 hp
      refine xw_orderOf g _ eg H hF hb g1 gp oa ?_
      refine xw_orderOf h _ eh H hF hb h1 hp ob ?_
      refine xw_gcd (dl_o p g) (dl_o p h) rfl rfl (by omega) (by omega) ?_
      unfold wpY_common
      refine yw_unit pm g eg g1 gp (br_f (by decide) (yw_unit pm h eh h1 hp (br_f (by decide) ⟨p + 1, ?_⟩)))
      subst eg eh
      refine yw_com_20 pm (fun mk0 hm0 => ⟨p, ?_⟩) p 0 (by omega) mk (fun u ul => by omega) (p + 1) (by omega)
      have W := yw_com_46 (post := fun r' v' => r' = nI (Nat.gcd (dl_o p g) (dl_o p h)) ∧ i_Rel (k + 5) (nI p, nI (p - 1), nI F, bs, ts, ky, st) v') H g1 gp h1 hp ob (fun mk2 hm2 => ⟨by rw [dl_common H g1 gp h1 hp oa ob hm2], ir_mk H hF hb⟩) (p - 1) 0 (by omega) mk0 (fun u up => ⟨fun z => absurd (hm0 u up) z, fun ⟨i, il, _⟩ => by omega⟩) p (by omega)
      rw [Nat.pow_zero, Nat.mod_eq_of_lt (show 1 < p by omega)] at W
      exact W
theorem ir_pos {v1 : Int32} (c : ¬ v1 < 1) : ∃ d, v1 = nI d ∧ 1 ≤ d ∧ d < 2 ^ 31 := by
  obtain ⟨d, dm, rfl⟩ := nI_of (x := v1) (fun z => c (Int32.lt_trans z (by decide)))
  refine ⟨d, rfl, ?_, dm⟩
  rcases Nat.eq_zero_or_pos d with z | z
  · rw [z] at c
    exact absurd (show (nI 0 : Int32) < 1 by decide) c
  · exact z
theorem i_vc_unitOfOrder {k : Nat} {u : SX} {v : SY} (I : i_Rel k u v) (hk : k + 5 ≤ 2560) (v1 : Int32) : wpX_unitOfOrder (fun r => wpY_unitOfOrder (fun r' => r' = r ∧ i_Rel (k + 5) u v) v v1) u v1 := by
  obtain ⟨p, F, q, e, R, bs, ts, ky, st, mk, H, hF, hb, rfl, rfl⟩ := I
  have p3 := H.2.1
  have pm := H.2.2
  have p2 : 2 ≤ p := by omega
  by_cases c : v1 < 1
  · have c' : ¬ 1 ≤ v1 := Int32.not_le.mpr c
    exact br_f c' (br_f c' ⟨rfl, ir_mk H hF hb⟩)
  · obtain ⟨d, rfl, d1, dm⟩ := ir_pos c
    have n1 : 0 < p - 1 := by omega
    refine br_t (nI_le (a := 1) d1 dm) (pk_lt (p - 1) d (fun l => ?_) (fun l => ⟨nI_ne0 d1 dm, ?_⟩))
    · refine yw_unitOfOrder d rfl d1 dm H (fun u u1 up eu _ => ?_) (fun _ => ⟨rfl, ir_mk H hF hb⟩)
      exfalso
      have := dl_o_le H u1 up
      omega
    · refine pk_eq ((p - 1) % d) 0 (fun z => ?_) (fun z => ?_) (pk_rem (by omega) d1 dm) rfl (Nat.lt_of_le_of_lt (Nat.mod_le _ _) (by omega))
      · refine xw_generator H hF hb fun g g1 gp o _ => ⟨nI_ne0 d1 dm, ?_⟩
        have cd : (p - 1) / d * d = p - 1 := Nat.div_mul_cancel (Nat.dvd_of_mod_eq_zero z)
        have cl : (p - 1) / d ≤ p - 1 := Nat.div_le_self _ _
        refine xw_pow g ((p - 1) / d) _ rfl (pk_div (by omega) d1 dm) rfl p2 pm gp (by omega) ⟨d + 1, ?_⟩
        have od : dl_Ord p (g ^ ((p - 1) / d) % p) d := by
          refine dl_ord_pow p2 ?_
          rw [cd]
          exact o
        obtain ⟨t1, tp⟩ := dl_ord_unit p2 o ((p - 1) / d)
        generalize g ^ ((p - 1) / d) % p = t at od t1 tp
        have W := xw_uoo_56 (post := fun r => wpY_unitOfOrder (fun r' => r' = r ∧ i_Rel (k + 5) (nI p, nI (p - 1), nI F, bs, ts, ky, st) (nI p, mk)) (nI p, mk) (nI d)) (fo := nI (p - 1)) (ff := nI F) (bs := bs) (ts := ts) (ky := ky) (st := st) p2 pm tp d1 (by omega) ?_ d 0 (by omega) p (Nat.le_refl _) (Or.inl fun i hi => by omega) (Or.inl rfl) (fun i hi => by omega) (d + 1) (by omega)
        · rw [Nat.pow_zero, Nat.mod_eq_of_lt (show 1 < p by omega)] at W
          exact W
        · intro r hr hl
          obtain ⟨j, jd, gj, ej⟩ := hr
          obtain ⟨r1, rp⟩ := dl_ord_unit p2 od j
          have or' := dl_ord_cop p2 od gj
          rw [ej] at r1 rp or'
          have er := dl_ord_un (dl_o_spec H r1 rp) or'
          refine yw_unitOfOrder d rfl d1 dm H (fun y y1 yp ey yl => ?_) (fun no => absurd er (no r r1 rp))
          have e1 : y = r := by
            rcases Nat.lt_trichotomy y r with l | l | l
            · exfalso
              have oy := dl_o_spec H y1 yp
              rw [ey] at oy
              obtain ⟨i, il, gi, ei⟩ := dl_ordset H t1 tp od y1 yp oy
              have := hl i il gi
              omega
            · exact l
            · exact absurd er (yl r r1 l)
          subst e1
          exact ⟨rfl, ir_mk H hF hb⟩
      · refine yw_unitOfOrder d rfl d1 dm H (fun u u1 up eu _ => ?_) (fun _ => ⟨rfl, ir_mk H hF hb⟩)
        exfalso
        have := dl_o_dvd H u1 up
        rw [eu] at this
        exact z (Nat.mod_eq_zero_of_dvd this)
theorem i_vc_unitsOfOrder {k : Nat} {u : SX} {v : SY} (I : i_Rel k u v) (hk : k + 5 ≤ 2560) (v1 : Int32) : wpX_unitsOfOrder (fun r => wpY_unitsOfOrder (fun r' => r' = r ∧ i_Rel (k + 5) u v) v v1) u v1 := by
  obtain ⟨p, F, q, e, R, bs, ts, ky, st, mk, H, hF, hb, rfl, rfl⟩ := I
  have p3 := H.2.1
  have pm := H.2.2
  by_cases c : v1 < 1
  · exact br_t c (br_f (Int32.not_le.mpr c) ⟨rfl, ir_mk H hF hb⟩)
  · obtain ⟨d, rfl, d1, dm⟩ := ir_pos c
    have n1 : 0 < p - 1 := by omega
    have none : ¬ d ∣ p - 1 → dl_cn (fun i => decide (dl_o p (i + 1) = d)) (p - 1) = 0 := by
      intro nd
      refine dl_cn_0 fun i hi => decide_eq_false fun ed => nd ?_
      have := dl_o_dvd H (show 1 ≤ i + 1 by omega) (show i + 1 < p by omega)
      rw [ed] at this
      exact this
    have Y : ∀ r : Nat, dl_cn (fun i => decide (dl_o p (i + 1) = d)) (p - 1) = r → wpY_unitsOfOrder (fun r' => r' = nI r ∧ i_Rel (k + 5) (nI p, nI (p - 1), nI F, bs, ts, ky, st) (nI p, mk)) (nI p, mk) (nI d) := by
      intro r er
      refine yw_unitsOfOrder d rfl d1 dm H ?_
      rw [er]
      exact ⟨rfl, ir_mk H hF hb⟩
    refine br_f c (pk_lt (p - 1) d (fun l => ?_) (fun l => ⟨nI_ne0 d1 dm, ?_⟩))
    · exact Y 0 (none fun w => by have := Nat.le_of_dvd n1 w; omega)
    · refine pk_eq ((p - 1) % d) 0 (fun z => ?_) (fun z => ?_) (pk_rem (by omega) d1 dm) rfl (Nat.lt_of_le_of_lt (Nat.mod_le _ _) (by omega))
      · refine xw_totient (q := q) d rfl hF.1 dm (fun f hf => ?_) ?_
        · obtain ⟨a, b, _⟩ := dl_fac_ql hF n1 hf
          exact ⟨(hb f hf).1, by omega, by omega⟩
        · have dd := Nat.dvd_of_mod_eq_zero z
          exact Y _ ((dl_cnt_ord H dd).trans (dl_tot hF dd).symm)
      · exact Y 0 (none fun w => z (Nat.mod_eq_zero_of_dvd w))
end
