section
/-! rows taken from kit/rows (PURE-ROWS, BITS): a starting text -/
theorem pk_us {f : Nat → Int32} {k : Nat} {x : Int32} : upd f k x k = x := if_pos rfl
theorem pk_un {f : Nat → Int32} {k j : Nat} {x : Int32} (h : j ≠ k) : upd f k x j = f j := if_neg h
theorem pk_sub {a b : Nat} (h : b ≤ a) : nI a - nI b = nI (a - b) := by
  obtain ⟨c, rfl⟩ : ∃ c, a = c + b := ⟨a - b, by omega⟩
  rw [← nI_add, Int32.add_sub_cancel, Nat.add_sub_cancel]
theorem pk_m1 (n : Nat) : nI (n + 1) + (-1) = nI n := by
  rw [← nI_1, Int32.add_assoc, show (1 : Int32) + (-1) = 0 from rfl, Int32.add_zero]
theorem pk_mul (a b : Nat) : nI a * nI b = nI (a * b) := (Int32.ofNat_mul a b).symm
theorem pk_div {a d : Nat} (ha : a < 2 ^ 31) (h0 : 0 < d) (hd : d < 2 ^ 31) : nI a / nI d = nI (a / d) := by
  apply Int32.toInt_inj.mp
  rw [lg_idiv_nonneg (by rw [nI_toInt ha]; omega) (by rw [nI_toInt hd]; omega), nI_toInt ha, nI_toInt hd, nI_toInt (Nat.lt_of_le_of_lt (Nat.div_le_self a d) ha)]
  first | rfl | exact (Int.natCast_ediv _ _).symm
theorem pk_rem {a d : Nat} (ha : a < 2 ^ 31) (h0 : 0 < d) (hd : d < 2 ^ 31) : nI a - nI a / nI d * nI d = nI (a % d) := by
  rw [pk_div ha h0 hd, pk_mul, pk_sub (Nat.div_mul_le_self a d)]
  exact congrArg nI (by have := Nat.div_add_mod' a d; omega)
theorem pk_sub_toInt {a b : Nat} (ha : a < 2 ^ 30) (hb : b < 2 ^ 30) : (nI a - nI b).toInt = (a : Int) - b := by
  rw [Int32.toInt_sub, nI_toInt (by omega), nI_toInt (by omega)]
  exact Int.bmod_eq_of_le (by omega) (by omega)
theorem pk_sneg {a b : Nat} (hb : b < 2 ^ 30) (h : a < b) : nI a - nI b < 0 := by
  rw [Int32.lt_iff_toInt_lt, pk_sub_toInt (by omega) hb, show (0 : Int32).toInt = 0 from by decide]
  omega
theorem pk_ix (x : Int32) {n : Nat} (hn : n < 2 ^ 31) : x < 0 ∨ nI n ≤ x ∨ ∃ j : Nat, j < n ∧ x = nI j := by
  by_cases h : x < 0
  · exact Or.inl h
  · obtain ⟨j, hj, rfl⟩ := nI_of h
    by_cases h2 : j < n
    · exact Or.inr (Or.inr ⟨j, h2, rfl⟩)
    · exact Or.inr (Or.inl (nI_le (by omega) hj))
theorem pk_le {x y : Int32} {A B : Prop} (a b : Nat) (f : a ≤ b → A) (g : b < a → B) (hx : x = nI a := by rfl) (hy : y = nI b := by rfl) (ha : a < 2 ^ 31 := by omega) (hb : b < 2 ^ 31 := by omega) : (x ≤ y → A) ∧ (¬ x ≤ y → B) := by
  subst hx hy
  rw [nI_leI ha hb]
  exact ⟨f, fun z => g (by omega)⟩
theorem pk_lt {x y : Int32} {A B : Prop} (a b : Nat) (f : a < b → A) (g : b ≤ a → B) (hx : x = nI a := by rfl) (hy : y = nI b := by rfl) (ha : a < 2 ^ 31 := by omega) (hb : b < 2 ^ 31 := by omega) : (x < y → A) ∧ (¬ x < y → B) := by
  subst hx hy
  rw [nI_ltI ha hb]
  exact ⟨f, fun z => g (by omega)⟩
theorem pk_eq {x y : Int32} {A B : Prop} (a b : Nat) (f : a = b → A) (g : a ≠ b → B) (hx : x = nI a := by rfl) (hy : y = nI b := by rfl) (ha : a < 2 ^ 31 := by omega) (hb : b < 2 ^ 31 := by omega) : (x = y → A) ∧ (¬ x = y → B) := by
  subst hx hy
  rw [nI_eq ha hb]
  exact ⟨f, g⟩
theorem pk_in {x : Int32} (n N : Nat) (h : n < N) (hx : x = nI n := by rfl) (hN : N < 2 ^ 31 := by omega) : vp_in x N := by
  subst hx
  exact vp_in_nI h hN
theorem pk_cl {x : Int32} (n : Nat) (hx : x = nI n := by rfl) (h : n < 2 ^ 31 := by omega) : x.toNatClampNeg = n := by
  subst hx
  exact nI_clamp h
theorem pk_tn {n : Nat} (h : n < 2 ^ 32) : (nI n).toBitVec.toNat = n := Nat.mod_eq_of_lt h
theorem pk_and (x : Int32) {m : Int32} (k : Nat) (hm : m.toBitVec.toNat = 2 ^ k - 1) : x &&& m = nI (x.toBitVec.toNat % 2 ^ k) := by
  apply Int32.toBitVec_inj.mp
  apply BitVec.eq_of_toNat_eq
  rw [Int32.toBitVec_and, BitVec.toNat_and, hm, Nat.and_two_pow_sub_one_eq_mod]
  show _ = (BitVec.ofNat 32 _).toNat
  rw [BitVec.toNat_ofNat]
  exact (Nat.mod_eq_of_lt (Nat.lt_of_le_of_lt (Nat.mod_le _ _) x.toBitVec.isLt)).symm
theorem pk_andN {n : Nat} (h : n < 2 ^ 32) {m : Int32} (k : Nat) (hm : m.toBitVec.toNat = 2 ^ k - 1) : nI n &&& m = nI (n % 2 ^ k) := by
  rw [pk_and _ k hm, pk_tn h]
theorem pk_andE (x : Int32) {m : Int32} (k : Nat) (hm : m.toBitVec.toNat = 2 ^ k - 1) : ∃ j : Nat, j < 2 ^ k ∧ x &&& m = nI j := ⟨_, Nat.mod_lt _ (Nat.two_pow_pos k), pk_and x k hm⟩
theorem pk_andIn (x : Int32) {m : Int32} (k : Nat) (hm : m.toBitVec.toNat = 2 ^ k - 1) (hk : k ≤ 30) : vp_in (x &&& m) (2 ^ k) := by
  obtain ⟨j, hj, e⟩ := pk_andE x k hm
  rw [e]
  exact vp_in_nI hj (Nat.lt_of_le_of_lt (Nat.pow_le_pow_right (by decide) hk) (by decide))
theorem pk_shl (a s : Int32) (k : Nat) (hs : (s.toBitVec.smod 32).toNat = k) : (a <<< s).toBitVec.toNat = a.toBitVec.toNat * 2 ^ k % 2 ^ 32 := by
  show (a.toBitVec <<< (s.toBitVec.smod 32).toNat).toNat = _
  rw [hs, BitVec.toNat_shiftLeft, Nat.shiftLeft_eq]
theorem pk_shlN {n : Nat} (s : Int32) (k : Nat) (hs : (s.toBitVec.smod 32).toNat = k) (h : n * 2 ^ k < 2 ^ 32) : nI n <<< s = nI (n * 2 ^ k) := by
  apply Int32.toBitVec_inj.mp
  apply BitVec.eq_of_toNat_eq
  have hn : n < 2 ^ 32 := Nat.lt_of_le_of_lt (Nat.le_mul_of_pos_right n (Nat.two_pow_pos k)) h
  rw [pk_shl _ _ k hs, pk_tn hn, pk_tn h, Nat.mod_eq_of_lt h]
theorem pk_shr (a s : Int32) (k : Nat) (hs : (s.toBitVec.smod 32).toNat = k) : (a >>> s).toInt = a.toInt >>> k := by
  show (a.toBitVec.sshiftRight (s.toBitVec.smod 32).toNat).toInt = _
  rw [hs, BitVec.toInt_sshiftRight]
  rfl
theorem pk_shrN {n : Nat} (h : n < 2 ^ 31) (s : Int32) (k : Nat) (hs : (s.toBitVec.smod 32).toNat = k) : nI n >>> s = nI (n / 2 ^ k) := by
  apply Int32.toInt_inj.mp
  have h2 : n / 2 ^ k ≤ n := Nat.div_le_self _ _
  rw [pk_shr _ _ k hs, nI_toInt h, nI_toInt (by omega), Int.shiftRight_eq_div_pow]
  rfl
theorem s_l : ∀ n, n < 32 → ((nI n &&& 31).toBitVec.smod 32).toNat = n := by decide +kernel
theorem nx_and (a b : Nat) : nI a &&& nI b = nI (a &&& b) := by
  apply Int32.toBitVec_inj.1
  show BitVec.ofNat 32 a &&& BitVec.ofNat 32 b = BitVec.ofNat 32 (a &&& b)
  apply BitVec.eq_of_getLsbD_eq
  intro i hi
  simp [hi]
end
section
/-! the machines, plainly: places p = 6 m + s, one step, a code's goal G and answers T, alike up to k letters E -/
def mm_st (N : Nat → Nat) (p a : Nat) : Nat := 6 * (p / 6) + N (2 * p + a)
def mm_G (N : Nat → Nat) (p c : Nat) : Nat := if h : c ≤ 1 then p else mm_st N (mm_G N p (c / 2)) (c % 2)
termination_by c
decreasing_by omega
def mm_T (N A : Nat → Nat) (p c : Nat) : Nat := if h : c ≤ 1 then 0 else 4 * mm_T N A p (c / 2) + A (2 * mm_G N p (c / 2) + c % 2)
termination_by c
decreasing_by omega
theorem mm_G1 (N : Nat → Nat) (p : Nat) : mm_G N p 1 = p := by
  rw [mm_G.eq_def N p 1, dif_pos (by omega)]
theorem mm_T1 (N A : Nat → Nat) (p : Nat) : mm_T N A p 1 = 0 := by
  rw [mm_T.eq_def N A p 1, dif_pos (by omega)]
theorem mm_G2 (N : Nat → Nat) (p : Nat) {c a : Nat} (hc : 1 ≤ c) (ha : a < 2) : mm_G N p (2 * c + a) = mm_st N (mm_G N p c) a := by
  rw [mm_G.eq_def N p (2 * c + a), dif_neg (by omega), show (2 * c + a) / 2 = c by omega, show (2 * c + a) % 2 = a by omega]
theorem mm_T2 (N A : Nat → Nat) (p : Nat) {c a : Nat} (hc : 1 ≤ c) (ha : a < 2) : mm_T N A p (2 * c + a) = 4 * mm_T N A p c + A (2 * mm_G N p c + a) := by
  rw [mm_T.eq_def N A p (2 * c + a), dif_neg (by omega), show (2 * c + a) / 2 = c by omega, show (2 * c + a) % 2 = a by omega]
/-- a word behind a word -/
theorem mm_GT (N A : Nat → Nat) (p : Nat) {c : Nat} (hc : 1 ≤ c) : ∀ k r, r < 2 ^ k → mm_G N p (c * 2 ^ k + r) = mm_G N (mm_G N p c) (2 ^ k + r) ∧ mm_T N A p (c * 2 ^ k + r) = mm_T N A p c * 4 ^ k + mm_T N A (mm_G N p c) (2 ^ k + r) := by
  intro k
  induction k with
  | zero =>
    intro r hr
    have e : r = 0 := by simpa using hr
    subst e
    constructor
    · rw [Nat.pow_zero, Nat.mul_one, Nat.add_zero, Nat.add_zero, mm_G1]
    · simp only [Nat.pow_zero, Nat.mul_one, Nat.add_zero, mm_T1]
  | succ k ih =>
    intro r hr
    have hw : 0 < 2 ^ k := Nat.two_pow_pos k
    have hp : 2 ^ (k + 1) = 2 * 2 ^ k := by rw [Nat.pow_succ, Nat.mul_comm]
    have hq : c * 2 ^ (k + 1) = 2 * (c * 2 ^ k) := by rw [hp, ← Nat.mul_assoc, Nat.mul_comm c 2, Nat.mul_assoc]
    have h4 : mm_T N A p c * 4 ^ (k + 1) = 4 * (mm_T N A p c * 4 ^ k) := by rw [Nat.pow_succ, ← Nat.mul_assoc, Nat.mul_comm]
    have hcw : 1 ≤ c * 2 ^ k := Nat.mul_pos hc hw
    have h2 : r / 2 < 2 ^ k := by omega
    have e1 : c * 2 ^ (k + 1) + r = 2 * (c * 2 ^ k + r / 2) + r % 2 := by omega
    have e2 : 2 ^ (k + 1) + r = 2 * (2 ^ k + r / 2) + r % 2 := by omega
    have ha : r % 2 < 2 := Nat.mod_lt _ (by decide)
    obtain ⟨i1, i2⟩ := ih (r / 2) h2
    constructor
    · rw [e1, e2, mm_G2 N _ (by omega) ha, mm_G2 N _ (by omega) ha, i1]
    · rw [e1, e2, mm_T2 N A _ (by omega) ha, mm_T2 N A _ (by omega) ha, i1, i2, h4]
      omega
theorem mm_Tb {N A : Nat → Nat} (hA : ∀ k, A k < 4) : ∀ k r p, r < 2 ^ k → mm_T N A p (2 ^ k + r) < 4 ^ k := by
  intro k
  induction k with
  | zero =>
    intro r p hr
    have e : r = 0 := by simpa using hr
    subst e
    rw [Nat.pow_zero, Nat.add_zero, mm_T1]; decide
  | succ k ih =>
    intro r p hr
    have hw : 0 < 2 ^ k := Nat.two_pow_pos k
    have hp : 2 ^ (k + 1) = 2 * 2 ^ k := by rw [Nat.pow_succ, Nat.mul_comm]
    have h2 : r / 2 < 2 ^ k := by omega
    have e2 : 2 ^ (k + 1) + r = 2 * (2 ^ k + r / 2) + r % 2 := by omega
    have ha : r % 2 < 2 := Nat.mod_lt _ (by decide)
    rw [e2, mm_T2 N A _ (by omega) ha]
    have i := ih (r / 2) p h2
    have j := hA (2 * mm_G N p (2 ^ k + r / 2) + r % 2)
    rw [Nat.pow_succ]
    omega
theorem mm_cd {c : Nat} (h : 1 ≤ c) : ∃ k r, r < 2 ^ k ∧ c = 2 ^ k + r := by
  have h1 : 2 ^ c.log2 ≤ c := Nat.log2_self_le (by omega)
  have h2 : c < 2 ^ (c.log2 + 1) := Nat.lt_log2_self
  rw [Nat.pow_succ] at h2
  exact ⟨c.log2, c - 2 ^ c.log2, by omega, by omega⟩
theorem mm_T3 (N A : Nat → Nat) (p : Nat) {a k r : Nat} (ha : a < 2) (hr : r < 2 ^ k) : mm_T N A p ((2 + a) * 2 ^ k + r) = A (2 * p + a) * 4 ^ k + mm_T N A (mm_st N p a) (2 ^ k + r) := by
  rw [(mm_GT N A p (c := 2 + a) (by omega) k r hr).2]
  have e : 2 + a = 2 * 1 + a := by omega
  rw [e, mm_T2 N A p (by omega) ha, mm_G2 N p (by omega) ha, mm_T1, mm_G1, Nat.mul_zero, Nat.zero_add]
theorem mm_dig {x y t s w : Nat} (ht : t < w) (hs : s < w) (h : x * w + t = y * w + s) : x = y ∧ t = s := by
  have hx : (x * w + t) / w = x := by rw [Nat.mul_comm, Nat.mul_add_div (by omega), Nat.div_eq_of_lt ht, Nat.add_zero]
  have hy : (y * w + s) / w = y := by rw [Nat.mul_comm, Nat.mul_add_div (by omega), Nat.div_eq_of_lt hs, Nat.add_zero]
  have e : x = y := by rw [← hx, ← hy, h]
  subst e
  exact ⟨rfl, by omega⟩
def mm_E (N A : Nat → Nat) : Nat → Nat → Nat → Prop
  | 0, _, _ => True
  | k + 1, p, q => A (2 * p) = A (2 * q) ∧ A (2 * p + 1) = A (2 * q + 1) ∧ mm_E N A k (mm_st N p 0) (mm_st N q 0) ∧ mm_E N A k (mm_st N p 1) (mm_st N q 1)
theorem mm_E0 (N A : Nat → Nat) (p q : Nat) : mm_E N A 0 p q := by unfold mm_E; trivial
theorem mm_ES (N A : Nat → Nat) (k p q : Nat) : mm_E N A (k + 1) p q ↔ A (2 * p) = A (2 * q) ∧ A (2 * p + 1) = A (2 * q + 1) ∧ mm_E N A k (mm_st N p 0) (mm_st N q 0) ∧ mm_E N A k (mm_st N p 1) (mm_st N q 1) := Iff.rfl
theorem mm_E_rf (N A : Nat → Nat) : ∀ k p, mm_E N A k p p := by
  intro k
  induction k with
  | zero => exact fun p => mm_E0 N A p p
  | succ k ih => exact fun p => ⟨rfl, rfl, ih _, ih _⟩
theorem mm_E_sy {N A : Nat → Nat} : ∀ {k p q}, mm_E N A k p q → mm_E N A k q p := by
  intro k
  induction k with
  | zero => exact fun {p q} _ => mm_E0 N A q p
  | succ k ih => exact fun {p q} h => ⟨h.1.symm, h.2.1.symm, ih h.2.2.1, ih h.2.2.2⟩
theorem mm_E_tr {N A : Nat → Nat} : ∀ {k p q r}, mm_E N A k p q → mm_E N A k q r → mm_E N A k p r := by
  intro k
  induction k with
  | zero => exact fun {p q r} _ _ => mm_E0 N A p r
  | succ k ih => exact fun {p q r} h g => ⟨h.1.trans g.1, h.2.1.trans g.2.1, ih h.2.2.1 g.2.2.1, ih h.2.2.2 g.2.2.2⟩
theorem mm_E_dn {N A : Nat → Nat} : ∀ {k p q}, mm_E N A (k + 1) p q → mm_E N A k p q := by
  intro k
  induction k with
  | zero => exact fun {p q} _ => mm_E0 N A p q
  | succ k ih => exact fun {p q} h => ⟨h.1, h.2.1, ih h.2.2.1, ih h.2.2.2⟩
theorem mm_E_le {N A : Nat → Nat} {j p q : Nat} : ∀ d, mm_E N A (j + d) p q → mm_E N A j p q := by
  intro d
  induction d with
  | zero => exact fun h => h
  | succ d ih => exact fun h => ih (mm_E_dn h)
theorem mm_E_mono {N A : Nat → Nat} {j k p q : Nat} (h : j ≤ k) (e : mm_E N A k p q) : mm_E N A j p q := by
  obtain ⟨d, rfl⟩ : ∃ d, k = j + d := ⟨k - j, by omega⟩
  exact mm_E_le d e
theorem mm_E_at {N A : Nat → Nat} {k p q a : Nat} (ha : a < 2) (h : mm_E N A (k + 1) p q) : A (2 * p + a) = A (2 * q + a) ∧ mm_E N A k (mm_st N p a) (mm_st N q a) := by
  rcases (show a = 0 ∨ a = 1 by omega) with rfl | rfl
  · exact ⟨h.1, h.2.2.1⟩
  · exact ⟨h.2.1, h.2.2.2⟩
theorem mm_E_mk {N A : Nat → Nat} {k p q : Nat} (h : ∀ a, a < 2 → A (2 * p + a) = A (2 * q + a) ∧ mm_E N A k (mm_st N p a) (mm_st N q a)) : mm_E N A (k + 1) p q :=
  ⟨(h 0 (by decide)).1, (h 1 (by decide)).1, (h 0 (by decide)).2, (h 1 (by decide)).2⟩
/-- alike up to k letters: the same answers to every word of k letters -/
theorem mm_ET {N A : Nat → Nat} (hA : ∀ k, A k < 4) : ∀ k p q, mm_E N A k p q ↔ ∀ r, r < 2 ^ k → mm_T N A p (2 ^ k + r) = mm_T N A q (2 ^ k + r) := by
  intro k
  induction k with
  | zero =>
    intro p q
    refine ⟨fun _ r hr => ?_, fun _ => mm_E0 N A p q⟩
    have e : r = 0 := by simpa using hr
    subst e
    rw [Nat.pow_zero, Nat.add_zero, mm_T1, mm_T1]
  | succ k ih =>
    intro p q
    have hw : 0 < 2 ^ k := Nat.two_pow_pos k
    have hp : 2 ^ (k + 1) = 2 * 2 ^ k := by rw [Nat.pow_succ, Nat.mul_comm]
    constructor
    · intro h r hr
      obtain ⟨a, s, ha, hs, e⟩ : ∃ a s, a < 2 ∧ s < 2 ^ k ∧ 2 ^ (k + 1) + r = (2 + a) * 2 ^ k + s := by
        by_cases hl : r < 2 ^ k
        · exact ⟨0, r, by decide, hl, by omega⟩
        · refine ⟨1, r - 2 ^ k, by decide, by omega, ?_⟩
          have : (2 + 1) * 2 ^ k = 3 * 2 ^ k := rfl
          omega
      obtain ⟨h1, h2⟩ := mm_E_at ha h
      rw [e, mm_T3 N A p ha hs, mm_T3 N A q ha hs, h1, (ih _ _).mp h2 s hs]
    · intro h
      refine mm_E_mk fun a ha => ?_
      have key : ∀ s, s < 2 ^ k → A (2 * p + a) = A (2 * q + a) ∧ mm_T N A (mm_st N p a) (2 ^ k + s) = mm_T N A (mm_st N q a) (2 ^ k + s) := by
        intro s hs
        have e : ∃ r, r < 2 ^ (k + 1) ∧ (2 + a) * 2 ^ k + s = 2 ^ (k + 1) + r := by
          rcases (show a = 0 ∨ a = 1 by omega) with rfl | rfl
          · exact ⟨s, by omega, by omega⟩
          · refine ⟨2 ^ k + s, by omega, ?_⟩
            have : (2 + 1) * 2 ^ k = 3 * 2 ^ k := rfl
            omega
        obtain ⟨r, hr, e⟩ := e
        have t := h r hr
        rw [← e, mm_T3 N A p ha hs, mm_T3 N A q ha hs] at t
        exact mm_dig (mm_Tb hA k s _ hs) (mm_Tb hA k s _ hs) t
      exact ⟨(key 0 hw).1, (ih _ _).mpr fun s hs => (key s hs).2⟩
/-- alike -/
def mm_Q (N A : Nat → Nat) (p q : Nat) : Prop := ∀ k, mm_E N A k p q
theorem mm_QT {N A : Nat → Nat} (hA : ∀ k, A k < 4) {p q : Nat} (h : mm_Q N A p q) {c : Nat} (hc : 1 ≤ c) : mm_T N A p c = mm_T N A q c := by
  obtain ⟨k, r, hr, rfl⟩ := mm_cd hc
  exact (mm_ET hA k p q).mp (h k) r hr
theorem mm_Q_rf (N A : Nat → Nat) (p : Nat) : mm_Q N A p p := fun k => mm_E_rf N A k p
theorem mm_Q_sy {N A : Nat → Nat} {p q : Nat} (h : mm_Q N A p q) : mm_Q N A q p := fun k => mm_E_sy (h k)
theorem mm_Q_tr {N A : Nat → Nat} {p q r : Nat} (h : mm_Q N A p q) (g : mm_Q N A q r) : mm_Q N A p r := fun k => mm_E_tr (h k) (g k)
theorem mm_Q_st {N A : Nat → Nat} {p q a : Nat} (ha : a < 2) (h : mm_Q N A p q) : mm_Q N A (mm_st N p a) (mm_st N q a) := fun k => (mm_E_at ha (h (k + 1))).2
/-- r is the first code with different answers, 0 if there is none -/
def mm_P (N A : Nat → Nat) (p q r : Nat) : Prop := (r = 0 ∧ mm_Q N A p q) ∨ (1 ≤ r ∧ mm_T N A p r ≠ mm_T N A q r ∧ ∀ c, 1 ≤ c → c < r → mm_T N A p c = mm_T N A q c)
theorem mm_P_u {N A : Nat → Nat} (hA : ∀ k, A k < 4) {p q r s : Nat} (h : mm_P N A p q r) (g : mm_P N A p q s) : r = s := by
  rcases h with ⟨h0, hq⟩ | ⟨h1, h2, h3⟩
  · rcases g with ⟨g0, gq⟩ | ⟨g1, g2, g3⟩
    · omega
    · exact absurd (mm_QT hA hq g1) g2
  · rcases g with ⟨g0, gq⟩ | ⟨g1, g2, g3⟩
    · exact absurd (mm_QT hA gq h1) h2
    · rcases Nat.lt_trichotomy r s with l | l | l
      · exact absurd (g3 r h1 l) h2
      · exact l
      · exact absurd (h3 s g1 l) g2
theorem mm_P_0 {N A : Nat → Nat} (hA : ∀ k, A k < 4) {p q r : Nat} (h : mm_P N A p q r) : r = 0 ↔ mm_Q N A p q := by
  rcases h with ⟨h0, hq⟩ | ⟨h1, h2, h3⟩
  · exact ⟨fun _ => hq, fun _ => h0⟩
  · exact ⟨fun e => by omega, fun e => absurd (mm_QT hA e h1) h2⟩
theorem mm_P_sy {N A : Nat → Nat} {p q r : Nat} (h : mm_P N A p q r) : mm_P N A q p r := by
  rcases h with ⟨h0, hq⟩ | ⟨h1, h2, h3⟩
  · exact Or.inl ⟨h0, mm_Q_sy hq⟩
  · exact Or.inr ⟨h1, fun e => h2 e.symm, fun c a b => (h3 c a b).symm⟩
/-- all codes of at most k letters alike: alike up to k letters -/
theorem mm_T_E {N A : Nat → Nat} (hA : ∀ k, A k < 4) {p q k : Nat} (h : ∀ c, 1 ≤ c → c < 2 ^ (k + 1) → mm_T N A p c = mm_T N A q c) : mm_E N A k p q := by
  refine (mm_ET hA k p q).mpr fun r hr => h _ ?_ ?_
  · have := Nat.two_pow_pos k; omega
  · rw [Nat.pow_succ]; omega
theorem mm_E_T {N A : Nat → Nat} (hA : ∀ k, A k < 4) {p q k : Nat} (h : mm_E N A k p q) {c : Nat} (hc : 1 ≤ c) (hl : c < 2 ^ (k + 1)) : mm_T N A p c = mm_T N A q c := by
  obtain ⟨j, r, hr, rfl⟩ := mm_cd hc
  have hj : j ≤ k := by
    rcases Nat.lt_or_ge k j with l | l
    · have := Nat.pow_le_pow_right (n := 2) (by decide) (show k + 1 ≤ j by omega)
      omega
    · exact l
  exact (mm_ET hA j p q).mp (mm_E_mono hj h) r hr
end
section
/-! counting below n, without lists -/
noncomputable def mm_b (P : Prop) : Nat := @ite Nat P (Classical.propDecidable P) 1 0
theorem mm_b1 {P : Prop} (h : P) : mm_b P = 1 := by unfold mm_b; exact if_pos h
theorem mm_b0 {P : Prop} (h : ¬ P) : mm_b P = 0 := by unfold mm_b; exact if_neg h
noncomputable def mm_cn (P : Nat → Prop) : Nat → Nat
  | 0 => 0
  | n + 1 => mm_cn P n + mm_b (P n)
theorem mm_cn_t {P : Nat → Prop} {n : Nat} (h : P n) : mm_cn P (n + 1) = mm_cn P n + 1 := by
  show mm_cn P n + mm_b (P n) = _
  rw [mm_b1 h]
theorem mm_cn_f {P : Nat → Prop} {n : Nat} (h : ¬ P n) : mm_cn P (n + 1) = mm_cn P n := by
  show mm_cn P n + mm_b (P n) = _
  rw [mm_b0 h, Nat.add_zero]
theorem mm_cn_n (P : Nat → Prop) : ∀ n, mm_cn P n ≤ n := by
  intro n
  induction n with
  | zero => exact Nat.le_refl _
  | succ n ih =>
    by_cases h : P n
    · rw [mm_cn_t h]; omega
    · rw [mm_cn_f h]; omega
theorem mm_cn_le {P Q : Nat → Prop} : ∀ n, (∀ i, i < n → P i → Q i) → mm_cn P n ≤ mm_cn Q n := by
  intro n
  induction n with
  | zero => exact fun _ => Nat.le_refl _
  | succ n ih =>
    intro h
    have i := ih fun j hj => h j (by omega)
    by_cases hp : P n
    · rw [mm_cn_t hp, mm_cn_t (h n (by omega) hp)]; omega
    · rw [mm_cn_f hp]
      by_cases hq : Q n
      · rw [mm_cn_t hq]; omega
      · rw [mm_cn_f hq]; omega
theorem mm_cn_lt {P Q : Nat → Prop} : ∀ n, (∀ i, i < n → P i → Q i) → (∃ i, i < n ∧ Q i ∧ ¬ P i) → mm_cn P n < mm_cn Q n := by
  intro n
  induction n with
  | zero => exact fun _ ⟨i, hi, _⟩ => absurd hi (by omega)
  | succ n ih =>
    intro h ⟨i, hi, hq, hp⟩
    have hs : ∀ j, j < n → P j → Q j := fun j hj => h j (by omega)
    by_cases e : i = n
    · subst e
      rw [mm_cn_t hq, mm_cn_f hp]
      have := mm_cn_le i hs
      omega
    · have k := ih hs ⟨i, by omega, hq, hp⟩
      by_cases hp' : P n
      · rw [mm_cn_t hp', mm_cn_t (h n (by omega) hp')]; omega
      · rw [mm_cn_f hp']
        by_cases hq' : Q n
        · rw [mm_cn_t hq']; omega
        · rw [mm_cn_f hq']; omega
theorem mm_cn_eq {P Q : Nat → Prop} {n : Nat} (h : ∀ i, i < n → P i → Q i) (g : mm_cn Q n ≤ mm_cn P n) : ∀ i, i < n → Q i → P i := by
  intro i hi hq
  refine Classical.byContradiction fun hp => ?_
  have := mm_cn_lt n h ⟨i, hi, hq, hp⟩
  omega
theorem mm_cn_up (P : Nat → Prop) (a : Nat) : ∀ d, mm_cn P a ≤ mm_cn P (a + d) := by
  intro d
  induction d with
  | zero => exact Nat.le_refl _
  | succ d ih =>
    by_cases h : P (a + d)
    · rw [← Nat.add_assoc, mm_cn_t h]; omega
    · rw [← Nat.add_assoc, mm_cn_f h]; omega
theorem mm_cn_mono (P : Nat → Prop) {a b : Nat} (h : a ≤ b) : mm_cn P a ≤ mm_cn P b := by
  obtain ⟨d, rfl⟩ : ∃ d, b = a + d := ⟨b - a, by omega⟩
  exact mm_cn_up P a d
theorem mm_cn_st (P : Nat → Prop) {a b : Nat} (hp : P a) (h : a < b) : mm_cn P a < mm_cn P b := by
  have := mm_cn_mono P (show a + 1 ≤ b from h)
  rw [mm_cn_t hp] at this
  omega
theorem mm_cn_gap (P : Nat → Prop) {a : Nat} : ∀ d, (∀ c, a ≤ c → c < a + d → ¬ P c) → mm_cn P (a + d) = mm_cn P a := by
  intro d
  induction d with
  | zero => exact fun _ => rfl
  | succ d ih =>
    intro h
    rw [← Nat.add_assoc, mm_cn_f (h (a + d) (by omega) (by omega))]
    exact ih fun c h1 h2 => h c h1 (by omega)
theorem mm_cn_skip (P : Nat → Prop) {a b : Nat} (hab : a ≤ b) (h : ∀ c, a ≤ c → c < b → ¬ P c) : mm_cn P b = mm_cn P a := by
  obtain ⟨d, rfl⟩ : ∃ d, b = a + d := ⟨b - a, by omega⟩
  exact mm_cn_gap P d h
theorem mm_cn_nth (P : Nat → Prop) : ∀ b k, k < mm_cn P b → ∃ c, c < b ∧ P c ∧ mm_cn P c = k := by
  intro b
  induction b with
  | zero => exact fun k h => absurd h (Nat.not_lt_zero k)
  | succ b ih =>
    intro k h
    by_cases hp : P b
    · rw [mm_cn_t hp] at h
      by_cases e : k = mm_cn P b
      · exact ⟨b, by omega, hp, e.symm⟩
      · obtain ⟨c, h1, h2, h3⟩ := ih k (by omega)
        exact ⟨c, by omega, h2, h3⟩
    · rw [mm_cn_f hp] at h
      obtain ⟨c, h1, h2, h3⟩ := ih k h
      exact ⟨c, by omega, h2, h3⟩
theorem mm_cn_inj (P : Nat → Prop) {a b : Nat} (ha : P a) (hb : P b) (h : mm_cn P a = mm_cn P b) : a = b := by
  rcases Nat.lt_trichotomy a b with l | l | l
  · have := mm_cn_st P ha l; omega
  · exact l
  · have := mm_cn_st P hb l; omega
/-- no more of them than images -/
theorem mm_cn_pig {P : Nat → Prop} {f : Nat → Nat} {n : Nat} (hf : ∀ c, P c → f c < n) (hi : ∀ c d, P c → P d → f c = f d → c = d) : ∀ b, mm_cn P b ≤ n := by
  have key : ∀ b, mm_cn P b ≤ mm_cn (fun v => ∃ c, c < b ∧ P c ∧ f c = v) n := by
    intro b
    induction b with
    | zero => exact Nat.zero_le _
    | succ b ih =>
      by_cases hp : P b
      · rw [mm_cn_t hp]
        have := mm_cn_lt (P := fun v => ∃ c, c < b ∧ P c ∧ f c = v) (Q := fun v => ∃ c, c < b + 1 ∧ P c ∧ f c = v) n
          (fun i _ ⟨c, h1, h2, h3⟩ => ⟨c, by omega, h2, h3⟩)
          ⟨f b, hf b hp, ⟨b, by omega, hp, rfl⟩, fun ⟨c, h1, h2, h3⟩ => by
            have := hi c b h2 hp h3
            omega⟩
        omega
      · rw [mm_cn_f hp]
        have := mm_cn_le (P := fun v => ∃ c, c < b ∧ P c ∧ f c = v) (Q := fun v => ∃ c, c < b + 1 ∧ P c ∧ f c = v) n
          (fun i _ ⟨c, h1, h2, h3⟩ => ⟨c, by omega, h2, h3⟩)
        omega
  intro b
  exact Nat.le_trans (key b) (mm_cn_n _ n)
theorem mm_min (P : Nat → Prop) {n : Nat} (h : P n) : ∃ k, k ≤ n ∧ P k ∧ ∀ j, j < k → ¬ P j := by
  induction n using Nat.strongRecOn with
  | ind n ih =>
    by_cases g : ∃ j, j < n ∧ P j
    · obtain ⟨j, hj, pj⟩ := g
      obtain ⟨k, h1, h2, h3⟩ := ih j hj pj
      exact ⟨k, by omega, h2, h3⟩
    · exact ⟨n, Nat.le_refl n, h, fun j hj pj => g ⟨j, hj, pj⟩⟩
/-! Moore's bound: on a closed set of n places, alike up to n - 1 letters is alike -/
def mm_L (N A : Nat → Nat) (S : Nat → Prop) (k p : Nat) : Prop := S p ∧ ∀ q, q < p → S q → ¬ mm_E N A k q p
def mm_Sb (N A : Nat → Nat) (S : Nat → Prop) (k : Nat) : Prop := ∀ p q, S p → S q → mm_E N A k p q → mm_E N A (k + 1) p q
theorem mm_L_up {N A : Nat → Nat} {S : Nat → Prop} {k p : Nat} (h : mm_L N A S k p) : mm_L N A S (k + 1) p :=
  ⟨h.1, fun q hq hs e => h.2 q hq hs (mm_E_dn e)⟩
theorem mm_L_ex {N A : Nat → Nat} {S : Nat → Prop} {k p : Nat} (h : S p) : ∃ p', p' ≤ p ∧ mm_L N A S k p' ∧ mm_E N A k p' p := by
  obtain ⟨p', h1, ⟨h2, h3⟩, h4⟩ := mm_min (fun q => S q ∧ mm_E N A k q p) ⟨h, mm_E_rf N A k p⟩
  exact ⟨p', h1, ⟨h2, fun q hq hs e => h4 q hq ⟨hs, mm_E_tr e h3⟩⟩, h3⟩
theorem mm_L_sb {N A : Nat → Nat} {S : Nat → Prop} {k : Nat} (hS : ∀ p, S p → p < 12) (h : ∀ p, p < 12 → mm_L N A S (k + 1) p → mm_L N A S k p) : mm_Sb N A S k := by
  intro p q hp hq e
  obtain ⟨p', _, lp, ep⟩ := mm_L_ex (N := N) (A := A) (k := k + 1) hp
  obtain ⟨q', _, lq, eq⟩ := mm_L_ex (N := N) (A := A) (k := k + 1) hq
  have lp' := h p' (hS _ lp.1) lp
  have lq' := h q' (hS _ lq.1) lq
  have e1 : mm_E N A k p' q' := mm_E_tr (mm_E_dn ep) (mm_E_tr e (mm_E_sy (mm_E_dn eq)))
  rcases Nat.lt_trichotomy p' q' with l | l | l
  · exact absurd e1 (lq'.2 p' l lp'.1)
  · subst l
    exact mm_E_tr (mm_E_sy ep) eq
  · exact absurd (mm_E_sy e1) (lp'.2 q' l lq'.1)
theorem mm_Sb_up {N A : Nat → Nat} {S : Nat → Prop} (hc : ∀ p a, S p → a < 2 → S (mm_st N p a)) {k : Nat} (h : mm_Sb N A S k) : mm_Sb N A S (k + 1) := by
  intro p q hp hq e
  refine mm_E_mk fun a ha => ?_
  obtain ⟨h1, h2⟩ := mm_E_at ha e
  exact ⟨h1, h _ _ (hc p a hp ha) (hc q a hq ha) h2⟩
theorem mm_Sb_all {N A : Nat → Nat} {S : Nat → Prop} (hc : ∀ p a, S p → a < 2 → S (mm_st N p a)) {k : Nat} (h : mm_Sb N A S k) : ∀ d, mm_Sb N A S (k + d) := by
  intro d
  induction d with
  | zero => exact h
  | succ d ih => exact mm_Sb_up hc ih
theorem mm_Sb_Q {N A : Nat → Nat} {S : Nat → Prop} (hc : ∀ p a, S p → a < 2 → S (mm_st N p a)) {k : Nat} (h : mm_Sb N A S k) {p q : Nat} (hp : S p) (hq : S q) (e : mm_E N A k p q) : mm_Q N A p q := by
  have key : ∀ d, mm_E N A (k + d) p q := by
    intro d
    induction d with
    | zero => exact e
    | succ d ih => exact mm_Sb_all hc h d p q hp hq ih
  intro j
  exact mm_E_mono (Nat.le_add_left j k) (key j)
theorem mm_moore {N A : Nat → Nat} {S : Nat → Prop} (hS : ∀ p, S p → p < 12) (hc : ∀ p a, S p → a < 2 → S (mm_st N p a)) {n : Nat} (hn : mm_cn S 12 ≤ n) {p q : Nat} (hp : S p) (hq : S q) (e : mm_E N A (n - 1) p q) : mm_Q N A p q := by
  have key : ∀ k, (∃ j, j < k ∧ mm_Sb N A S j) ∨ k + 1 ≤ mm_cn (mm_L N A S k) 12 := by
    intro k
    induction k with
    | zero =>
      refine Or.inr ?_
      obtain ⟨p', _, lp, _⟩ := mm_L_ex (N := N) (A := A) (k := 0) hp
      have := mm_cn_st (mm_L N A S 0) lp (hS _ lp.1)
      omega
    | succ k ih =>
      rcases ih with ⟨j, h1, h2⟩ | h
      · exact Or.inl ⟨j, by omega, h2⟩
      · by_cases g : mm_cn (mm_L N A S (k + 1)) 12 ≤ mm_cn (mm_L N A S k) 12
        · exact Or.inl ⟨k, by omega, mm_L_sb hS (mm_cn_eq (fun i _ l => mm_L_up l) g)⟩
        · exact Or.inr (by omega)
  rcases key n with ⟨j, h1, h2⟩ | h
  · exact mm_Sb_Q hc h2 hp hq (mm_E_mono (by omega) e)
  · have := mm_cn_le (P := mm_L N A S n) (Q := S) 12 fun i _ l => l.1
    omega
end
section
/-! well formed machines; Moore's bound for them; the component's table; the first word -/
def mm_WF (z N A : Nat → Nat) : Prop := (∀ m, m < 2 → 1 ≤ z m ∧ z m ≤ 6) ∧ (∀ k, N k < 6) ∧ (∀ k, A k < 4) ∧ (∀ m k, m < 2 → k < 2 * z m → N (12 * m + k) < z m)
abbrev mm_th (z : Nat → Nat) (p : Nat) : Prop := p < 12 ∧ p % 6 < z (p / 6)
theorem mm_st_th {z N A : Nat → Nat} (W : mm_WF z N A) {p a : Nat} (h : mm_th z p) (ha : a < 2) : mm_th z (mm_st N p a) ∧ mm_st N p a / 6 = p / 6 ∧ mm_st N p a % 6 = N (2 * p + a) := by
  obtain ⟨h1, h2⟩ := h
  have hm : p / 6 < 2 := by omega
  have e : 2 * p + a = 12 * (p / 6) + (2 * (p % 6) + a) := by omega
  have b : N (2 * p + a) < z (p / 6) := by rw [e]; exact W.2.2.2 (p / 6) _ hm (by omega)
  have b6 := W.2.1 (2 * p + a)
  have d : mm_st N p a / 6 = p / 6 := by unfold mm_st; omega
  have r : mm_st N p a % 6 = N (2 * p + a) := by unfold mm_st; omega
  refine ⟨⟨?_, ?_⟩, d, r⟩
  · unfold mm_st; omega
  · rw [d, r]; exact b
theorem mm_G_th {z N A : Nat → Nat} (W : mm_WF z N A) {p : Nat} (h : mm_th z p) : ∀ c, 1 ≤ c → mm_th z (mm_G N p c) ∧ mm_G N p c / 6 = p / 6 := by
  intro c
  induction c using Nat.strongRecOn with
  | ind c ih =>
    intro hc
    by_cases h1 : c = 1
    · subst h1
      rw [mm_G1]
      exact ⟨h, rfl⟩
    · have e : c = 2 * (c / 2) + c % 2 := by omega
      obtain ⟨i1, i2⟩ := ih (c / 2) (by omega) (by omega)
      have s := mm_st_th W i1 (a := c % 2) (by omega)
      rw [e, mm_G2 N p (by omega) (by omega)]
      exact ⟨s.1, s.2.1.trans i2⟩
theorem mm_cn_m {z : Nat → Nat} {m : Nat} (hm : m < 2) (h1 : 1 ≤ z m) (h6 : z m ≤ 6) : mm_cn (fun p => mm_th z p ∧ p / 6 = m) 12 ≤ z m := by
  refine mm_cn_pig (f := fun p => p % 6) ?_ ?_ 12
  · rintro p ⟨⟨h1, h2⟩, h3⟩
    rw [h3] at h2
    exact h2
  · rintro p q ⟨⟨h1, h2⟩, h3⟩ ⟨⟨g1, g2⟩, g3⟩ e
    omega
theorem mm_cn_a {z : Nat → Nat} (W : ∀ m, m < 2 → 1 ≤ z m ∧ z m ≤ 6) : mm_cn (mm_th z) 12 ≤ z 0 + z 1 := by
  refine mm_cn_pig (f := fun p => if p < 6 then p else z 0 + (p - 6)) ?_ ?_ 12
  · rintro p ⟨h1, h2⟩
    by_cases l : p < 6
    · have e : p / 6 = 0 := by omega
      rw [e] at h2
      rw [if_pos l]; omega
    · have e : p / 6 = 1 := by omega
      rw [e] at h2
      rw [if_neg l]; omega
  · rintro p q ⟨h1, h2⟩ ⟨g1, g2⟩ e
    by_cases l : p < 6
    · have e1 : p / 6 = 0 := by omega
      rw [e1] at h2
      rw [if_pos l] at e
      by_cases k : q < 6
      · rw [if_pos k] at e; exact e
      · rw [if_neg k] at e; omega
    · rw [if_neg l] at e
      by_cases k : q < 6
      · have e1 : q / 6 = 0 := by omega
        rw [e1] at g2
        rw [if_pos k] at e; omega
      · rw [if_neg k] at e; omega
theorem mm_Qm {z N A : Nat → Nat} (W : mm_WF z N A) {p q : Nat} (hp : mm_th z p) (hq : mm_th z q) (hm : p / 6 = q / 6) (e : mm_E N A (z (p / 6) - 1) p q) : mm_Q N A p q := by
  have hm2 : p / 6 < 2 := by have := hp.1; omega
  have b := W.1 (p / 6) hm2
  refine mm_moore (S := fun x => mm_th z x ∧ x / 6 = p / 6) (fun x h => h.1.1) ?_ (mm_cn_m hm2 b.1 b.2) ⟨hp, rfl⟩ ⟨hq, hm.symm⟩ e
  intro x a hx ha
  have s := mm_st_th W hx.1 ha
  exact ⟨s.1, s.2.1.trans hx.2⟩
theorem mm_Qa {z N A : Nat → Nat} (W : mm_WF z N A) {p q : Nat} (hp : mm_th z p) (hq : mm_th z q) (e : mm_E N A (z 0 + z 1 - 1) p q) : mm_Q N A p q :=
  mm_moore (S := mm_th z) (fun x h => h.1) (fun x a hx ha => (mm_st_th W hx ha).1) (mm_cn_a W.1) hp hq e
theorem mm_Q11 {z N A : Nat → Nat} (W : mm_WF z N A) {p q : Nat} (hp : mm_th z p) (hq : mm_th z q) (e : mm_E N A 11 p q) : mm_Q N A p q := by
  have b0 := W.1 0 (by decide)
  have b1 := W.1 1 (by decide)
  exact mm_Qa W hp hq (mm_E_mono (by omega) e)
/-- the table after the first loop and j rounds -/
def mm_d (z N A : Nat → Nat) : Nat → Nat → Nat → Nat
  | 0, p, q => if (¬ (A (2 * p) = A (2 * q) ∧ A (2 * p + 1) = A (2 * q + 1))) ∧ mm_th z p ∧ mm_th z q then 1 else 0
  | j + 1, p, q => if mm_d z N A j p q = 0 ∧ mm_th z p ∧ mm_th z q then (if mm_d z N A j (mm_st N p 0) (mm_st N q 0) = j + 1 ∨ mm_d z N A j (mm_st N p 1) (mm_st N q 1) = j + 1 then j + 2 else 0) else mm_d z N A j p q
theorem mm_d_le (z N A : Nat → Nat) : ∀ j p q, mm_d z N A j p q ≤ j + 1 := by
  intro j
  induction j with
  | zero => intro p q; unfold mm_d; split <;> omega
  | succ j ih =>
    intro p q
    unfold mm_d
    have := ih p q
    split
    · split <;> omega
    · omega
/-- what the number says: the letters of a shortest difference -/
def mm_D (N A : Nat → Nat) (j d p q : Nat) : Prop := (d = 0 ∧ mm_E N A (j + 1) p q) ∨ (∃ e, d = e + 1 ∧ e ≤ j ∧ mm_E N A e p q ∧ ¬ mm_E N A (e + 1) p q)
theorem mm_D_eq {N A : Nat → Nat} {j d p q : Nat} (h : mm_D N A j d p q) (hl : mm_E N A j p q) : d = j + 1 ↔ ¬ mm_E N A (j + 1) p q := by
  rcases h with ⟨h0, h1⟩ | ⟨e, h0, h1, h2, h3⟩
  · exact ⟨fun x => by omega, fun x => absurd h1 x⟩
  · rcases Nat.lt_or_ge e j with l | l
    · exact absurd (mm_E_mono (show e + 1 ≤ j by omega) hl) h3
    · have : e = j := by omega
      subst this
      exact ⟨fun _ => h3, fun _ => h0⟩
theorem mm_d_D {z N A : Nat → Nat} (W : mm_WF z N A) : ∀ j p q, mm_th z p → mm_th z q → mm_D N A j (mm_d z N A j p q) p q := by
  intro j
  induction j with
  | zero =>
    intro p q hp hq
    unfold mm_d
    by_cases h : A (2 * p) = A (2 * q) ∧ A (2 * p + 1) = A (2 * q + 1)
    · rw [if_neg (fun x => x.1 h)]
      exact Or.inl ⟨rfl, h.1, h.2, mm_E0 _ _ _ _, mm_E0 _ _ _ _⟩
    · rw [if_pos ⟨h, hp, hq⟩]
      exact Or.inr ⟨0, rfl, Nat.le_refl _, mm_E0 _ _ _ _, fun x => h ⟨x.1, x.2.1⟩⟩
  | succ j ih =>
    intro p q hp hq
    have i := ih p q hp hq
    unfold mm_d
    by_cases h0 : mm_d z N A j p q = 0
    · rw [if_pos ⟨h0, hp, hq⟩]
      have e : mm_E N A (j + 1) p q := by
        rcases i with ⟨_, h⟩ | ⟨e, h, _⟩
        · exact h
        · omega
      have i0 := mm_D_eq (ih _ _ (mm_st_th W hp (a := 0) (by decide)).1 (mm_st_th W hq (a := 0) (by decide)).1) e.2.2.1
      have i1 := mm_D_eq (ih _ _ (mm_st_th W hp (a := 1) (by decide)).1 (mm_st_th W hq (a := 1) (by decide)).1) e.2.2.2
      by_cases g : mm_d z N A j (mm_st N p 0) (mm_st N q 0) = j + 1 ∨ mm_d z N A j (mm_st N p 1) (mm_st N q 1) = j + 1
      · rw [if_pos g]
        refine Or.inr ⟨j + 1, rfl, Nat.le_refl _, e, fun x => ?_⟩
        rcases g with g | g
        · exact i0.mp g x.2.2.1
        · exact i1.mp g x.2.2.2
      · rw [if_neg g]
        refine Or.inl ⟨rfl, e.1, e.2.1, ?_, ?_⟩
        · exact Classical.byContradiction fun x => g (Or.inl (i0.mpr x))
        · exact Classical.byContradiction fun x => g (Or.inr (i1.mpr x))
    · rw [if_neg (fun x => h0 x.1)]
      rcases i with ⟨h, _⟩ | ⟨e, h, h1, h2, h3⟩
      · exact absurd h h0
      · exact Or.inr ⟨e, h, by omega, h2, h3⟩
theorem mm_d_0 {z N A : Nat → Nat} (W : mm_WF z N A) {p q : Nat} (hp : mm_th z p) (hq : mm_th z q) : mm_d z N A 10 p q = 0 ↔ mm_Q N A p q := by
  rcases mm_d_D W 10 p q hp hq with ⟨h, e⟩ | ⟨e, h, _, h2, h3⟩
  · exact ⟨fun _ => mm_Q11 W hp hq e, fun _ => h⟩
  · exact ⟨fun x => by omega, fun x => absurd (x (e + 1)) h3⟩
/-- in place: a round may look at numbers of its own -/
theorem mm_d_new {z N A : Nat → Nat} {j p q : Nat} : mm_d z N A (j + 1) p q = j + 1 ↔ mm_d z N A j p q = j + 1 := by
  show (if mm_d z N A j p q = 0 ∧ mm_th z p ∧ mm_th z q then (if mm_d z N A j (mm_st N p 0) (mm_st N q 0) = j + 1 ∨ mm_d z N A j (mm_st N p 1) (mm_st N q 1) = j + 1 then j + 2 else 0) else mm_d z N A j p q) = j + 1 ↔ _
  by_cases h : mm_d z N A j p q = 0 ∧ mm_th z p ∧ mm_th z q
  · rw [if_pos h]
    have h0 := h.1
    split
    · exact ⟨fun x => by omega, fun x => by omega⟩
    · exact ⟨fun x => by omega, fun x => by omega⟩
  · rw [if_neg h]
/-! the first word, letter by letter -/
def mm_W (N A : Nat → Nat) (p q l c : Nat) : Prop := 1 ≤ c ∧ mm_T N A p c = mm_T N A q c ∧ mm_E N A l (mm_G N p c) (mm_G N q c) ∧ ¬ mm_E N A (l + 1) (mm_G N p c) (mm_G N q c) ∧ ∀ x, 1 ≤ x → x < c * 2 ^ (l + 1) → mm_T N A p x = mm_T N A q x
theorem mm_W_0 {N A : Nat → Nat} (hA : ∀ k, A k < 4) {p q l : Nat} (h : mm_E N A l p q) (g : ¬ mm_E N A (l + 1) p q) : mm_W N A p q l 1 := by
  refine ⟨Nat.le_refl _, by rw [mm_T1, mm_T1], by rw [mm_G1, mm_G1]; exact h, by rw [mm_G1, mm_G1]; exact g, fun x h1 h2 => ?_⟩
  rw [Nat.one_mul] at h2
  exact mm_E_T hA h h1 h2
theorem mm_W_z {N A : Nat → Nat} {p q c : Nat} (h : mm_W N A p q 0 c) : mm_P N A p q (if A (2 * mm_G N p c) = A (2 * mm_G N q c) then 2 * c + 1 else 2 * c) := by
  obtain ⟨h1, h2, h3, h4, h5⟩ := h
  have e0p := mm_T2 N A p h1 (a := 0) (by decide)
  have e0q := mm_T2 N A q h1 (a := 0) (by decide)
  have e1p := mm_T2 N A p h1 (a := 1) (by decide)
  have e1q := mm_T2 N A q h1 (a := 1) (by decide)
  rw [Nat.add_zero, Nat.add_zero] at e0p e0q
  have h5' : ∀ x, 1 ≤ x → x < 2 * c → mm_T N A p x = mm_T N A q x := fun x a b => h5 x a (by rw [Nat.zero_add, Nat.pow_one]; omega)
  by_cases g : A (2 * mm_G N p c) = A (2 * mm_G N q c)
  · rw [if_pos g]
    have g1 : ¬ A (2 * mm_G N p c + 1) = A (2 * mm_G N q c + 1) := fun x => h4 ⟨g, x, mm_E0 _ _ _ _, mm_E0 _ _ _ _⟩
    refine Or.inr ⟨by omega, by omega, fun x a b => ?_⟩
    rcases Nat.lt_or_ge x (2 * c) with l | l
    · exact h5' x a l
    · have : x = 2 * c := by omega
      subst this
      omega
  · rw [if_neg g]
    exact Or.inr ⟨by omega, by omega, h5'⟩
theorem mm_W_s0 {N A : Nat → Nat} {p q l c : Nat} (h : mm_W N A p q (l + 1) c) (g : ¬ mm_E N A (l + 1) (mm_st N (mm_G N p c) 0) (mm_st N (mm_G N q c) 0)) : mm_W N A p q l (2 * c) := by
  obtain ⟨h1, h2, h3, h4, h5⟩ := h
  have gp := mm_G2 N p h1 (a := 0) (by decide)
  have gq := mm_G2 N q h1 (a := 0) (by decide)
  have tp := mm_T2 N A p h1 (a := 0) (by decide)
  have tq := mm_T2 N A q h1 (a := 0) (by decide)
  rw [Nat.add_zero] at gp gq
  rw [Nat.add_zero, Nat.add_zero] at tp tq
  refine ⟨by omega, ?_, ?_, ?_, ?_⟩
  · rw [tp, tq, h2, h3.1]
  · rw [gp, gq]; exact h3.2.2.1
  · rw [gp, gq]; exact g
  · intro x a b
    refine h5 x a ?_
    have : 2 * c * 2 ^ (l + 1) = c * 2 ^ (l + 1 + 1) := by rw [Nat.pow_succ 2 (l + 1), Nat.mul_comm 2 c, Nat.mul_assoc, Nat.mul_comm 2]
    omega
theorem mm_W_s1 {N A : Nat → Nat} (hA : ∀ k, A k < 4) {p q l c : Nat} (h : mm_W N A p q (l + 1) c) (g : mm_E N A (l + 1) (mm_st N (mm_G N p c) 0) (mm_st N (mm_G N q c) 0)) : mm_W N A p q l (2 * c + 1) := by
  obtain ⟨h1, h2, h3, h4, h5⟩ := h
  have gp := mm_G2 N p h1 (a := 1) (by decide)
  have gq := mm_G2 N q h1 (a := 1) (by decide)
  have tp := mm_T2 N A p h1 (a := 1) (by decide)
  have tq := mm_T2 N A q h1 (a := 1) (by decide)
  have g0p := mm_G2 N p h1 (a := 0) (by decide)
  have g0q := mm_G2 N q h1 (a := 0) (by decide)
  have t0p := mm_T2 N A p h1 (a := 0) (by decide)
  have t0q := mm_T2 N A q h1 (a := 0) (by decide)
  rw [Nat.add_zero] at g0p g0q
  rw [Nat.add_zero, Nat.add_zero] at t0p t0q
  refine ⟨by omega, ?_, ?_, ?_, ?_⟩
  · rw [tp, tq, h2, h3.2.1]
  · rw [gp, gq]; exact h3.2.2.2
  · rw [gp, gq]; exact fun x => h4 ⟨h3.1, h3.2.1, g, x⟩
  · intro x a b
    have e1 : c * 2 ^ (l + 1 + 1) = 2 * c * 2 ^ (l + 1) := by rw [Nat.pow_succ 2 (l + 1), Nat.mul_comm 2 c, Nat.mul_assoc, Nat.mul_comm 2]
    have e2 : (2 * c + 1) * 2 ^ (l + 1) = 2 * c * 2 ^ (l + 1) + 2 ^ (l + 1) := by rw [Nat.add_mul, Nat.one_mul]
    rcases Nat.lt_or_ge x (c * 2 ^ (l + 1 + 1)) with y | y
    · exact h5 x a y
    · obtain ⟨r, hr, rfl⟩ : ∃ r, r < 2 ^ (l + 1) ∧ x = 2 * c * 2 ^ (l + 1) + r := ⟨x - 2 * c * 2 ^ (l + 1), by omega, by omega⟩
      rw [(mm_GT N A p (c := 2 * c) (by omega) (l + 1) r hr).2, (mm_GT N A q (c := 2 * c) (by omega) (l + 1) r hr).2, t0p, t0q, g0p, g0q, h2, h3.1, (mm_ET hA (l + 1) _ _).mp g r hr]
end
section
/-! breadth first over codes, for any congruence R: FC c says that no smaller code leads where c leads; ct counts them -/
def mm_CG (R : Nat → Nat → Prop) : Prop := (∀ c, R c c) ∧ (∀ c d, R c d → R d c) ∧ (∀ c d e, R c d → R d e → R c e) ∧ (∀ c d a, 1 ≤ c → 1 ≤ d → a < 2 → R c d → R (2 * c + a) (2 * d + a))
def mm_FC (R : Nat → Nat → Prop) (c : Nat) : Prop := 1 ≤ c ∧ ∀ d, 1 ≤ d → d < c → ¬ R d c
theorem mm_FC_1 (R : Nat → Nat → Prop) : mm_FC R 1 := ⟨Nat.le_refl _, fun d h1 h2 => by omega⟩
theorem mm_FC_h {R : Nat → Nat → Prop} (H : mm_CG R) {c : Nat} (h : mm_FC R c) (hc : 2 ≤ c) : mm_FC R (c / 2) := by
  refine ⟨by omega, fun d h1 h2 r => ?_⟩
  have g := H.2.2.2 d (c / 2) (c % 2) h1 (by omega) (by omega) r
  have e : 2 * (c / 2) + c % 2 = c := by omega
  rw [e] at g
  exact h.2 (2 * d + c % 2) (by omega) (by omega) g
theorem mm_FC_ex {R : Nat → Nat → Prop} (H : mm_CG R) {c : Nat} (hc : 1 ≤ c) : ∃ d, d ≤ c ∧ mm_FC R d ∧ R d c := by
  obtain ⟨d, h1, ⟨h2, h3⟩, h4⟩ := mm_min (fun d => 1 ≤ d ∧ R d c) ⟨hc, H.1 c⟩
  exact ⟨d, h1, ⟨h2, fun e g1 g2 r => h4 e g2 ⟨g1, H.2.2.1 e d c r h3⟩⟩, h3⟩
theorem mm_FC_no {R : Nat → Nat → Prop} (H : mm_CG R) {c : Nat} (hc : 1 ≤ c) (h : ¬ mm_FC R c) : ∃ d, d < c ∧ mm_FC R d ∧ R d c := by
  obtain ⟨d, h1, h2, h3⟩ := mm_FC_ex H hc
  refine ⟨d, ?_, h2, h3⟩
  rcases Nat.lt_or_ge d c with l | l
  · exact l
  · have : d = c := by omega
    subst this
    exact absurd h2 h
theorem mm_FC_u {R : Nat → Nat → Prop} (H : mm_CG R) {c d : Nat} (hc : mm_FC R c) (hd : mm_FC R d) (r : R c d) : c = d := by
  rcases Nat.lt_trichotomy c d with l | l | l
  · exact absurd r (hd.2 c hc.1 l)
  · exact l
  · exact absurd (H.2.1 _ _ r) (hc.2 d hd.1 l)
theorem mm_ct_2 (R : Nat → Nat → Prop) : mm_cn (mm_FC R) 1 = 0 ∧ mm_cn (mm_FC R) 2 = 1 := by
  have h0 : ¬ mm_FC R 0 := fun h => by have := h.1; omega
  have e1 : mm_cn (mm_FC R) 1 = 0 := (mm_cn_f h0).trans rfl
  exact ⟨e1, by rw [mm_cn_t (mm_FC_1 R), e1]⟩
/-- between one's letters and the next one's none is new -/
theorem mm_FC_gap {R : Nat → Nat → Prop} (H : mm_CG R) {w v : Nat} (hw : mm_FC R w) (hv : mm_FC R v) (e : mm_cn (mm_FC R) v = mm_cn (mm_FC R) w + 1) : ∀ c, 2 * w + 2 ≤ c → c < 2 * v → ¬ mm_FC R c := by
  intro c h1 h2 h
  have g := mm_FC_h H h (by omega)
  have a := mm_cn_st (mm_FC R) hw (show w < c / 2 by omega)
  have b := mm_cn_st (mm_FC R) g (show c / 2 < v by omega)
  omega
theorem mm_FC_end {R : Nat → Nat → Prop} (H : mm_CG R) {w : Nat} (hw : mm_FC R w) (e : mm_cn (mm_FC R) (2 * w + 2) ≤ mm_cn (mm_FC R) w + 1) : ∀ c, 2 * w + 2 ≤ c → ¬ mm_FC R c := by
  intro c
  induction c using Nat.strongRecOn with
  | ind c ih =>
    intro h1 h
    have g := mm_FC_h H h (by omega)
    rcases Nat.lt_or_ge (c / 2) (2 * w + 2) with l | l
    · have a := mm_cn_st (mm_FC R) hw (show w < c / 2 by omega)
      have b := mm_cn_st (mm_FC R) g l
      omega
    · exact ih (c / 2) (by omega) l g
theorem mm_FC_len {R : Nat → Nat → Prop} (H : mm_CG R) : ∀ k c, mm_FC R c → 2 ^ k ≤ c → k < mm_cn (mm_FC R) (c + 1) := by
  intro k
  induction k with
  | zero =>
    intro c h _
    rw [mm_cn_t h]; omega
  | succ k ih =>
    intro c h hk
    rw [Nat.pow_succ] at hk
    have hw : 0 < 2 ^ k := Nat.two_pow_pos k
    have i := ih (c / 2) (mm_FC_h H h (by omega)) (by omega)
    have m := mm_cn_mono (mm_FC R) (show c / 2 + 1 ≤ c by omega)
    rw [mm_cn_t h]
    omega
/-! the classes of a machine -/
def mm_RQ (N A : Nat → Nat) (m : Nat) (c d : Nat) : Prop := mm_Q N A (mm_G N (6 * m) c) (mm_G N (6 * m) d)
theorem mm_RQ_cg (N A : Nat → Nat) (m : Nat) : mm_CG (mm_RQ N A m) := by
  refine ⟨fun c => mm_Q_rf _ _ _, fun c d h => mm_Q_sy h, fun c d e h g => mm_Q_tr h g, fun c d a hc hd ha h => ?_⟩
  unfold mm_RQ
  rw [mm_G2 N _ hc ha, mm_G2 N _ hd ha]
  exact mm_Q_st ha h
theorem mm_th_0 {z N A : Nat → Nat} (W : mm_WF z N A) {m s : Nat} (hm : m < 2) (hs : s < z m) : mm_th z (6 * m + s) ∧ (6 * m + s) / 6 = m ∧ (6 * m + s) % 6 = s := by
  have b := W.1 m hm
  have d : (6 * m + s) / 6 = m := by omega
  have r : (6 * m + s) % 6 = s := by omega
  refine ⟨⟨by omega, ?_⟩, d, r⟩
  rw [d, r]; exact hs
theorem mm_g_th {z N A : Nat → Nat} (W : mm_WF z N A) {m : Nat} (hm : m < 2) {c : Nat} (hc : 1 ≤ c) : mm_th z (mm_G N (6 * m) c) ∧ mm_G N (6 * m) c / 6 = m := by
  have t := mm_th_0 W hm (s := 0) (by have := W.1 m hm; omega)
  rw [Nat.add_zero] at t
  have g := mm_G_th W t.1 c hc
  exact ⟨g.1, g.2.trans t.2.1⟩
theorem mm_RQ_n {z N A : Nat → Nat} (W : mm_WF z N A) {m : Nat} (hm : m < 2) (b : Nat) : mm_cn (mm_FC (mm_RQ N A m)) b ≤ 6 := by
  refine mm_cn_pig (f := fun c => mm_G N (6 * m) c % 6) ?_ ?_ b
  · intro c _
    exact Nat.mod_lt _ (by decide)
  · intro c d hc hd e

    have g1 := (mm_g_th W hm hc.1).2
    have g2 := (mm_g_th W hm hd.1).2
    have e2 : mm_G N (6 * m) c = mm_G N (6 * m) d := by omega
    refine mm_FC_u (mm_RQ_cg N A m) hc hd ?_
    unfold mm_RQ
    rw [e2]
    exact mm_Q_rf _ _ _
theorem mm_RQ_64 {z N A : Nat → Nat} (W : mm_WF z N A) {m : Nat} (hm : m < 2) {c : Nat} (h : mm_FC (mm_RQ N A m) c) : c < 64 := by
  rcases Nat.lt_or_ge c 64 with l | l
  · exact l
  · have := mm_FC_len (mm_RQ_cg N A m) 6 c h l
    have := mm_RQ_n W hm (c + 1)
    omega
/-! the sets of states of a machine, as words of 6 bits -/
def mm_tg (N : Nat → Nat) (m a x : Nat) : Nat → Nat
  | 0 => 0
  | s + 1 => if x / 2 ^ s % 2 = 1 then mm_tg N m a x s ||| 2 ^ N (12 * m + 2 * s + a) else mm_tg N m a x s
def mm_S (z N : Nat → Nat) (m c : Nat) : Nat := if h : c ≤ 1 then 2 ^ z m - 1 else mm_tg N m (c % 2) (mm_S z N m (c / 2)) (z m)
termination_by c
decreasing_by omega
theorem mm_S1 (z N : Nat → Nat) (m : Nat) : mm_S z N m 1 = 2 ^ z m - 1 := by
  rw [mm_S.eq_def z N m 1, dif_pos (by omega)]
theorem mm_S2 (z N : Nat → Nat) (m : Nat) {c a : Nat} (hc : 1 ≤ c) (ha : a < 2) : mm_S z N m (2 * c + a) = mm_tg N m a (mm_S z N m c) (z m) := by
  rw [mm_S.eq_def z N m (2 * c + a), dif_neg (by omega), show (2 * c + a) / 2 = c by omega, show (2 * c + a) % 2 = a by omega]
theorem mm_tg_lt {N : Nat → Nat} (hN : ∀ k, N k < 6) (m a x : Nat) : ∀ s, mm_tg N m a x s < 2 ^ 6 := by
  intro s
  induction s with
  | zero => exact Nat.two_pow_pos 6
  | succ s ih =>
    unfold mm_tg
    split
    · exact Nat.or_lt_two_pow ih (Nat.pow_lt_pow_right (by decide) (hN _))
    · exact ih
theorem mm_tg_b (N : Nat → Nat) (m a x j : Nat) : ∀ n, (mm_tg N m a x n).testBit j = true ↔ ∃ s, s < n ∧ x.testBit s = true ∧ N (12 * m + 2 * s + a) = j := by
  intro n
  induction n with
  | zero =>
    unfold mm_tg
    rw [Nat.zero_testBit]
    exact ⟨fun h => by simp at h, fun ⟨s, h, _⟩ => absurd h (by omega)⟩
  | succ n ih =>
    have tb : x.testBit n = true ↔ x / 2 ^ n % 2 = 1 := by rw [Nat.testBit_eq_decide_div_mod_eq, decide_eq_true_eq]
    unfold mm_tg
    by_cases h : x / 2 ^ n % 2 = 1
    · rw [if_pos h, Nat.testBit_or, Bool.or_eq_true, ih, Nat.testBit_two_pow, decide_eq_true_eq]
      constructor
      · rintro (⟨s, h1, h2, h3⟩ | e)
        · exact ⟨s, by omega, h2, h3⟩
        · exact ⟨n, by omega, tb.mpr h, e⟩
      · rintro ⟨s, h1, h2, h3⟩
        by_cases e : s = n
        · subst e; exact Or.inr h3
        · exact Or.inl ⟨s, by omega, h2, h3⟩
    · rw [if_neg h, ih]
      constructor
      · rintro ⟨s, h1, h2, h3⟩
        exact ⟨s, by omega, h2, h3⟩
      · rintro ⟨s, h1, h2, h3⟩
        by_cases e : s = n
        · subst e; exact absurd (tb.mp h2) h
        · exact ⟨s, by omega, h2, h3⟩
theorem mm_S_lt {z N A : Nat → Nat} (W : mm_WF z N A) {m : Nat} (hm : m < 2) {c : Nat} (hc : 1 ≤ c) : mm_S z N m c < 64 := by
  by_cases h : c = 1
  · subst h
    rw [mm_S1]
    have b := (W.1 m hm).2
    have := Nat.pow_le_pow_right (n := 2) (by decide) b
    have := Nat.two_pow_pos (z m)
    omega
  · have e : c = 2 * (c / 2) + c % 2 := by omega
    rw [e, mm_S2 z N m (by omega) (by omega)]
    exact mm_tg_lt W.2.1 m _ _ _
theorem mm_S_b {z N A : Nat → Nat} (W : mm_WF z N A) {m : Nat} (hm : m < 2) (j : Nat) : ∀ c, 1 ≤ c → ((mm_S z N m c).testBit j = true ↔ ∃ s, s < z m ∧ mm_G N (6 * m + s) c = 6 * m + j) := by
  intro c
  induction c using Nat.strongRecOn generalizing j with
  | ind c ih =>
    intro hc
    by_cases h : c = 1
    · subst h
      rw [mm_S1, Nat.testBit_two_pow_sub_one, decide_eq_true_eq]
      constructor
      · intro h
        exact ⟨j, h, mm_G1 _ _⟩
      · rintro ⟨s, h1, h2⟩
        rw [mm_G1] at h2
        omega
    · have e : c = 2 * (c / 2) + c % 2 := by omega
      have ha : c % 2 < 2 := by omega
      rw [e, mm_S2 z N m (by omega) ha, mm_tg_b]
      constructor
      · rintro ⟨t, h1, h2, h3⟩
        obtain ⟨s, g1, g2⟩ := (ih (c / 2) (by omega) t (by omega)).mp h2
        refine ⟨s, g1, ?_⟩
        rw [mm_G2 N _ (by omega) ha, g2]
        have d := (mm_th_0 W hm h1).2.1
        unfold mm_st
        rw [d, ← h3]
        rw [show 2 * (6 * m + t) + c % 2 = 12 * m + 2 * t + c % 2 by omega]
      · rintro ⟨s, g1, g2⟩
        rw [mm_G2 N _ (by omega) ha] at g2
        have t0 := mm_th_0 W hm g1
        have g := mm_G_th W t0.1 (c / 2) (by omega)
        rw [t0.2.1] at g
        obtain ⟨⟨k1, k2⟩, k3⟩ := g
        rw [k3] at k2
        have st := (mm_st_th W (mm_G_th W t0.1 (c / 2) (by omega)).1 ha).2
        refine ⟨mm_G N (6 * m + s) (c / 2) % 6, k2, (ih (c / 2) (by omega) _ (by omega)).mpr ⟨s, g1, by omega⟩, ?_⟩
        have e2 : 12 * m + 2 * (mm_G N (6 * m + s) (c / 2) % 6) + c % 2 = 2 * mm_G N (6 * m + s) (c / 2) + c % 2 := by omega
        rw [e2, ← st.2, g2]
        omega
theorem mm_sg1 : ∀ x, x < 64 → ∀ i, i < 6 → ∀ j, j < 6 → (x &&& (x - 1) ≠ 0 ∨ x.testBit i = false ∨ x.testBit j = false ∨ i = j) := by decide +kernel
theorem mm_sg2 : ∀ x, x < 64 → x = 0 ∨ x &&& (x - 1) = 0 ∨ ∃ i, i < 6 ∧ ∃ j, j < 6 ∧ x.testBit i = true ∧ x.testBit j = true ∧ i ≠ j := by decide +kernel
theorem mm_sg (x : Nat) (hx : x < 64) (h0 : x ≠ 0) : x &&& (x - 1) = 0 ↔ ∀ i, i < 6 → ∀ j, j < 6 → x.testBit i = true → x.testBit j = true → i = j := by
  constructor
  · intro h i hi j hj bi bj
    rcases mm_sg1 x hx i hi j hj with g | g | g | g
    · exact absurd h g
    · rw [bi] at g; exact absurd g (by decide)
    · rw [bj] at g; exact absurd g (by decide)
    · exact g
  · intro h
    rcases mm_sg2 x hx with g | g | ⟨i, h1, j, h2, h3, h4, h5⟩
    · exact absurd g h0
    · exact g
    · exact absurd (h i h1 j h2 h3 h4) h5
theorem mm_S_n0 {z N A : Nat → Nat} (W : mm_WF z N A) {m : Nat} (hm : m < 2) {c : Nat} (hc : 1 ≤ c) : mm_S z N m c ≠ 0 := by
  intro h
  have g := mm_g_th W hm hc
  have b := (mm_S_b W hm (mm_G N (6 * m) c % 6) c hc).mpr ⟨0, by have := W.1 m hm; omega, by rw [Nat.add_zero]; omega⟩
  rw [h, Nat.zero_testBit] at b
  exact absurd b (by decide)
/-- one state left: all states go where state 0 goes -/
theorem mm_S_1 {z N A : Nat → Nat} (W : mm_WF z N A) {m : Nat} (hm : m < 2) {c : Nat} (hc : 1 ≤ c) : (mm_S z N m c &&& (mm_S z N m c - 1) = 0 ↔ ∀ s, s < z m → mm_G N (6 * m + s) c = mm_G N (6 * m) c) := by
  have hz := W.1 m hm
  rw [mm_sg _ (mm_S_lt W hm hc) (mm_S_n0 W hm hc)]
  have gg : ∀ s, s < z m → mm_G N (6 * m + s) c / 6 = m := fun s hs => (mm_G_th W (mm_th_0 W hm hs).1 c hc).2.trans (mm_th_0 W hm hs).2.1
  constructor
  · intro h s hs
    have g0 := gg 0 (by omega)
    have gs := gg s hs
    rw [Nat.add_zero] at g0
    have := h (mm_G N (6 * m + s) c % 6) (Nat.mod_lt _ (by decide)) (mm_G N (6 * m) c % 6) (Nat.mod_lt _ (by decide))
      ((mm_S_b W hm _ c hc).mpr ⟨s, hs, by omega⟩) ((mm_S_b W hm _ c hc).mpr ⟨0, by omega, by rw [Nat.add_zero]; omega⟩)
    omega
  · intro h i hi j hj bi bj
    obtain ⟨s, h1, h2⟩ := (mm_S_b W hm _ c hc).mp bi
    obtain ⟨t, g1, g2⟩ := (mm_S_b W hm _ c hc).mp bj
    rw [h s h1] at h2
    rw [h t g1] at g2
    omega
def mm_RS (z N : Nat → Nat) (m : Nat) (c d : Nat) : Prop := mm_S z N m c = mm_S z N m d
theorem mm_RS_cg (z N : Nat → Nat) (m : Nat) : mm_CG (mm_RS z N m) := by
  refine ⟨fun c => rfl, fun c d h => h.symm, fun c d e h g => h.trans g, fun c d a hc hd ha h => ?_⟩
  unfold mm_RS at h ⊢
  rw [mm_S2 z N m hc ha, mm_S2 z N m hd ha, h]
theorem mm_RS_n {z N A : Nat → Nat} (W : mm_WF z N A) {m : Nat} (hm : m < 2) (b : Nat) : mm_cn (mm_FC (mm_RS z N m)) b ≤ 64 := by
  refine mm_cn_pig (f := fun c => mm_S z N m c) ?_ ?_ b
  · intro c h
    exact mm_S_lt W hm h.1
  · intro c d hc hd e
    exact mm_FC_u (mm_RS_cg z N m) hc hd e
end
section
/-! arrays of naturals; numbers -/
def mm_F (f : Nat → Nat) : Nat → Int32 := fun j => nI (f j)
def mm_u (f : Nat → Nat) (k v : Nat) : Nat → Nat := fun j => if j = k then v else f j
theorem mm_us {f : Nat → Nat} {k v : Nat} : mm_u f k v k = v := if_pos rfl
theorem mm_un {f : Nat → Nat} {k v j : Nat} (h : j ≠ k) : mm_u f k v j = f j := if_neg h
theorem mm_rd {f : Nat → Nat} {x : Int32} (n : Nat) (hx : x = nI n) (h : n < 2 ^ 31) : mm_F f x.toNatClampNeg = nI (f n) := by
  rw [pk_cl n hx h]; rfl
theorem mm_ra {f : Nat → Int32} {x : Int32} (n : Nat) (hx : x = nI n) (h : n < 2 ^ 31) : f x.toNatClampNeg = f n := by
  rw [pk_cl n hx h]
theorem mm_wr {f : Nat → Nat} {x y : Int32} (n v : Nat) (hx : x = nI n) (hy : y = nI v) (h : n < 2 ^ 31) : upd (mm_F f) x.toNatClampNeg y = mm_F (mm_u f n v) := by
  rw [pk_cl n hx h, hy]
  funext j
  unfold upd mm_F mm_u
  by_cases e : j = n
  · rw [if_pos e, if_pos e]
  · rw [if_neg e, if_neg e]
theorem mm_wa {f : Nat → Int32} {x y : Int32} (n : Nat) (hx : x = nI n) (h : n < 2 ^ 31) : upd f x.toNatClampNeg y = upd f n y := by
  rw [pk_cl n hx h]
theorem mm_in {n N : Nat} (h : n < N) (hN : N < 2 ^ 31 := by decide) : vp_in (nI n) N := vp_in_nI h hN
theorem mm_cv {P : Int32 → Prop} {a b : Int32} (e : a = b) (h : P b) : P a := e ▸ h
theorem mm_x2 (a : Nat) : 2 * nI a = nI (2 * a) := pk_mul 2 a
theorem mm_x4 (a : Nat) : 4 * nI a = nI (4 * a) := pk_mul 4 a
theorem mm_x6 (a : Nat) : 6 * nI a = nI (6 * a) := pk_mul 6 a
theorem mm_x8 (a : Nat) : 8 * nI a = nI (8 * a) := pk_mul 8 a
theorem mm_x12 (a : Nat) : 12 * nI a = nI (12 * a) := pk_mul 12 a
theorem mm_a12 (a : Nat) : nI a + 12 = nI (a + 12) := nI_add a 12
theorem mm_d2 {a : Nat} (h : a < 2 ^ 31) : nI a / 2 = nI (a / 2) := pk_div (d := 2) h (by decide) (by decide)
theorem mm_d4 {a : Nat} (h : a < 2 ^ 31) : nI a / 4 = nI (a / 4) := pk_div (d := 4) h (by decide) (by decide)
theorem mm_d6 {a : Nat} (h : a < 2 ^ 31) : nI a / 6 = nI (a / 6) := pk_div (d := 6) h (by decide) (by decide)
theorem mm_d8 {a : Nat} (h : a < 2 ^ 31) : nI a / 8 = nI (a / 8) := pk_div (d := 8) h (by decide) (by decide)
theorem mm_d12 {a : Nat} (h : a < 2 ^ 31) : nI a / 12 = nI (a / 12) := pk_div (d := 12) h (by decide) (by decide)
theorem mm_r4 {a : Nat} (h : a < 2 ^ 31) : nI a - nI a / 4 * 4 = nI (a % 4) := pk_rem (d := 4) h (by decide) (by decide)
theorem mm_r6 {a : Nat} (h : a < 2 ^ 31) : nI a - nI a / 6 * 6 = nI (a % 6) := pk_rem (d := 6) h (by decide) (by decide)
theorem mm_r8 {a : Nat} (h : a < 2 ^ 31) : nI a - nI a / 8 * 8 = nI (a % 8) := pk_rem (d := 8) h (by decide) (by decide)
theorem mm_r12 {a : Nat} (h : a < 2 ^ 31) : nI a - nI a / 12 * 12 = nI (a % 12) := pk_rem (d := 12) h (by decide) (by decide)
theorem mm_n1 {a : Nat} (h : a < 2 ^ 32) : nI a &&& 1 = nI (a % 2) := pk_andN h 1 (by decide)
theorem mm_n3 {a : Nat} (h : a < 2 ^ 32) : nI a &&& 3 = nI (a % 4) := pk_andN h 2 (by decide)
theorem mm_n7 {a : Nat} (h : a < 2 ^ 32) : nI a &&& 7 = nI (a % 8) := pk_andN h 3 (by decide)
theorem mm_s1 {a : Nat} (h : a < 2 ^ 31) : nI a >>> ((1 : Int32) &&& 31) = nI (a / 2) := pk_shrN h _ 1 (by decide)
theorem mm_s2 {a : Nat} (h : a < 2 ^ 31) : nI a >>> ((2 : Int32) &&& 31) = nI (a / 4) := pk_shrN h _ 2 (by decide)
theorem mm_s3 {a : Nat} (h : a < 2 ^ 31) : nI a >>> ((3 : Int32) &&& 31) = nI (a / 8) := pk_shrN h _ 3 (by decide)
theorem mm_sk {a k : Nat} (h : a < 2 ^ 31) (hk : k < 32) : nI a >>> (nI k &&& 31) = nI (a / 2 ^ k) := pk_shrN h _ k (s_l k hk)
theorem mm_bit {a k : Nat} (h : a < 2 ^ 31) (hk : k < 32) : (nI a >>> (nI k &&& 31)) &&& 1 = nI (a / 2 ^ k % 2) := by
  have : a / 2 ^ k ≤ a := Nat.div_le_self _ _
  rw [mm_sk h hk, mm_n1 (by omega)]
theorem mm_sl2 {k : Nat} (hk : k < 30) : (2 : Int32) <<< (nI k &&& 31) = nI (2 ^ (k + 1)) := by
  have h : 2 * 2 ^ k < 2 ^ 32 := by
    have := Nat.pow_lt_pow_right (a := 2) (by decide) hk
    omega
  have e := pk_shlN (n := 2) (nI k &&& 31) k (s_l k (by omega)) h
  rw [Nat.pow_succ, Nat.mul_comm]
  exact e
theorem mm_sl1 {k : Nat} (hk : k < 31) : (1 : Int32) <<< (nI k &&& 31) = nI (2 ^ k) := by
  have h : 1 * 2 ^ k < 2 ^ 32 := by
    have := Nat.pow_lt_pow_right (a := 2) (by decide) hk
    omega
  have e := pk_shlN (n := 1) (nI k &&& 31) k (s_l k (by omega)) h
  rw [Nat.one_mul] at e
  exact e
theorem mm_or (a b : Nat) : nI a ||| nI b = nI (a ||| b) := by
  apply Int32.toBitVec_inj.1
  show BitVec.ofNat 32 a ||| BitVec.ofNat 32 b = BitVec.ofNat 32 (a ||| b)
  apply BitVec.eq_of_getLsbD_eq
  intro i hi
  simp [hi]
theorem mm_m1 (k : Nat) : nI k + (-1) = nI k - 1 := (Int32.sub_eq_add_neg (a := nI k) (b := 1)).symm
theorem mm_lg {c : Nat} (h1 : 1 ≤ c) (h : c < 4096) : ∃ L, L ≤ 11 ∧ 2 ^ L ≤ c ∧ c < 2 ^ (L + 1) := by
  obtain ⟨k, r, hr, rfl⟩ := mm_cd h1
  refine ⟨k, ?_, by omega, by rw [Nat.pow_succ]; omega⟩
  rcases Nat.lt_or_ge 11 k with l | l
  · have := Nat.pow_le_pow_right (n := 2) (by decide) (show 12 ≤ k by omega)
    omega
  · exact l
theorem mm_dv {c k : Nat} : c / 2 ^ k = 2 * (c / 2 ^ (k + 1)) + c / 2 ^ k % 2 := by
  have e : c / 2 ^ (k + 1) = c / 2 ^ k / 2 := by rw [Nat.pow_succ, Nat.div_div_eq_div_mul]
  omega
theorem mm_d1 {c L : Nat} (h : 2 ^ L ≤ c) (h2 : c < 2 ^ (L + 1)) : c / 2 ^ L = 1 := by
  rw [Nat.pow_succ] at h2
  exact Nat.div_eq_of_lt_le (by omega) (by omega)
theorem mm_d1' {c k L : Nat} (h : 2 ^ L ≤ c) (hk : k ≤ L) : 1 ≤ c / 2 ^ k := by
  have := Nat.pow_le_pow_right (n := 2) (by decide) hk
  exact Nat.div_pos (by omega) (Nat.two_pow_pos k)
theorem mm_d0 {c k L : Nat} (h2 : c < 2 ^ (L + 1)) (hk : L < k) : c / 2 ^ k = 0 := by
  have := Nat.pow_le_pow_right (n := 2) (by decide) (show L + 1 ≤ k from hk)
  exact Nat.div_eq_of_lt (by omega)
/-- which machine, on both sides -/
theorem mm_mc (v : Int32) : (∃ m, m < 2 ∧ v = nI m) ∨ ((¬ v = 0 ∧ ¬ v = 1) ∧ (v < 0 ∨ (¬ v < 0 ∧ ¬ v ≤ 1))) := by
  by_cases h0 : v < 0
  · refine Or.inr ⟨⟨?_, ?_⟩, Or.inl h0⟩
    · rintro rfl; exact absurd h0 (by decide)
    · rintro rfl; exact absurd h0 (by decide)
  · obtain ⟨j, hj, rfl⟩ := nI_of h0
    by_cases h : j < 2
    · exact Or.inl ⟨j, h, rfl⟩
    · refine Or.inr ⟨⟨fun e => ?_, fun e => ?_⟩, Or.inr ⟨h0, nI_ge (b := j) (a := 1) (by omega) hj⟩⟩
      · have := (nI_eq (b := 0) hj (by decide)).mp e; omega
      · have := (nI_eq (b := 1) hj (by decide)).mp e; omega
theorem mm_ps {m : Nat} (hm : m < 2) : ¬ nI m < 0 := nI_pos (by omega)
end
section
/-! the reference's walks -/
def mm_y (p : Nat) : Nat := 8 * (p / 6) + p % 6
theorem mm_y8 (p : Nat) : mm_y p / 8 = p / 6 ∧ mm_y p % 8 = p % 6 := by unfold mm_y; omega
section
variable {cnt : Int32} {mem sz nx an : Nat → Int32} {z N A : Nat → Nat}
theorem my_bad0 {post : Int32 → Prop} {m : Nat} (hm : m < 2) (h : post 0) : wpY_bad post (cnt, sz, nx, an, mem) (nI m) :=
  br_f (mm_ps hm) (br_t (nI_le (b := 1) (by omega) (by decide)) h)
theorem my_bad1 {post : Int32 → Prop} {v : Int32} (hv : v < 0 ∨ (¬ v < 0 ∧ ¬ v ≤ 1)) (h : post 1) : wpY_bad post (cnt, sz, nx, an, mem) v := by
  rcases hv with hv | ⟨h1, h2⟩
  · exact br_t hv h
  · exact br_f h1 (br_f h2 h)
theorem my_len_l {post : Int32 → Prop} {c L : Nat} (hL : L ≤ 11) (h1 : 2 ^ L ≤ c) (h2 : c < 2 ^ (L + 1)) (hc : c < 4096) (h : post (nI L)) : ∀ n k, 1 ≤ k → k ≤ 13 → 13 - k < n → wY_length_4 post (nI c) cnt sz nx an mem n (nI (if k ≤ L then k - 1 else L)) (nI k) := by
  intro n
  induction n with
  | zero => intro k _ _ h; exact absurd h (by omega)
  | succ n ih =>
    intro k k1 k2 kn
    by_cases e : k = 13
    · subst e
      rw [if_neg (by omega)]
      exact br_t (nI_le (a := 13) (b := 13) (by omega) (by decide)) h
    · have i := ih (k + 1) (by omega) (by omega) (by omega)
      refine br_f (nI_ge (b := 13) (by omega) (by decide)) ?_
      have es := mm_sk (a := c) (k := k) (by omega) (by omega)
      by_cases g : k ≤ L
      · rw [if_pos g]
        have hp := mm_d1' h1 g
        have hle : c / 2 ^ k ≤ c := Nat.div_le_self _ _
        refine br_f ?_ (nm_r (nI_1 k) ?_)
        · rw [es]; exact nI_ge (a := 0) (by omega) (by omega)
        · have e2 : (if k + 1 ≤ L then k + 1 - 1 else L) = k := by split <;> omega
          rw [e2] at i
          exact i
      · rw [if_neg g]
        refine br_t ?_ (nm_r (nI_1 k) ?_)
        · rw [es, mm_d0 h2 (by omega)]; exact nI_le (a := 0) (b := 0) (by omega) (by decide)
        · rw [if_neg (by omega)] at i
          exact i
theorem my_len {post : Int32 → Prop} {c L : Nat} (hL : L ≤ 11) (h1 : 2 ^ L ≤ c) (h2 : c < 2 ^ (L + 1)) (hc : c < 4096) (h : post (nI L)) : wpY_length post (cnt, sz, nx, an, mem) (nI c) := by
  have i := my_len_l (cnt := cnt) (sz := sz) (nx := nx) (an := an) (mem := mem) hL h1 h2 hc h 13 1 (by omega) (by omega) (by omega)
  refine Exists.intro 13 ?_
  have e : (if 1 ≤ L then 1 - 1 else L) = 0 := by split <;> omega
  rw [e] at i
  exact i
theorem my_ix {p g c k : Nat} (hg : g / 6 = p / 6) (hc : c < 4096) (hk : k < 32) : ((12 * nI (p / 6)) + (2 * nI (g % 6))) + ((nI c >>> (nI k &&& 31)) &&& 1) = nI (2 * g + c / 2 ^ k % 2) := by
  rw [mm_bit (by omega) hk, mm_x12, mm_x2, nI_add, nI_add]
  exact congrArg nI (by omega)
theorem my_goal_l (W : mm_WF z N A) {post : Int32 → Prop} {p c : Nat} (hp : mm_th z p) (hc : c < 4096) (h : post (nI (mm_G N p c % 6))) : ∀ k, k ≤ 12 → 1 ≤ c / 2 ^ k → wY_goal_20 post (nI c) (nI (p / 6)) cnt sz (mm_F N) an mem (k + 1) (nI (mm_G N p (c / 2 ^ k) % 6)) (nI k - 1) := by
  intro k
  induction k with
  | zero =>
    intro _ _
    rw [Nat.pow_zero, Nat.div_one]
    exact br_t (by decide) h
  | succ k ih =>
    intro hk h1
    rw [nI_pred]
    have e := mm_dv (c := c) (k := k)
    have hb : c / 2 ^ k % 2 < 2 := Nat.mod_lt _ (by decide)
    have hg := mm_G_th W hp (c / 2 ^ (k + 1)) h1
    have hx := my_ix (c := c) (k := k) hg.2 hc (by omega)
    have i := ih (by omega) (by omega)
    have st := mm_st_th W hg.1 hb
    have hl : 2 * mm_G N p (c / 2 ^ (k + 1)) + c / 2 ^ k % 2 < 24 := by have := hg.1.1; omega
    refine br_f (nI_pos (by omega)) ⟨pk_in _ 24 hl hx, nm_r (mm_rd _ hx (by omega)) (nm_r (mm_m1 k) ?_)⟩
    have e2 : mm_G N p (c / 2 ^ k) % 6 = N (2 * mm_G N p (c / 2 ^ (k + 1)) + c / 2 ^ k % 2) := by
      rw [e, mm_G2 N p h1 hb, st.2.2, ← e]
    rw [e2] at i
    exact i
theorem my_goal (W : mm_WF z N A) {post : Int32 → Prop} {p c : Nat} {x : Int32} (hx : x = nI (mm_y p)) (hp : mm_th z p) (h1 : 1 ≤ c) (hc : c < 4096) (h : post (nI (mm_G N p c % 6))) : wpY_goal post (cnt, sz, mm_F N, an, mem) x (nI c) := by
  subst hx
  obtain ⟨L, l1, l2, l3⟩ := mm_lg h1 hc
  have hy := mm_y8 p
  have hb : mm_y p < 2 ^ 31 := by have := hp.1; unfold mm_y; omega
  have i := my_goal_l (cnt := cnt) (sz := sz) (an := an) (mem := mem) W hp hc h L (by omega) (by rw [mm_d1 l2 l3]; omega)
  rw [mm_d1 l2 l3, mm_G1] at i
  refine And.intro (by decide) (nm_r ((mm_d8 hb).trans (congrArg nI hy.1)) ⟨by decide, nm_r ((mm_r8 hb).trans (congrArg nI hy.2)) ?_⟩)
  exact my_len l1 l2 l3 hc (nm_e ⟨L + 1, i⟩)
theorem my_told_l (W : mm_WF z N A) {post : Int32 → Prop} {p c : Nat} (hp : mm_th z p) (hc : c < 4096) (h : post (nI (mm_T N A p c))) : ∀ k, k ≤ 12 → 1 ≤ c / 2 ^ k → wY_told_23 post (nI c) (nI (p / 6)) cnt sz (mm_F N) (mm_F A) mem (k + 1) (nI (mm_G N p (c / 2 ^ k) % 6)) (nI (mm_T N A p (c / 2 ^ k))) (nI k - 1) := by
  intro k
  induction k with
  | zero =>
    intro _ _
    rw [Nat.pow_zero, Nat.div_one]
    exact br_t (by decide) h
  | succ k ih =>
    intro hk h1
    rw [nI_pred]
    have e := mm_dv (c := c) (k := k)
    have hb : c / 2 ^ k % 2 < 2 := Nat.mod_lt _ (by decide)
    have hg := mm_G_th W hp (c / 2 ^ (k + 1)) h1
    have hx := my_ix (c := c) (k := k) hg.2 hc (by omega)
    have i := ih (by omega) (by omega)
    have st := mm_st_th W hg.1 hb
    have hl : 2 * mm_G N p (c / 2 ^ (k + 1)) + c / 2 ^ k % 2 < 24 := by have := hg.1.1; omega
    have e2 : mm_G N p (c / 2 ^ k) % 6 = N (2 * mm_G N p (c / 2 ^ (k + 1)) + c / 2 ^ k % 2) := by
      rw [e, mm_G2 N p h1 hb, st.2.2, ← e]
    have e3 : mm_T N A p (c / 2 ^ k) = 4 * mm_T N A p (c / 2 ^ (k + 1)) + A (2 * mm_G N p (c / 2 ^ (k + 1)) + c / 2 ^ k % 2) := by
      rw [e, mm_T2 N A p h1 hb, ← e]
    rw [e2, e3] at i
    refine br_f (nI_pos (by omega)) (nm_r hx ⟨pk_in _ 24 hl rfl, nm_r ?_ ⟨pk_in _ 24 hl rfl, nm_r (mm_rd _ rfl (by omega)) (nm_r (mm_m1 k) i)⟩⟩)
    rw [mm_rd _ rfl (by omega), mm_x4, nI_add]
theorem my_told (W : mm_WF z N A) {post : Int32 → Prop} {p c : Nat} {x : Int32} (hx : x = nI (mm_y p)) (hp : mm_th z p) (h1 : 1 ≤ c) (hc : c < 4096) (h : post (nI (mm_T N A p c))) : wpY_told post (cnt, sz, mm_F N, mm_F A, mem) x (nI c) := by
  subst hx
  obtain ⟨L, l1, l2, l3⟩ := mm_lg h1 hc
  have hy := mm_y8 p
  have hb : mm_y p < 2 ^ 31 := by have := hp.1; unfold mm_y; omega
  have i := my_told_l (cnt := cnt) (sz := sz) (mem := mem) W hp hc h L (by omega) (by rw [mm_d1 l2 l3]; omega)
  rw [mm_d1 l2 l3, mm_G1, mm_T1] at i
  refine And.intro (by decide) (nm_r ((mm_d8 hb).trans (congrArg nI hy.1)) ⟨by decide, nm_r ((mm_r8 hb).trans (congrArg nI hy.2)) ?_⟩)
  exact my_len l1 l2 l3 hc (nm_e ⟨L + 1, i⟩)
theorem mm_Tlt {A : Nat → Nat} (hA : ∀ k, A k < 4) (p : Nat) {c : Nat} (h1 : 1 ≤ c) (hc : c < 4096) : mm_T N A p c < 2 ^ 31 := by
  obtain ⟨k, r, hr, rfl⟩ := mm_cd h1
  have hk : k ≤ 11 := by
    rcases Nat.lt_or_ge 11 k with l | l
    · have := Nat.pow_le_pow_right (n := 2) (by decide) (show 12 ≤ k by omega)
      omega
    · exact l
  have a := mm_Tb (N := N) hA k r p hr
  have b := Nat.pow_le_pow_right (n := 4) (by decide) hk
  omega
theorem my_apart_l (W : mm_WF z N A) {post : Int32 → Prop} {p q e : Nat} (hp : mm_th z p) (hq : mm_th z q) (he : e ≤ 11) (hQ : mm_E N A e p q → mm_Q N A p q) (h : ∀ r, r < 4096 → mm_P N A p q r → post (nI r)) : ∀ n c, 1 ≤ c → c ≤ 2 ^ (e + 1) → 2 ^ (e + 1) - c < n → (∀ x, 1 ≤ x → x < c → mm_T N A p x = mm_T N A q x) → wY_apart_44 post (nI (mm_y p)) (nI (mm_y q)) (nI e) cnt sz (mm_F N) (mm_F A) mem n (nI c) := by
  have hb : 2 ^ (e + 1) ≤ 4096 := Nat.pow_le_pow_right (n := 2) (by decide) (show e + 1 ≤ 12 by omega)
  intro n
  induction n with
  | zero => intro c _ _ h; exact absurd h (by omega)
  | succ n ih =>
    intro c h1 h2 h3 h4
    by_cases g : c = 2 ^ (e + 1)
    · refine br_t ?_ (h 0 (by decide) (Or.inl ⟨rfl, hQ (mm_T_E W.2.2.1 fun x a b => h4 x a (by omega))⟩))
      rw [mm_sl2 (by omega)]
      exact nI_le (by omega) (by omega)
    · refine br_f ?_ ?_
      · rw [mm_sl2 (by omega)]
        exact nI_ge (by omega) (by omega)
      · refine my_told W rfl hp h1 (by omega) (my_told W rfl hq h1 (by omega) ?_)
        by_cases t : mm_T N A p c = mm_T N A q c
        · refine br_t (congrArg nI t) (nm_r (nI_1 c) (ih (c + 1) (by omega) (by omega) (by omega) fun x a b => ?_))
          by_cases ex : x = c
          · subst ex; exact t
          · exact h4 x a (by omega)
        · refine br_f (fun x => t ((nI_eq (mm_Tlt W.2.2.1 p h1 (by omega)) (mm_Tlt W.2.2.1 q h1 (by omega))).mp x)) ?_
          exact h c (by omega) (Or.inr ⟨h1, t, h4⟩)
theorem my_apart (W : mm_WF z N A) {post : Int32 → Prop} {p q : Nat} {x y : Int32} (hx : x = nI (mm_y p)) (hy : y = nI (mm_y q)) (hp : mm_th z p) (hq : mm_th z q) (h : ∀ r, r < 4096 → mm_P N A p q r → post (nI r)) : wpY_apart post (cnt, mm_F z, mm_F N, mm_F A, mem) x y := by
  subst hx hy
  have p8 := mm_y8 p
  have q8 := mm_y8 q
  have hpb : mm_y p < 2 ^ 31 := by have := hp.1; unfold mm_y; omega
  have hqb : mm_y q < 2 ^ 31 := by have := hq.1; unfold mm_y; omega
  have ep : nI (mm_y p) / 8 = nI (p / 6) := (mm_d8 hpb).trans (congrArg nI p8.1)
  have eq : nI (mm_y q) / 8 = nI (q / 6) := (mm_d8 hqb).trans (congrArg nI q8.1)
  have hp2 : p / 6 < 2 := by have := hp.1; omega
  have hq2 : q / 6 < 2 := by have := hq.1; omega
  refine And.intro (by decide) (And.intro (by decide) ?_)
  by_cases g : p / 6 = q / 6
  · have b := W.1 (p / 6) hp2
    refine br_t (by rw [ep, eq, g]) ⟨by decide, pk_in (p / 6) 2 hp2 ep, nm_r (e' := nI (z (p / 6) - 1)) ?_ ⟨2 ^ (z (p / 6) - 1 + 1), my_apart_l W hp hq (by omega) (mm_Qm W hp hq g) h _ 1 (by omega) (Nat.one_le_two_pow) (by have := Nat.two_pow_pos (z (p / 6) - 1 + 1); omega) (fun x a b => by omega)⟩⟩
    rw [mm_rd (p / 6) ep (by omega)]
    exact pk_sub (b := 1) (by omega)
  · have b0 := W.1 0 (by decide)
    have b1 := W.1 1 (by decide)
    refine br_f ?_ (nm_r (e' := nI (z 0 + z 1 - 1)) ?_ ⟨2 ^ (z 0 + z 1 - 1 + 1), my_apart_l W hp hq (by omega) (mm_Qa W hp hq) h _ 1 (by omega) (Nat.one_le_two_pow) (by have := Nat.two_pow_pos (z 0 + z 1 - 1 + 1); omega) (fun x a b => by omega)⟩)
    · rw [ep, eq]
      exact fun x => g ((nI_eq (by omega) (by omega)).mp x)
    · show nI (z 0) + nI (z 1) - 1 = _
      rw [nI_add]
      exact pk_sub (b := 1) (by omega)
/-- the place among the members: the first that is alike -/
theorem my_place_l (W : mm_WF z N A) {post : Int32 → Prop} {M : Nat → Nat} {K m p : Nat} (hm : m < 2) (hK : K ≤ 6) (hM : ∀ i, i < K → mem i = nI (M i) ∧ M i < z m) (hp : mm_th z p) (h1 : ∀ i, i < K → mm_Q N A (6 * m + M i) p → (∀ j, j < i → ¬ mm_Q N A (6 * m + M j) p) → post (nI i)) (h2 : (∀ i, i < K → ¬ mm_Q N A (6 * m + M i) p) → post (-1)) : ∀ n i, i ≤ K → K - i < n → (∀ j, j < i → ¬ mm_Q N A (6 * m + M j) p) → wY_place_7 post (nI (mm_y p)) (nI m) (nI K) (mm_F z) (mm_F N) (mm_F A) mem n (nI i) := by
  intro n
  induction n with
  | zero => intro i _ h; exact absurd h (by omega)
  | succ n ih =>
    intro i hi hn hj
    by_cases e : i = K
    · subst e
      exact br_t (nI_le (by omega) (by omega)) (h2 hj)
    · obtain ⟨g1, g2⟩ := hM i (by omega)
      have t := mm_th_0 W hm g2
      refine br_f (nI_ge (by omega) (by omega)) (br_f (nI_ge (b := 6) (by omega) (by decide)) ⟨pk_in i 6 (by omega), ?_⟩)
      refine my_apart W (p := 6 * m + M i) ?_ rfl t.1 hp ?_
      · rw [pk_cl i rfl (by omega), g1, mm_x8, nI_add]
        unfold mm_y
        rw [t.2.1, t.2.2]
      · intro r hr hP
        by_cases q : mm_Q N A (6 * m + M i) p
        · have r0 := (mm_P_0 W.2.2.1 hP).mpr q
          subst r0
          exact br_t rfl (h1 i (by omega) q hj)
        · refine br_f (fun x => q ((mm_P_0 W.2.2.1 hP).mp ((nI_eq (b := 0) (by omega) (by decide)).mp x))) (nm_r (nI_1 i) (ih (i + 1) (by omega) (by omega) fun j hl => ?_))
          by_cases ej : j = i
          · subst ej; exact q
          · exact hj j (by omega)
theorem my_place (W : mm_WF z N A) {post : Int32 → Prop} {M : Nat → Nat} {K m p : Nat} {x : Int32} (hx : x = nI (mm_y p)) (hpm : p / 6 = m) (hm : m < 2) (hK : K ≤ 6) (hM : ∀ i, i < K → mem i = nI (M i) ∧ M i < z m) (hp : mm_th z p) (h1 : ∀ i, i < K → mm_Q N A (6 * m + M i) p → (∀ j, j < i → ¬ mm_Q N A (6 * m + M j) p) → post (nI i)) (h2 : (∀ i, i < K → ¬ mm_Q N A (6 * m + M i) p) → post (-1)) : wpY_place post (nI K, mm_F z, mm_F N, mm_F A, mem) x := by
  subst hx
  have p8 := mm_y8 p
  have hpb : mm_y p < 2 ^ 31 := by have := hp.1; unfold mm_y; omega
  have ep : nI (mm_y p) / 8 = nI m := (mm_d8 hpb).trans (congrArg nI (p8.1.trans hpm))
  exact And.intro (by decide) (nm_r ep ⟨K + 1, my_place_l W hm hK hM hp h1 h2 _ 0 (by omega) (by omega) (fun j hj => absurd hj (by omega))⟩)
end
end
section
/-! the reference's core, classes and reset -/
def mm_IY (N A : Nat → Nat) (m b : Nat) (cnt : Int32) (mem : Nat → Int32) : Prop := cnt = nI (mm_cn (mm_FC (mm_RQ N A m)) b) ∧ ∀ c, c < b → mm_FC (mm_RQ N A m) c → mem (mm_cn (mm_FC (mm_RQ N A m)) c) = nI (mm_G N (6 * m) c % 6)
theorem mm_IY_f {N A : Nat → Nat} {m b : Nat} {cnt : Int32} {mem : Nat → Int32} (h : mm_IY N A m b cnt mem) (hf : ¬ mm_FC (mm_RQ N A m) b) : mm_IY N A m (b + 1) cnt mem := by
  refine ⟨by rw [mm_cn_f hf]; exact h.1, fun c hc hF => ?_⟩
  by_cases e : c = b
  · subst e; exact absurd hF hf
  · exact h.2 c (by omega) hF
theorem mm_IY_t {N A : Nat → Nat} {m b : Nat} {cnt : Int32} {mem : Nat → Int32} (h : mm_IY N A m b cnt mem) (hf : mm_FC (mm_RQ N A m) b) : mm_IY N A m (b + 1) (nI (mm_cn (mm_FC (mm_RQ N A m)) b + 1)) (upd mem (mm_cn (mm_FC (mm_RQ N A m)) b) (nI (mm_G N (6 * m) b % 6))) := by
  refine ⟨by rw [mm_cn_t hf], fun c hc hF => ?_⟩
  by_cases e : c = b
  · subst e; exact pk_us
  · have l := mm_cn_st (mm_FC (mm_RQ N A m)) hF (show c < b by omega)
    rw [pk_un (by omega)]
    exact h.2 c (by omega) hF
section
variable {cnt : Int32} {mem sz nx an : Nat → Int32} {z N A : Nat → Nat}
theorem my_pl (W : mm_WF z N A) {post : Int32 → Prop} {m b p : Nat} {x : Int32} (hx : x = nI (mm_y p)) (hpm : p / 6 = m) (hm : m < 2) (hI : mm_IY N A m b cnt mem) (hp : mm_th z p) (h1 : ∀ c, c < b → mm_FC (mm_RQ N A m) c → mm_Q N A (mm_G N (6 * m) c) p → post (nI (mm_cn (mm_FC (mm_RQ N A m)) c))) (h2 : (∀ c, c < b → mm_FC (mm_RQ N A m) c → ¬ mm_Q N A (mm_G N (6 * m) c) p) → post (-1)) : wpY_place post (cnt, mm_F z, mm_F N, mm_F A, mem) x := by
  obtain ⟨hc, hM⟩ := hI
  subst hc
  have key : ∀ c, c < b → mm_FC (mm_RQ N A m) c → 6 * m + (mem (mm_cn (mm_FC (mm_RQ N A m)) c)).toNatClampNeg = mm_G N (6 * m) c := by
    intro c hc hF
    have g := mm_g_th W hm hF.1
    rw [hM c hc hF, nI_clamp (by omega)]
    omega
  refine my_place W (M := fun i => (mem i).toNatClampNeg) hx hpm hm (mm_RQ_n W hm b) ?_ hp ?_ ?_
  · intro i hi
    obtain ⟨c, c1, c2, c3⟩ := mm_cn_nth _ b i hi
    have e := hM c c1 c2
    rw [c3] at e
    have g := mm_g_th W hm c2.1
    have l := g.1.2
    rw [g.2] at l
    rw [e, nI_clamp (by omega)]
    exact ⟨rfl, l⟩
  · intro i hi hq _
    obtain ⟨c, c1, c2, c3⟩ := mm_cn_nth _ b i hi
    have k := key c c1 c2
    rw [c3] at k
    rw [k] at hq
    rw [← c3]
    exact h1 c c1 c2 hq
  · intro hn
    refine h2 fun c c1 c2 hq => hn (mm_cn (mm_FC (mm_RQ N A m)) c) (mm_cn_st _ c2 c1) ?_
    rw [key c c1 c2]
    exact hq
theorem my_work_l (W : mm_WF z N A) {post : SY → Prop} {m : Nat} (hm : m < 2) (h : ∀ cnt' mem', mm_IY N A m 64 cnt' mem' → post (cnt', mm_F z, mm_F N, mm_F A, mem')) : ∀ n b (cnt : Int32) (mem : Nat → Int32), 1 ≤ b → b ≤ 64 → 64 - b < n → mm_IY N A m b cnt mem → wY_work_7 post (nI m) n (nI b) cnt (mm_F z) (mm_F N) (mm_F A) mem := by
  intro n
  induction n with
  | zero => intro b _ _ _ _ h; exact absurd h (by omega)
  | succ n ih =>
    intro b cnt mem b1 b2 bn hI
    by_cases e : b = 64
    · subst e
      exact br_t (nI_le (a := 64) (b := 64) (by omega) (by decide)) (h cnt mem hI)
    · have t0 := mm_th_0 W hm (s := 0) (by have := W.1 m hm; omega)
      rw [Nat.add_zero] at t0
      have g := mm_g_th W hm b1
      have hy : 8 * nI m = nI (mm_y (6 * m)) := by
        rw [mm_x8]; unfold mm_y
        exact congrArg nI (by omega)
      have next : ¬ mm_FC (mm_RQ N A m) b → wY_work_7 post (nI m) n (nI (b + 1)) cnt (mm_F z) (mm_F N) (mm_F A) mem := fun hf => ih (b + 1) cnt mem (by omega) (by omega) (by omega) (mm_IY_f hI hf)
      refine br_f (nI_ge (b := 64) (by omega) (by decide)) (my_goal W hy t0.1 b1 (by omega) ?_)
      have hn := mm_RQ_n W hm b
      by_cases h6 : mm_cn (mm_FC (mm_RQ N A m)) b = 6
      · refine br_t ?_ (nm_r (nI_1 b) (next fun hf => ?_))
        · rw [hI.1, h6]; exact nI_le (a := 6) (b := 6) (by omega) (by decide)
        · have := mm_RQ_n W hm (b + 1)
          rw [mm_cn_t hf] at this
          omega
      · refine br_f ?_ ?_
        · rw [hI.1]; exact nI_ge (b := 6) (by omega) (by decide)
        · refine my_pl W (p := mm_G N (6 * m) b) ?_ g.2 hm hI g.1 ?_ ?_
          · rw [mm_x8, nI_add]; unfold mm_y
            rw [g.2]
          · intro c c1 c2 hq
            exact br_t (nI_pos' (by have := mm_RQ_n W hm c; omega)) (nm_r (nI_1 b) (next fun hf => hf.2 c c2.1 c1 hq))
          · intro hno
            have hf : mm_FC (mm_RQ N A m) b := by
              refine Classical.byContradiction fun hf => ?_
              obtain ⟨d, d1, d2, d3⟩ := mm_FC_no (mm_RQ_cg N A m) b1 hf
              exact hno d d1 d2 d3
            have hc := hI.1
            refine br_f (by decide) ⟨?_, nm_r (mm_wa _ hc (by omega)) (nm_r (e' := nI (mm_cn (mm_FC (mm_RQ N A m)) b + 1)) ?_ (nm_r (nI_1 b) (ih (b + 1) _ _ (by omega) (by omega) (by omega) (mm_IY_t hI hf))))⟩
            · exact pk_in (mm_cn (mm_FC (mm_RQ N A m)) b) 6 (by omega) hc
            · rw [hc, nI_1]
theorem my_work (W : mm_WF z N A) {post : SY → Prop} {m : Nat} (hm : m < 2) (h : ∀ cnt' mem', mm_IY N A m 64 cnt' mem' → post (cnt', mm_F z, mm_F N, mm_F A, mem')) : wpY_work post (cnt, mm_F z, mm_F N, mm_F A, mem) (nI m) := by
  refine Exists.intro 64 (my_work_l W hm h 64 1 0 mem (by omega) (by omega) (by omega) ⟨?_, fun c hc hF => ?_⟩)
  · rw [(mm_ct_2 _).1]; rfl
  · have := hF.1; omega
/-- fresh: not alike to an earlier state -/
def mm_fr (N A : Nat → Nat) (m s : Nat) : Prop := ∀ t, t < s → ¬ mm_Q N A (6 * m + t) (6 * m + s)
theorem my_cl_in (W : mm_WF z N A) {post : Int32 → Prop} {J : Int32 → Int32 → Prop} {m s : Nat} {x2 : Int32} (hm : m < 2) (hs : s < z m) (hJ1 : mm_fr N A m s → J (x2 + 1) (nI (s + 1))) (hJ0 : ¬ mm_fr N A m s → J x2 (nI (s + 1))) : ∀ n t (x4 : Int32), t ≤ s → s - t < n → ((x4 = 1 ∧ ∀ i, i < t → ¬ mm_Q N A (6 * m + i) (6 * m + s)) ∨ (x4 = 0 ∧ ¬ mm_fr N A m s)) → wY_classes_30 post J (nI m) x2 (nI s) cnt (mm_F z) (mm_F N) (mm_F A) mem n x4 (nI t) := by
  intro n
  have hz := W.1 m hm
  induction n with
  | zero => intro t _ _ h; exact absurd h (by omega)
  | succ n ih =>
    intro t x4 ht hn hx
    by_cases e : t = s
    · subst e
      refine br_t (nI_le (by omega) (by omega)) ?_
      rcases hx with ⟨rfl, hf⟩ | ⟨rfl, hf⟩
      · exact br_f (by decide) (nm_e (nm_r (nI_1 t) (hJ1 hf)))
      · exact br_t rfl (nm_r (nI_1 t) (hJ0 hf))
    · have ts := mm_th_0 W hm hs
      have tt := mm_th_0 W hm (show t < z m by omega)
      refine br_f (nI_ge (by omega) (by omega)) (my_apart W (p := 6 * m + s) (q := 6 * m + t) ?_ ?_ ts.1 tt.1 fun r hr hP => ?_)
      · rw [mm_x8, nI_add]; unfold mm_y; rw [ts.2.1, ts.2.2]
      · rw [mm_x8, nI_add]; unfold mm_y; rw [tt.2.1, tt.2.2]
      · by_cases q : mm_Q N A (6 * m + s) (6 * m + t)
        · have r0 := (mm_P_0 W.2.2.1 hP).mpr q
          subst r0
          exact br_t rfl (nm_r (nI_1 t) (ih (t + 1) 0 (by omega) (by omega) (Or.inr ⟨rfl, fun hf => hf t (by omega) (mm_Q_sy q)⟩)))
        · refine br_f (fun x => q ((mm_P_0 W.2.2.1 hP).mp ((nI_eq (b := 0) (by omega) (by decide)).mp x))) (nm_r (nI_1 t) (ih (t + 1) x4 (by omega) (by omega) ?_))
          rcases hx with ⟨h1, hf⟩ | hx
          · refine Or.inl ⟨h1, fun i hi => ?_⟩
            by_cases ei : i = t
            · subst ei; exact fun x => q (mm_Q_sy x)
            · exact hf i (by omega)
          · exact Or.inr hx
theorem my_cl_out (W : mm_WF z N A) {post : Int32 → Prop} {m : Nat} (hm : m < 2) (h : post (nI (mm_cn (mm_fr N A m) (z m)))) : ∀ n s, s ≤ z m → z m - s < n → wY_classes_14 post (nI m) cnt (mm_F z) (mm_F N) (mm_F A) mem n (nI (mm_cn (mm_fr N A m) s)) (nI s) := by
  intro n
  have hz := W.1 m hm
  induction n with
  | zero => intro s _ h; exact absurd h (by omega)
  | succ n ih =>
    intro s hs hn
    refine And.intro (pk_in m 2 hm) ?_
    have er : mm_F z (nI m).toNatClampNeg = nI (z m) := mm_rd m rfl (by omega)
    by_cases e : s = z m
    · subst e
      refine br_t ?_ h
      rw [er]; exact nI_le (by omega) (by omega)
    · refine br_f ?_ ⟨s + 1, my_cl_in W hm (by omega) ?_ ?_ (s + 1) 0 1 (by omega) (by omega) (Or.inl ⟨rfl, fun i hi => absurd hi (by omega)⟩)⟩
      · rw [er]; exact nI_ge (by omega) (by omega)
      · intro hf
        have := ih (s + 1) (by omega) (by omega)
        rw [mm_cn_t hf, ← nI_1] at this
        exact this
      · intro hf
        have := ih (s + 1) (by omega) (by omega)
        rw [mm_cn_f hf] at this
        exact this
/-- all states go to one -/
def mm_al (z N : Nat → Nat) (m c : Nat) : Prop := ∀ s, s < z m → mm_G N (6 * m + s) c = mm_G N (6 * m) c
theorem my_rs_in (W : mm_WF z N A) {post : Int32 → Prop} {J : Int32 → Prop} {m c : Nat} (hm : m < 2) (h1 : 1 ≤ c) (hc : c < 4096) (hp : mm_al z N m c → post (nI c)) (hJ : ¬ mm_al z N m c → J (nI (c + 1))) : ∀ n t (x4 : Int32), t ≤ z m → z m - t < n → ((x4 = 1 ∧ ∀ i, i < t → mm_G N (6 * m + i) c = mm_G N (6 * m) c) ∨ (x4 = 0 ∧ ¬ mm_al z N m c)) → wY_reset_35 post J (nI m) (nI c) (nI (mm_G N (6 * m) c % 6)) cnt (mm_F z) (mm_F N) an mem n x4 (nI t) := by
  intro n
  have hz := W.1 m hm
  have er : mm_F z (nI m).toNatClampNeg = nI (z m) := mm_rd m rfl (by omega)
  induction n with
  | zero => intro t _ _ h; exact absurd h (by omega)
  | succ n ih =>
    intro t x4 ht hn hx
    refine And.intro (pk_in m 2 hm) ?_
    by_cases e : t = z m
    · refine br_t (by rw [er, e]; exact nI_le (by omega) (by omega)) ?_
      subst e
      rcases hx with ⟨rfl, hf⟩ | ⟨rfl, hf⟩
      · exact br_f (by decide) (hp hf)
      · exact br_t rfl (nm_r (nI_1 c) (hJ hf))
    · refine br_f (by rw [er]; exact nI_ge (by omega) (by omega)) ?_
      rcases hx with ⟨rfl, hf⟩ | ⟨rfl, hf⟩
      · have tt := mm_th_0 W hm (show t < z m by omega)
        have gt := mm_G_th W tt.1 c h1
        rw [tt.2.1] at gt
        have g0 := mm_g_th W hm h1
        refine br_f (by decide) (my_goal W (p := 6 * m + t) ?_ tt.1 h1 hc ?_)
        · rw [mm_x8, nI_add]; unfold mm_y; rw [tt.2.1, tt.2.2]
        · by_cases g : mm_G N (6 * m + t) c = mm_G N (6 * m) c
          · refine br_t (by rw [g]) (nm_r (nI_1 t) (ih (t + 1) 1 (by omega) (by omega) (Or.inl ⟨rfl, fun i hi => ?_⟩)))
            by_cases ei : i = t
            · subst ei; exact g
            · exact hf i (by omega)
          · refine br_f (fun x => g ?_) (nm_r (nI_1 t) (ih (t + 1) 0 (by omega) (by omega) (Or.inr ⟨rfl, fun hf => g (hf t (by omega))⟩)))
            have := (nI_eq (by omega) (by omega)).mp x
            omega
      · exact br_t rfl (br_t rfl (nm_r (nI_1 c) (hJ hf)))
theorem my_rs_out (W : mm_WF z N A) {post : Int32 → Prop} {m : Nat} (hm : m < 2) (h1 : ∀ c, 1 ≤ c → c < 4096 → mm_al z N m c → (∀ d, 1 ≤ d → d < c → ¬ mm_al z N m d) → post (nI c)) (h0 : (∀ d, 1 ≤ d → d < 4096 → ¬ mm_al z N m d) → post 0) : ∀ n c, 1 ≤ c → c ≤ 4096 → 4096 - c < n → (∀ d, 1 ≤ d → d < c → ¬ mm_al z N m d) → wY_reset_12 post (nI m) cnt (mm_F z) (mm_F N) an mem n (nI c) := by
  intro n
  have hz := W.1 m hm
  induction n with
  | zero => intro c _ _ h; exact absurd h (by omega)
  | succ n ih =>
    intro c c1 c2 cn hd
    by_cases e : c = 4096
    · subst e
      exact br_t (nI_le (a := 4096) (b := 4096) (by omega) (by decide)) (h0 hd)
    · have t0 := mm_th_0 W hm (s := 0) (by omega)
      rw [Nat.add_zero] at t0
      have hy : 8 * nI m = nI (mm_y (6 * m)) := by
        rw [mm_x8]; unfold mm_y
        exact congrArg nI (by omega)
      refine br_f (nI_ge (b := 4096) (by omega) (by decide)) (my_goal W hy t0.1 c1 (by omega) ⟨z m + 1, my_rs_in W hm c1 (by omega) (fun ha => h1 c c1 (by omega) ha hd) (fun ha => ?_) (z m + 1) 1 1 (by omega) (by omega) (Or.inl ⟨rfl, fun i hi => ?_⟩)⟩)
      · refine ih (c + 1) (by omega) (by omega) (by omega) fun d d1 d2 => ?_
        by_cases ed : d = c
        · subst ed; exact ha
        · exact hd d d1 (by omega)
      · have : i = 0 := by omega
        subst this
        rw [Nat.add_zero]
theorem my_reset (W : mm_WF z N A) {post : Int32 → Prop} {m : Nat} (hm : m < 2) (h1 : ∀ c, 1 ≤ c → c < 4096 → mm_al z N m c → (∀ d, 1 ≤ d → d < c → ¬ mm_al z N m d) → post (nI c)) (h0 : (∀ d, 1 ≤ d → d < 4096 → ¬ mm_al z N m d) → post 0) : wpY_reset post (cnt, mm_F z, mm_F N, an, mem) (nI m) := by
  unfold wpY_reset
  dsimp only
  exact my_bad0 hm (br_t rfl ⟨4096, my_rs_out W hm h1 h0 4096 1 (by omega) (by omega) (by omega) (fun d d1 d2 => by omega)⟩)
theorem my_classes (W : mm_WF z N A) {post : Int32 → Prop} {m : Nat} (hm : m < 2) (h : post (nI (mm_cn (mm_fr N A m) (z m)))) : wpY_classes post (cnt, mm_F z, mm_F N, mm_F A, mem) (nI m) := by
  unfold wpY_classes
  dsimp only
  exact my_bad0 hm (br_t rfl ⟨z m + 1, my_cl_out W hm h (z m + 1) 0 (by omega) (by omega)⟩)
end
end
section
/-! the component's walks: places, letters, runs, the table -/
theorem mx_m1 {post : Int32 → Prop} {m : Nat} (hm : m < 2) (h : post 1) : wpX_isMachine post (nI m) := by
  rcases (show m = 0 ∨ m = 1 by omega) with rfl | rfl
  · exact br_t rfl h
  · exact br_f (by decide) (br_t rfl h)
theorem mx_m0 {post : Int32 → Prop} {v : Int32} (h0 : ¬ v = 0) (h1 : ¬ v = 1) (h : post 0) : wpX_isMachine post v := br_f h0 (br_f h1 h)
section
variable {fc cu cnt : Int32} {sz nx an ap cl le qu wo mem ynx yan : Nat → Int32} {z N A : Nat → Nat}
/-- the place of a state, on both sides -/
theorem mm_pl (W : mm_WF z N A) (v : Int32) : (∃ p, mm_th z p ∧ v = nI (mm_y p) ∧ (∀ post : Int32 → Prop, post (nI p) → wpX_placeOf post (fc, cu, mm_F z, nx, an, ap, cl, le, qu, wo) v) ∧ (∀ post : Int32 → Prop, post 0 → wpY_badState post (cnt, mm_F z, ynx, yan, mem) v)) ∨ ((∀ post : Int32 → Prop, post (-1) → wpX_placeOf post (fc, cu, mm_F z, nx, an, ap, cl, le, qu, wo) v) ∧ (∀ post : Int32 → Prop, post 1 → wpY_badState post (cnt, mm_F z, ynx, yan, mem) v)) := by
  by_cases h0 : v < 0
  · refine Or.inr ⟨fun post h => nm_e (nm_e (mx_m0 ?_ ?_ (br_t rfl h))), fun post h => br_t h0 h⟩
    · intro e
      have s := pk_shr v ((3 : Int32) &&& 31) 3 (by decide)
      rw [e, Int.shiftRight_eq_div_pow] at s
      rw [Int32.lt_iff_toInt_lt] at h0
      have z0 : (0 : Int32).toInt = 0 := by decide
      rw [z0] at s h0
      have : ((2 ^ 3 : Nat) : Int) = 8 := by decide
      rw [this] at s
      omega
    · intro e
      have s := pk_shr v ((3 : Int32) &&& 31) 3 (by decide)
      rw [e, Int.shiftRight_eq_div_pow] at s
      rw [Int32.lt_iff_toInt_lt] at h0
      have z0 : (0 : Int32).toInt = 0 := by decide
      have z1 : (1 : Int32).toInt = 1 := by decide
      rw [z1] at s
      rw [z0] at h0
      have : ((2 ^ 3 : Nat) : Int) = 8 := by decide
      rw [this] at s
      omega
  · obtain ⟨j, hj, rfl⟩ := nI_of h0
    have e3 := mm_s3 hj
    have e7 := mm_n7 (a := j) (by omega)
    by_cases h16 : j < 16
    · have hm : j / 8 < 2 := by omega
      have b := W.1 (j / 8) hm
      have ed := mm_d8 (a := j) hj
      have er := mm_r8 (a := j) hj
      have rd : mm_F z (nI (j / 8)).toNatClampNeg = nI (z (j / 8)) := mm_rd _ rfl (by omega)
      by_cases hs : j % 8 < z (j / 8)
      · have t := mm_th_0 W hm hs
        refine Or.inl ⟨6 * (j / 8) + j % 8, t.1, ?_, fun post h => nm_r e3 (nm_r e7 (mx_m1 hm (br_f (by decide) ⟨pk_in _ 2 hm, br_f ?_ ?_⟩))), fun post h => br_f h0 (br_f ?_ ⟨by decide, by decide, pk_in _ 2 hm ed, br_t ?_ h⟩)⟩
        · unfold mm_y
          rw [t.2.1, t.2.2]
          exact congrArg nI (by omega)
        · rw [rd]; exact nI_ge (by omega) (by omega)
        · rw [mm_x6, nI_add]; exact h
        · exact nI_nlt (a := 15) (b := j) (by omega) (by decide)
        · rw [ed, rd]
          rw [ed] at er
          rw [er]
          exact nI_lt hs (by omega)
      · refine Or.inr ⟨fun post h => nm_r e3 (nm_r e7 (mx_m1 hm (br_f (by decide) ⟨pk_in _ 2 hm, br_t ?_ h⟩))), fun post h => br_f h0 (br_f ?_ ⟨by decide, by decide, pk_in _ 2 hm ed, br_f ?_ h⟩)⟩
        · rw [rd]; exact nI_le (by omega) (by omega)
        · exact nI_nlt (a := 15) (b := j) (by omega) (by decide)
        · rw [ed, rd]
          rw [ed] at er
          rw [er]
          exact nI_nlt (by omega) (by omega)
    · refine Or.inr ⟨fun post h => nm_r e3 (nm_r e7 (mx_m0 ?_ ?_ (br_t rfl h))), fun post h => br_f h0 (br_t (nI_lt (a := 15) (by omega) hj) h)⟩
      · exact fun e => by have := (nI_eq (b := 0) (by omega) (by decide)).mp e; omega
      · exact fun e => by have := (nI_eq (b := 1) (by omega) (by decide)).mp e; omega
theorem mx_let_l {post : Int32 → Prop} {c L : Nat} (hL : L ≤ 11) (h1 : 2 ^ L ≤ c) (h2 : c < 2 ^ (L + 1)) (hc : c < 4096) (h : post (nI L)) : ∀ n l, l ≤ L → L - l < n → wX_lettersOf_2 post (nI c) n (nI l) := by
  intro n
  induction n with
  | zero => intro l _ h; exact absurd h (by omega)
  | succ n ih =>
    intro l hl hn
    have hs := mm_sl2 (k := l) (by omega)
    by_cases e : l = L
    · subst e
      by_cases g : l = 11
      · exact br_t (by rw [g]; exact nI_le (a := 11) (b := 11) (by omega) (by decide)) h
      · refine br_f (nI_ge (b := 11) (by omega) (by decide)) (br_t ?_ h)
        rw [hs]
        exact nI_lt h2 (by have := Nat.pow_le_pow_right (n := 2) (by decide) (show l + 1 ≤ 11 by omega); omega)
    · refine br_f (nI_ge (b := 11) (by omega) (by decide)) (br_f ?_ (nm_r (nI_1 l) (ih (l + 1) (by omega) (by omega))))
      rw [hs]
      have := Nat.pow_le_pow_right (n := 2) (by decide) (show l + 1 ≤ L by omega)
      exact nI_nlt (by omega) (by omega)
theorem mx_let {post : Int32 → Prop} {c L : Nat} (hL : L ≤ 11) (h1 : 2 ^ L ≤ c) (h2 : c < 2 ^ (L + 1)) (hc : c < 4096) (h : post (nI L)) : wpX_lettersOf post (nI c) :=
  Exists.intro (L + 1) (mx_let_l hL h1 h2 hc h (L + 1) 0 (by omega) (by omega))
theorem mx_after {post : Int32 → Prop} {p a : Nat} {x y : Int32} (hp : p < 12) (ha : a < 2) (h : post (nI (mm_st N p a))) (hx : x = nI p := by rfl) (hy : y = nI a := by rfl) : wpX_after post (fc, cu, sz, mm_F N, an, ap, cl, le, qu, wo) x y := by
  subst hx hy
  have e : 2 * nI p + nI a = nI (2 * p + a) := by rw [mm_x2, nI_add]
  refine And.intro (by decide) (And.intro (pk_in (2 * p + a) 24 (by omega) e) ?_)
  rw [mm_rd (2 * p + a) e (by omega), mm_d6 (by omega), mm_x6, nI_add]
  exact h
theorem mx_there {post : Int32 → Prop} {p : Nat} {x : Int32} (hz : ∀ m, m < 2 → 1 ≤ z m ∧ z m ≤ 6) (hp : p < 12) (h1 : mm_th z p → post 1) (h0 : ¬ mm_th z p → post 0) (hx : x = nI p := by rfl) : wpX_isThere post (fc, cu, mm_F z, nx, an, ap, cl, le, qu, wo) x := by
  subst hx
  have b := hz (p / 6) (by omega)
  have ed := mm_d6 (a := p) (by omega)
  have er := mm_r6 (a := p) (by omega)
  have rd : mm_F z (nI p / 6).toNatClampNeg = nI (z (p / 6)) := mm_rd _ ed (by omega)
  refine And.intro (by decide) (And.intro (by decide) (And.intro (pk_in (p / 6) 2 (by omega) ed) ?_))
  rw [rd, er]
  by_cases t : p % 6 < z (p / 6)
  · exact br_f (nI_ge (by omega) (by omega)) (h1 ⟨hp, t⟩)
  · exact br_t (nI_le (by omega) (by omega)) (h0 fun x => t x.2)
theorem mx_run_l (W : mm_WF z N A) {post : Int32 → Prop} {p c : Nat} (hp : mm_th z p) (hc : c < 4096) (h : post (nI (mm_G N p c % 6))) : ∀ k, k ≤ 12 → 1 ≤ c / 2 ^ k → wX_run_39 post (nI c) fc cu sz (mm_F N) an ap cl le qu wo (k + 1) (nI (mm_G N p (c / 2 ^ k))) (nI k - 1) := by
  intro k
  induction k with
  | zero =>
    intro _ h1
    rw [Nat.pow_zero, Nat.div_one] at h1 ⊢
    have g := (mm_G_th W hp c h1).1.1
    refine br_t (by decide) ⟨by decide, ?_⟩
    rw [mm_r6 (by omega)]
    exact h
  | succ k ih =>
    intro hk h1
    rw [nI_pred]
    have e := mm_dv (c := c) (k := k)
    have hb : c / 2 ^ k % 2 < 2 := Nat.mod_lt _ (by decide)
    have hg := mm_G_th W hp (c / 2 ^ (k + 1)) h1
    have i := ih (by omega) (by omega)
    have e2 : mm_G N p (c / 2 ^ k) = mm_st N (mm_G N p (c / 2 ^ (k + 1))) (c / 2 ^ k % 2) := by
      rw [e, mm_G2 N p h1 hb, ← e]
    rw [e2] at i
    exact br_f (nI_pos (by omega)) (mx_after hg.1.1 hb (nm_r (mm_m1 k) i) rfl (mm_bit (by omega) (by omega)))
theorem mx_resp_l (W : mm_WF z N A) {post : Int32 → Prop} {p c : Nat} (hp : mm_th z p) (hc : c < 4096) (h : post (nI (mm_T N A p c))) : ∀ k, k ≤ 12 → 1 ≤ c / 2 ^ k → wX_response_42 post (nI c) fc cu sz (mm_F N) (mm_F A) ap cl le qu wo (k + 1) (nI (mm_G N p (c / 2 ^ k))) (nI (mm_T N A p (c / 2 ^ k))) (nI k - 1) := by
  intro k
  induction k with
  | zero =>
    intro _ h1
    rw [Nat.pow_zero, Nat.div_one] at h1 ⊢
    exact br_t (by decide) h
  | succ k ih =>
    intro hk h1
    rw [nI_pred]
    have e := mm_dv (c := c) (k := k)
    have hb : c / 2 ^ k % 2 < 2 := Nat.mod_lt _ (by decide)
    have hg := mm_G_th W hp (c / 2 ^ (k + 1)) h1
    have i := ih (by omega) (by omega)
    have e2 : mm_G N p (c / 2 ^ k) = mm_st N (mm_G N p (c / 2 ^ (k + 1))) (c / 2 ^ k % 2) := by
      rw [e, mm_G2 N p h1 hb, ← e]
    have e3 : mm_T N A p (c / 2 ^ k) = 4 * mm_T N A p (c / 2 ^ (k + 1)) + A (2 * mm_G N p (c / 2 ^ (k + 1)) + c / 2 ^ k % 2) := by
      rw [e, mm_T2 N A p h1 hb, ← e]
    rw [e2, e3] at i
    have hl : 2 * mm_G N p (c / 2 ^ (k + 1)) + c / 2 ^ k % 2 < 24 := by have := hg.1.1; omega
    have hx : 2 * nI (mm_G N p (c / 2 ^ (k + 1))) + nI (c / 2 ^ k % 2) = nI (2 * mm_G N p (c / 2 ^ (k + 1)) + c / 2 ^ k % 2) := by rw [mm_x2, nI_add]
    refine br_f (nI_pos (by omega)) (nm_r (mm_bit (by omega) (by omega)) ⟨pk_in _ 24 hl hx, nm_r ?_ (mx_after hg.1.1 hb (nm_r (mm_m1 k) i))⟩)
    rw [mm_rd _ hx (by omega), mm_x4, nI_add]
theorem mx_run (W : mm_WF z N A) {post : Int32 → Prop} {p c L : Nat} (hp : mm_th z p) (hc : c < 4096) (hL : L ≤ 11) (h1 : 2 ^ L ≤ c) (h2 : c < 2 ^ (L + 1)) (h : post (nI (mm_G N p c % 6))) : ∃ n, wX_run_39 post (nI c) fc cu sz (mm_F N) an ap cl le qu wo n (nI p) (nI L - 1) := by
  have i := mx_run_l (fc := fc) (cu := cu) (sz := sz) (an := an) (ap := ap) (cl := cl) (le := le) (qu := qu) (wo := wo) W hp hc h L (by omega) (by rw [mm_d1 h1 h2]; omega)
  rw [mm_d1 h1 h2, mm_G1] at i
  exact ⟨L + 1, i⟩
theorem mx_resp (W : mm_WF z N A) {post : Int32 → Prop} {p c L : Nat} (hp : mm_th z p) (hc : c < 4096) (hL : L ≤ 11) (h1 : 2 ^ L ≤ c) (h2 : c < 2 ^ (L + 1)) (h : post (nI (mm_T N A p c))) : ∃ n, wX_response_42 post (nI c) fc cu sz (mm_F N) (mm_F A) ap cl le qu wo n (nI p) 0 (nI L - 1) := by
  have i := mx_resp_l (fc := fc) (cu := cu) (sz := sz) (ap := ap) (cl := cl) (le := le) (qu := qu) (wo := wo) W hp hc h L (by omega) (by rw [mm_d1 h1 h2]; omega)
  rw [mm_d1 h1 h2, mm_G1, mm_T1] at i
  exact ⟨L + 1, i⟩
/-- whether a letter leads on; f is what the table holds -/
theorem mx_goes (W : mm_WF z N A) {post : Int32 → Prop} {f : Nat → Nat} {p q l : Nat} {x y w : Int32} (hf : ∀ k, k < 144 → ap k = nI (f k)) (hb : ∀ k, f k < 2 ^ 31) (hl : l < 2 ^ 31) (hp : mm_th z p) (hq : mm_th z q) (h1 : (f (12 * mm_st N p 0 + mm_st N q 0) = l ∨ f (12 * mm_st N p 1 + mm_st N q 1) = l) → post 1) (h0 : ¬ (f (12 * mm_st N p 0 + mm_st N q 0) = l ∨ f (12 * mm_st N p 1 + mm_st N q 1) = l) → post 0) (hx : x = nI p := by rfl) (hy : y = nI q := by rfl) (hw : w = nI l := by rfl) : wpX_goesTo post (fc, cu, sz, mm_F N, an, ap, cl, le, qu, wo) x y w := by
  subst hx hy hw
  have p0 := (mm_st_th W hp (a := 0) (by decide)).1.1
  have p1 := (mm_st_th W hp (a := 1) (by decide)).1.1
  have q0 := (mm_st_th W hq (a := 0) (by decide)).1.1
  have q1 := (mm_st_th W hq (a := 1) (by decide)).1.1
  have e0 : 12 * nI (mm_st N p 0) + nI (mm_st N q 0) = nI (12 * mm_st N p 0 + mm_st N q 0) := by rw [mm_x12, nI_add]
  have e1 : 12 * nI (mm_st N p 1) + nI (mm_st N q 1) = nI (12 * mm_st N p 1 + mm_st N q 1) := by rw [mm_x12, nI_add]
  have r0 : ap (12 * nI (mm_st N p 0) + nI (mm_st N q 0)).toNatClampNeg = nI (f (12 * mm_st N p 0 + mm_st N q 0)) := by
    rw [pk_cl _ e0 (by omega), hf _ (by omega)]
  have r1 : ap (12 * nI (mm_st N p 1) + nI (mm_st N q 1)).toNatClampNeg = nI (f (12 * mm_st N p 1 + mm_st N q 1)) := by
    rw [pk_cl _ e1 (by omega), hf _ (by omega)]
  refine Exists.intro 3 (br_f (by decide) (mx_after hp.1 (a := 0) (by decide) (mx_after hq.1 (a := 0) (by decide) ⟨pk_in _ 144 (by omega) e0, ?_⟩)))
  rw [r0]
  by_cases g0 : f (12 * mm_st N p 0 + mm_st N q 0) = l
  · exact br_t (congrArg nI g0) (h1 (Or.inl g0))
  · refine br_f (fun x => g0 ((nI_eq (hb _) hl).mp x)) (nm_r (e' := nI 1) rfl ?_)
    refine br_f (by decide) (mx_after hp.1 (a := 1) (by decide) (mx_after hq.1 (a := 1) (by decide) ⟨pk_in _ 144 (by omega) e1, ?_⟩))
    rw [r1]
    by_cases g1 : f (12 * mm_st N p 1 + mm_st N q 1) = l
    · exact br_t (congrArg nI g1) (h1 (Or.inr g1))
    · refine br_f (fun x => g1 ((nI_eq (hb _) hl).mp x)) (nm_r (e' := nI 2) rfl ?_)
      exact br_t (by decide) (h0 fun x => x.elim g0 g1)
end
end
section
/-! the component's table is worked out -/
def mm_Tb2 (z N A : Nat → Nat) (ap : Nat → Int32) : Prop := ∀ k, k < 144 → ap k = nI (mm_d z N A 10 (k / 12) (k % 12))
section
variable {fc cu : Int32} {ap cl le qu wo : Nat → Int32} {z N A : Nat → Nat}
def mm_mix (z N A : Nat → Nat) (j k i : Nat) : Nat := if i < k then mm_d z N A (j + 1) (i / 12) (i % 12) else mm_d z N A j (i / 12) (i % 12)
theorem mm_mix_b (z N A : Nat → Nat) {j : Nat} (hj : j ≤ 10) (k i : Nat) : mm_mix z N A j k i < 2 ^ 31 := by
  unfold mm_mix
  have a := mm_d_le z N A (j + 1) (i / 12) (i % 12)
  have b := mm_d_le z N A j (i / 12) (i % 12)
  split <;> omega
theorem mm_mix_at {z N A : Nat → Nat} {j k a b : Nat} (hb : b < 12) : mm_mix z N A j k (12 * a + b) = j + 1 ↔ mm_d z N A j a b = j + 1 := by
  have e1 : (12 * a + b) / 12 = a := by omega
  have e2 : (12 * a + b) % 12 = b := by omega
  unfold mm_mix
  rw [e1, e2]
  split
  · exact mm_d_new
  · exact Iff.rfl
theorem mm_mix_s {z N A : Nat → Nat} {j k : Nat} {ap : Nat → Int32} (h : ∀ i, i < 144 → ap i = nI (mm_mix z N A j k i)) (e : mm_d z N A (j + 1) (k / 12) (k % 12) = mm_d z N A j (k / 12) (k % 12)) : ∀ i, i < 144 → ap i = nI (mm_mix z N A j (k + 1) i) := by
  intro i hi
  rw [h i hi]
  refine congrArg nI ?_
  unfold mm_mix
  by_cases g : i = k
  · subst g
    rw [if_neg (by omega), if_pos (by omega), e]
  · by_cases l : i < k
    · rw [if_pos l, if_pos (by omega)]
    · rw [if_neg l, if_neg (by omega)]
theorem mm_mix_u {z N A : Nat → Nat} {j k v : Nat} {ap : Nat → Int32} (h : ∀ i, i < 144 → ap i = nI (mm_mix z N A j k i)) (e : mm_d z N A (j + 1) (k / 12) (k % 12) = v) : ∀ i, i < 144 → upd ap k (nI v) i = nI (mm_mix z N A j (k + 1) i) := by
  intro i hi
  by_cases g : i = k
  · subst g
    rw [pk_us, ← e]
    unfold mm_mix
    rw [if_pos (by omega)]
  · rw [pk_un g, h i hi]
    refine congrArg nI ?_
    unfold mm_mix
    by_cases l : i < k
    · rw [if_pos l, if_pos (by omega)]
    · rw [if_neg l, if_neg (by omega)]
theorem mm_d_S (z N A : Nat → Nat) (j p q : Nat) : mm_d z N A (j + 1) p q = if mm_d z N A j p q = 0 ∧ mm_th z p ∧ mm_th z q then (if mm_d z N A j (mm_st N p 0) (mm_st N q 0) = j + 1 ∨ mm_d z N A j (mm_st N p 1) (mm_st N q 1) = j + 1 then j + 2 else 0) else mm_d z N A j p q := rfl
theorem mx_rf129 (W : mm_WF z N A) {post : SX → Prop} {J : Int32 → (Nat → Int32) → (Nat → Int32) → (Nat → Int32) → (Nat → Int32) → (Nat → Int32) → (Nat → Int32) → (Nat → Int32) → (Nat → Int32) → Prop} {j : Nat} (hj : j < 10) (hJ : ∀ ap' : Nat → Int32, (∀ i, i < 144 → ap' i = nI (mm_d z N A (j + 1) (i / 12) (i % 12))) → J (nI (j + 3)) (mm_F z) (mm_F N) (mm_F A) ap' cl le qu wo) : ∀ n k (ap : Nat → Int32), k ≤ 144 → 144 - k < n → (∀ i, i < 144 → ap i = nI (mm_mix z N A j k i)) → wX_refresh_129 post J (nI (j + 2)) fc cu n (nI k) (mm_F z) (mm_F N) (mm_F A) ap cl le qu wo := by
  intro n
  induction n with
  | zero => intro k _ _ h; exact absurd h (by omega)
  | succ n ih =>
    intro k ap hk hn hm
    by_cases e : k = 144
    · refine br_t (by rw [e]; exact nI_le (a := 144) (b := 144) (by omega) (by decide)) (nm_r (nI_1 (j + 2)) (hJ ap fun i hi => ?_))
      rw [hm i hi]
      unfold mm_mix
      rw [if_pos (by omega)]
    · have hk' : k < 144 := by omega
      have hp : k / 12 < 12 := by omega
      have hq : k % 12 < 12 := by omega
      have ed := mm_d12 (a := k) (by omega)
      have er := mm_r12 (a := k) (by omega)
      have dj := mm_d_le z N A j (k / 12) (k % 12)
      have rd : ap (nI k).toNatClampNeg = nI (mm_d z N A j (k / 12) (k % 12)) := by
        rw [pk_cl k rfl (by omega), hm k hk']
        unfold mm_mix
        rw [if_neg (by omega)]
      have keep : mm_d z N A (j + 1) (k / 12) (k % 12) = mm_d z N A j (k / 12) (k % 12) → wX_refresh_129 post J (nI (j + 2)) fc cu n (nI (k + 1)) (mm_F z) (mm_F N) (mm_F A) ap cl le qu wo := fun x => ih (k + 1) ap (by omega) (by omega) (mm_mix_s hm x)
      refine br_f (nI_ge (b := 144) (by omega) (by decide)) ⟨pk_in k 144 hk', ?_⟩
      rw [rd]
      by_cases d0 : mm_d z N A j (k / 12) (k % 12) = 0
      · refine br_t (by rw [d0]; rfl) ⟨by decide, mx_there W.1 hp (fun tp => ?_) (fun tp => ?_) ed⟩
        · refine br_f (by decide) ⟨by decide, mx_there W.1 hq (fun tq => ?_) (fun tq => ?_) er⟩
          · refine br_f (by decide) ⟨by decide, by decide, mx_goes W (l := j + 1) hm (mm_mix_b z N A (by omega) k) (by omega) tp tq (fun g => ?_) (fun g => ?_) ed er (nI_pred (j + 1))⟩
            · rw [mm_mix_at (mm_st_th W tq (a := 0) (by decide)).1.1, mm_mix_at (mm_st_th W tq (a := 1) (by decide)).1.1] at g
              refine br_f (by decide) ⟨pk_in k 144 hk', nm_r (mm_wa k rfl (by omega)) (nm_r (nI_1 k) (ih (k + 1) _ (by omega) (by omega) (mm_mix_u hm ?_)))⟩
              rw [mm_d_S, if_pos ⟨d0, tp, tq⟩, if_pos g]
            · rw [mm_mix_at (mm_st_th W tq (a := 0) (by decide)).1.1, mm_mix_at (mm_st_th W tq (a := 1) (by decide)).1.1] at g
              refine br_t rfl ⟨pk_in k 144 hk', nm_r (mm_wa k rfl (by omega)) (nm_r (nI_1 k) (ih (k + 1) _ (by omega) (by omega) (mm_mix_u (v := 0) hm ?_)))⟩
              rw [mm_d_S, if_pos ⟨d0, tp, tq⟩, if_neg g]
          · refine br_t rfl (nm_r (nI_1 k) (keep ?_))
            rw [mm_d_S, if_neg (fun x => tq x.2.2)]
        · refine br_t rfl (nm_r (nI_1 k) (keep ?_))
          rw [mm_d_S, if_neg (fun x => tp x.2.1)]
      · refine br_f (nI_ne0 (by omega) (by omega)) (nm_r (nI_1 k) (keep ?_))
        rw [mm_d_S, if_neg (fun x => d0 x.1)]
theorem mx_rf121 (W : mm_WF z N A) {post : SX → Prop} (h : ∀ ap', mm_Tb2 z N A ap' → post (fc, cu, mm_F z, mm_F N, mm_F A, ap', cl, le, qu, wo)) : ∀ n j (ap : Nat → Int32), j ≤ 10 → 10 - j < n → (∀ i, i < 144 → ap i = nI (mm_d z N A j (i / 12) (i % 12))) → wX_refresh_121 post fc cu n (nI (j + 2)) (mm_F z) (mm_F N) (mm_F A) ap cl le qu wo := by
  intro n
  induction n with
  | zero => intro j _ _ h; exact absurd h (by omega)
  | succ n ih =>
    intro j ap hj hn ha
    by_cases e : j = 10
    · subst e
      exact br_t (by decide) (h ap ha)
    · refine br_f (nI_nlt (a := 11) (by omega) (by decide)) ⟨145, mx_rf129 W (by omega) (fun ap' h' => ih (j + 1) ap' (by omega) (by omega) h') 145 0 ap (by omega) (by omega) fun i hi => ?_⟩
      rw [ha i hi]
      unfold mm_mix
      rw [if_neg (by omega)]
theorem mx_rf79 (hz : ∀ m, m < 2 → 1 ≤ z m ∧ z m ≤ 6) {post : SX → Prop} {J : Int32 → (Nat → Int32) → (Nat → Int32) → (Nat → Int32) → (Nat → Int32) → (Nat → Int32) → (Nat → Int32) → (Nat → Int32) → (Nat → Int32) → Prop} {k p q b : Nat} {nx an : Nat → Int32} (hk : k < 144) (hp : p < 12) (hq : q < 12) (hb : b < 2) (hJ : J (nI (k + 1)) (mm_F z) nx an (upd ap k (nI (if b = 1 ∧ mm_th z p ∧ mm_th z q then 1 else 0))) cl le qu wo) : wX_refresh_79 post J (nI k) (nI p) (nI q) (nI b) fc cu (mm_F z) nx an ap cl le qu wo := by
  have fin0 : (¬ (b = 1 ∧ mm_th z p ∧ mm_th z q)) → ∀ a : Nat → Int32, a = upd ap (nI k).toNatClampNeg 0 → ∀ x : Int32, x = nI k + 1 → J x (mm_F z) nx an a cl le qu wo := by
    intro hn
    rw [if_neg hn] at hJ
    exact nm_r (mm_wa k rfl (by omega)) (nm_r (nI_1 k) hJ)
  by_cases b1 : b = 1
  · subst b1
    refine br_f (by decide) (mx_there hz hp (fun tp => ?_) (fun tp => ?_))
    · refine br_f (by decide) (mx_there hz hq (fun tq => ?_) (fun tq => ?_))
      · rw [if_pos ⟨rfl, tp, tq⟩] at hJ
        exact br_f (by decide) ⟨pk_in k 144 hk, nm_r (mm_wa k rfl (by omega)) (nm_r (nI_1 k) hJ)⟩
      · exact br_t rfl ⟨pk_in k 144 hk, fin0 fun x => tq x.2.2⟩
    · exact br_t rfl ⟨pk_in k 144 hk, fin0 fun x => tp x.2.1⟩
  · have b0 : b = 0 := by omega
    subst b0
    exact br_t rfl ⟨pk_in k 144 hk, fin0 fun x => b1 x.1⟩
theorem mx_rf15 (W : mm_WF z N A) {post : SX → Prop} (h : ∀ ap', mm_Tb2 z N A ap' → post (fc, cu, mm_F z, mm_F N, mm_F A, ap', cl, le, qu, wo)) : ∀ n k (ap : Nat → Int32), k ≤ 144 → 144 - k < n → (∀ i, i < k → ap i = nI (mm_d z N A 0 (i / 12) (i % 12))) → wX_refresh_15 post fc cu n (nI k) (mm_F z) (mm_F N) (mm_F A) ap cl le qu wo := by
  intro n
  induction n with
  | zero => intro k _ _ h; exact absurd h (by omega)
  | succ n ih =>
    intro k ap hk hn ha
    by_cases e : k = 144
    · subst e
      exact br_t (by decide) ⟨11, mx_rf121 W h 11 0 ap (by omega) (by omega) ha⟩
    · have hp : k / 12 < 12 := by omega
      have hq : k % 12 < 12 := by omega
      have ed := mm_d12 (a := k) (by omega)
      have er := mm_r12 (a := k) (by omega)
      have go : ∀ v, mm_d z N A 0 (k / 12) (k % 12) = v → wX_refresh_15 post fc cu n (nI (k + 1)) (mm_F z) (mm_F N) (mm_F A) (upd ap k (nI v)) cl le qu wo := by
        intro v hv
        refine ih (k + 1) _ (by omega) (by omega) fun i hi => ?_
        by_cases g : i = k
        · subst g; rw [pk_us, hv]
        · rw [pk_un g]; exact ha i (by omega)
      have a0 := W.2.2.1 (2 * (k / 12))
      have a1 := W.2.2.1 (2 * (k / 12) + 1)
      have c0 := W.2.2.1 (2 * (k % 12))
      have c1 := W.2.2.1 (2 * (k % 12) + 1)
      have e1 : 2 * nI (k / 12) + 1 = nI (2 * (k / 12) + 1) := by rw [mm_x2, nI_1]
      have e2 : 2 * nI (k % 12) + 1 = nI (2 * (k % 12) + 1) := by rw [mm_x2, nI_1]
      have r1 : mm_F A (2 * nI (k / 12)).toNatClampNeg = nI (A (2 * (k / 12))) := mm_rd _ (mm_x2 _) (by omega)
      have r2 : mm_F A (2 * nI (k % 12)).toNatClampNeg = nI (A (2 * (k % 12))) := mm_rd _ (mm_x2 _) (by omega)
      have r3 : mm_F A (2 * nI (k / 12) + 1).toNatClampNeg = nI (A (2 * (k / 12) + 1)) := mm_rd _ e1 (by omega)
      have r4 : mm_F A (2 * nI (k % 12) + 1).toNatClampNeg = nI (A (2 * (k % 12) + 1)) := mm_rd _ e2 (by omega)
      refine br_f (nI_ge (b := 144) (by omega) (by decide)) ⟨by decide, nm_r ed ⟨by decide, nm_r er ⟨pk_in _ 24 (by omega) (mm_x2 _), pk_in _ 24 (by omega) (mm_x2 _), ?_⟩⟩⟩
      rw [r1, r2]
      by_cases g0 : A (2 * (k / 12)) = A (2 * (k % 12))
      · refine br_t (congrArg nI g0) ⟨pk_in _ 24 (by omega) e1, pk_in _ 24 (by omega) e2, ?_⟩
        rw [r3, r4]
        by_cases g1 : A (2 * (k / 12) + 1) = A (2 * (k % 12) + 1)
        · refine br_t (congrArg nI g1) (mx_rf79 W.1 (b := 0) (by omega) hp hq (by decide) (go _ ?_))
          show (if _ then 1 else 0) = _
          rw [if_neg (fun x => x.1 ⟨g0, g1⟩), if_neg (fun x => absurd x.1 (by decide))]
        · refine br_f (fun x => g1 ((nI_eq (by omega) (by omega)).mp x)) (mx_rf79 W.1 (b := 1) (by omega) hp hq (by decide) (go _ ?_))
          have hd : ¬ (A (2 * (k / 12)) = A (2 * (k % 12)) ∧ A (2 * (k / 12) + 1) = A (2 * (k % 12) + 1)) := fun x => g1 x.2
          show (if _ then 1 else 0) = _
          by_cases t : mm_th z (k / 12) ∧ mm_th z (k % 12)
          · rw [if_pos ⟨hd, t⟩, if_pos ⟨rfl, t⟩]
          · rw [if_neg (fun x => t x.2), if_neg (fun x => t x.2)]
      · refine br_f (fun x => g0 ((nI_eq (by omega) (by omega)).mp x)) (mx_rf79 W.1 (b := 1) (by omega) hp hq (by decide) (go _ ?_))
        have hd : ¬ (A (2 * (k / 12)) = A (2 * (k % 12)) ∧ A (2 * (k / 12) + 1) = A (2 * (k % 12) + 1)) := fun x => g0 x.1
        show (if _ then 1 else 0) = _
        by_cases t : mm_th z (k / 12) ∧ mm_th z (k % 12)
        · rw [if_pos ⟨hd, t⟩, if_pos ⟨rfl, t⟩]
        · rw [if_neg (fun x => t x.2), if_neg (fun x => t x.2)]
theorem mx_refresh (W : mm_WF z N A) {post : SX → Prop} (hT : ¬ cu = 0 → mm_Tb2 z N A ap) (h : ∀ cu' ap', ¬ cu' = 0 → mm_Tb2 z N A ap' → post (fc, cu', mm_F z, mm_F N, mm_F A, ap', cl, le, qu, wo)) : wpX_refresh post (fc, cu, mm_F z, mm_F N, mm_F A, ap, cl, le, qu, wo) := by
  by_cases c : cu = 0
  · exact br_t c ⟨145, mx_rf15 W (fun ap' h' => h 1 ap' (by decide) h') 145 0 ap (by omega) (by omega) fun i hi => absurd hi (by omega)⟩
  · exact br_f c (h cu ap c (hT c))
/-- a look into the table -/
theorem mx_tab (W : mm_WF z N A) (T : mm_Tb2 z N A ap) {p q : Nat} {x : Int32} (hp : mm_th z p) (hq : mm_th z q) (hx : x = nI (12 * p + q)) : vp_in x 144 ∧ ap x.toNatClampNeg = nI (mm_d z N A 10 p q) := by
  have h1 := hp.1
  have h2 := hq.1
  refine ⟨pk_in _ 144 (by omega) hx, ?_⟩
  rw [pk_cl _ hx (by omega), T _ (by omega)]
  rw [show (12 * p + q) / 12 = p by omega, show (12 * p + q) % 12 = q by omega]
theorem mx_tab0 (W : mm_WF z N A) (T : mm_Tb2 z N A ap) {p q : Nat} {x : Int32} (hp : mm_th z p) (hq : mm_th z q) (hx : x = nI (12 * p + q)) : vp_in x 144 ∧ (ap x.toNatClampNeg = 0 ↔ mm_Q N A p q) := by
  obtain ⟨h1, h2⟩ := mx_tab W T hp hq hx
  refine ⟨h1, ?_⟩
  have b := mm_d_le z N A 10 p q
  rw [h2, ← mm_d_0 W hp hq]
  exact nI_eq (b := 0) (by omega) (by decide)
/-- the first word -/
theorem mx_fw_l (W : mm_WF z N A) (T : mm_Tb2 z N A ap) {post : Int32 → Prop} {p q : Nat} (hp : mm_th z p) (hq : mm_th z q) (h : ∀ r, mm_P N A p q r → post (nI r)) : ∀ l c, l ≤ 10 → mm_W N A p q l c → wX_firstWord_28 post fc cu (mm_F z) (mm_F N) (mm_F A) ap cl le qu wo (l + 1) (nI (mm_G N p c)) (nI (mm_G N q c)) (nI (l + 1)) (nI c) := by
  intro l
  induction l with
  | zero =>
    intro c _ hW
    have gp := (mm_G_th W hp c hW.1).1.1
    have gq := (mm_G_th W hq c hW.1).1.1
    have hr := h _ (mm_W_z hW)
    have v1 := W.2.2.1 (2 * mm_G N p c)
    have v2 := W.2.2.1 (2 * mm_G N q c)
    refine br_t (by decide) ⟨pk_in _ 24 (by omega) (mm_x2 _), pk_in _ 24 (by omega) (mm_x2 _), ?_⟩
    rw [mm_rd _ (mm_x2 _) (by omega), mm_rd _ (mm_x2 _) (by omega), mm_x2]
    by_cases e : A (2 * mm_G N p c) = A (2 * mm_G N q c)
    · rw [if_pos e, ← nI_1] at hr
      exact br_t (congrArg nI e) hr
    · rw [if_neg e] at hr
      refine br_f (fun x => e ((nI_eq (by omega) (by omega)).mp x)) ?_
      rw [Int32.add_zero]
      exact hr
  | succ l ih =>
    intro c hl hW
    have gp := (mm_G_th W hp c hW.1).1
    have gq := (mm_G_th W hq c hW.1).1
    have sp := (mm_st_th W gp (a := 0) (by decide)).1
    have sq := (mm_st_th W gq (a := 0) (by decide)).1
    have e0 : 12 * nI (mm_st N (mm_G N p c) 0) + nI (mm_st N (mm_G N q c) 0) = nI (12 * mm_st N (mm_G N p c) 0 + mm_st N (mm_G N q c) 0) := by rw [mm_x12, nI_add]
    obtain ⟨t1, t2⟩ := mx_tab W T sp sq e0
    have b := mm_d_le z N A 10 (mm_st N (mm_G N p c) 0) (mm_st N (mm_G N q c) 0)
    have hD := mm_d_D W 10 _ _ sp sq
    have ex : mm_d z N A 10 (mm_st N (mm_G N p c) 0) (mm_st N (mm_G N q c) 0) = l + 1 ↔ ¬ mm_E N A (l + 1) (mm_st N (mm_G N p c) 0) (mm_st N (mm_G N q c) 0) := by
      have hE := hW.2.2.1.2.2.1
      rcases hD with ⟨h0, h1⟩ | ⟨e, h0, h1, h2, h3⟩
      · exact ⟨fun x => by omega, fun x => absurd (mm_E_mono (by omega) h1) x⟩
      · rcases Nat.lt_trichotomy e l with y | y | y
        · exact absurd (mm_E_mono (show e + 1 ≤ l by omega) hE) h3
        · subst y; exact ⟨fun _ => h3, fun _ => h0⟩
        · exact ⟨fun x => by omega, fun x => absurd (mm_E_mono (show l + 1 ≤ e by omega) h2) x⟩
    refine br_f (nI_ge (a := 1) (by omega) (by omega)) (mx_after gp.1 (a := 0) (by decide) (mx_after gq.1 (a := 0) (by decide) ⟨t1, ?_⟩))
    rw [t2, nI_pred]
    by_cases g : mm_d z N A 10 (mm_st N (mm_G N p c) 0) (mm_st N (mm_G N q c) 0) = l + 1
    · have i := ih (2 * c) (by omega) (mm_W_s0 hW (ex.mp g))
      have g1 := mm_G2 N p hW.1 (a := 0) (by decide)
      have g2 := mm_G2 N q hW.1 (a := 0) (by decide)
      rw [Nat.add_zero] at g1 g2
      rw [g1, g2] at i
      refine br_t (congrArg nI g) (mx_after gp.1 (a := 0) (by decide) (mx_after gq.1 (a := 0) (by decide) (nm_r (e' := nI (2 * c)) ?_ (nm_r (pk_m1 (l + 1)) i))))
      rw [mm_x2, Int32.add_zero]
    · have i := ih (2 * c + 1) (by omega) (mm_W_s1 W.2.2.1 hW (Classical.byContradiction fun x => g (ex.mpr x)))
      have g1 := mm_G2 N p hW.1 (a := 1) (by decide)
      have g2 := mm_G2 N q hW.1 (a := 1) (by decide)
      rw [g1, g2] at i
      refine br_f (fun x => g ((nI_eq (by omega) (by omega)).mp x)) (mx_after gp.1 (a := 1) (by decide) (mx_after gq.1 (a := 1) (by decide) (nm_r (e' := nI (2 * c + 1)) ?_ (nm_r (pk_m1 (l + 1)) i))))
      rw [mm_x2, nI_1]
theorem mx_fw (W : mm_WF z N A) (T : mm_Tb2 z N A ap) {post : Int32 → Prop} {p q : Nat} (hp : mm_th z p) (hq : mm_th z q) (h : ∀ r, mm_P N A p q r → post (nI r)) : wpX_firstWord post (fc, cu, mm_F z, mm_F N, mm_F A, ap, cl, le, qu, wo) (nI p) (nI q) := by
  have e0 : 12 * nI p + nI q = nI (12 * p + q) := by rw [mm_x12, nI_add]
  obtain ⟨t1, t2⟩ := mx_tab W T hp hq e0
  refine And.intro t1 (nm_r t2 ?_)
  have b := mm_d_le z N A 10 p q
  rcases mm_d_D W 10 p q hp hq with ⟨h0, h1⟩ | ⟨e, h0, h1, h2, h3⟩
  · rw [h0]
    exact br_t rfl (h 0 (Or.inl ⟨rfl, mm_Q11 W hp hq h1⟩))
  · rw [h0]
    have i := mx_fw_l (fc := fc) (cu := cu) (cl := cl) (le := le) (qu := qu) (wo := wo) W T hp hq h e 1 h1 (mm_W_0 W.2.2.1 h2 h3)
    rw [mm_G1, mm_G1] at i
    exact br_f (nI_ne0 (by omega) (by omega)) ⟨e + 1, i⟩
end
end
section
/-! the component's core and classes -/
def mm_IX (z N A : Nat → Nat) (m b : Nat) (fc : Int32) (le cl : Nat → Int32) : Prop := fc = nI (mm_cn (mm_FC (mm_RQ N A m)) b) ∧ (∀ c, c < b → mm_FC (mm_RQ N A m) c → le (mm_cn (mm_FC (mm_RQ N A m)) c) = nI (mm_G N (6 * m) c)) ∧ (∀ q, mm_th z q → q / 6 = m → (∀ c, c < b → mm_FC (mm_RQ N A m) c → mm_Q N A (mm_G N (6 * m) c) q → cl q = nI (mm_cn (mm_FC (mm_RQ N A m)) c)) ∧ ((∀ c, c < b → mm_FC (mm_RQ N A m) c → ¬ mm_Q N A (mm_G N (6 * m) c) q) → cl q = -1))
theorem mm_IX_skip {z N A : Nat → Nat} {m b d : Nat} {fc : Int32} {le cl : Nat → Int32} (h : mm_IX z N A m b fc le cl) (hbd : b ≤ d) (hn : ∀ c, b ≤ c → c < d → ¬ mm_FC (mm_RQ N A m) c) : mm_IX z N A m d fc le cl := by
  obtain ⟨h1, h2, h3⟩ := h
  have lo : ∀ c, c < d → mm_FC (mm_RQ N A m) c → c < b := by
    intro c hc hF
    rcases Nat.lt_or_ge c b with l | l
    · exact l
    · exact absurd hF (hn c l hc)
  refine ⟨by rw [mm_cn_skip _ hbd hn]; exact h1, fun c hc hF => h2 c (lo c hc hF) hF, fun q hq hm => ⟨fun c hc hF => (h3 q hq hm).1 c (lo c hc hF) hF, fun g => (h3 q hq hm).2 fun c hc hF => g c (by omega) hF⟩⟩
theorem mm_IX_f {z N A : Nat → Nat} {m b : Nat} {fc : Int32} {le cl : Nat → Int32} (h : mm_IX z N A m b fc le cl) (hf : ¬ mm_FC (mm_RQ N A m) b) : mm_IX z N A m (b + 1) fc le cl := by
  refine mm_IX_skip h (by omega) fun c c1 c2 hF => ?_
  have : c = b := by omega
  subst this
  exact hf hF
theorem mm_IX_up {z N A : Nat → Nat} {m b : Nat} {fc : Int32} {le cl : Nat → Int32} (h : mm_IX z N A m b fc le cl) (W : mm_WF z N A) (hm : m < 2) (hn : ∀ c, b ≤ c → ¬ mm_FC (mm_RQ N A m) c) : mm_IX z N A m 64 fc le cl := by
  rcases Nat.lt_or_ge b 64 with l | l
  · exact mm_IX_skip h (by omega) fun c c1 _ => hn c c1
  · obtain ⟨h1, h2, h3⟩ := h
    have e : mm_cn (mm_FC (mm_RQ N A m)) b = mm_cn (mm_FC (mm_RQ N A m)) 64 := mm_cn_skip _ l fun c c1 c2 hF => by have := mm_RQ_64 W hm hF; omega
    refine ⟨by rw [← e]; exact h1, fun c hc hF => h2 c (by omega) hF, fun q hq hm' => ⟨fun c hc hF => (h3 q hq hm').1 c (by omega) hF, fun g => (h3 q hq hm').2 fun c hc hF => g c (mm_RQ_64 W hm hF) hF⟩⟩
section
variable {fc cu : Int32} {ap cl le qu wo : Nat → Int32} {z N A : Nat → Nat}
theorem mx_ad_l (W : mm_WF z N A) (T : mm_Tb2 z N A ap) {post : SX → Prop} {m p K : Nat} {cl0 : Nat → Int32} (hm : m < 2) (hp : mm_th z p) (h : ∀ cl', (∀ q, mm_th z q → q / 6 = m → mm_Q N A p q → cl' q = nI K) → (∀ q, mm_th z q → q / 6 = m → ¬ mm_Q N A p q → cl' q = cl0 q) → post (nI (K + 1), cu, mm_F z, mm_F N, mm_F A, ap, cl', le, qu, wo)) : ∀ n s (cl : Nat → Int32), s ≤ z m → z m - s < n → (∀ t, t < s → mm_Q N A p (6 * m + t) → cl (6 * m + t) = nI K) → (∀ t, t < z m → (¬ mm_Q N A p (6 * m + t) ∨ s ≤ t) → cl (6 * m + t) = cl0 (6 * m + t)) → wX_admit_12 post (nI m) (nI p) (nI K) cu n (nI s) (mm_F z) (mm_F N) (mm_F A) ap cl le qu wo := by
  intro n
  have hz := W.1 m hm
  have er : mm_F z (nI m).toNatClampNeg = nI (z m) := mm_rd m rfl (by omega)
  induction n with
  | zero => intro s _ _ h; exact absurd h (by omega)
  | succ n ih =>
    intro s cl hs hn h1 h2
    refine And.intro (pk_in m 2 hm) ?_
    rw [er]
    by_cases e : s = z m
    · refine br_t (nI_le (by omega) (by omega)) (nm_r (nI_1 K) (h cl ?_ ?_))
      · intro q hq hqm hQ
        have l := hq.2
        rw [hqm] at l
        have eq : q = 6 * m + q % 6 := by omega
        rw [eq]
        rw [eq] at hQ
        exact h1 _ (by omega) hQ
      · intro q hq hqm hQ
        have l := hq.2
        rw [hqm] at l
        have eq : q = 6 * m + q % 6 := by omega
        rw [eq]
        rw [eq] at hQ
        exact h2 _ (by omega) (Or.inl hQ)
    · have ts := mm_th_0 W hm (show s < z m by omega)
      have ex : 6 * nI m + nI s = nI (6 * m + s) := by rw [mm_x6, nI_add]
      obtain ⟨t1, t2⟩ := mx_tab0 W T (x := 12 * nI p + nI (6 * m + s)) hp ts.1 (by rw [mm_x12, nI_add])
      refine br_f (nI_ge (by omega) (by omega)) (nm_r ex ⟨t1, ?_⟩)
      by_cases hQ : mm_Q N A p (6 * m + s)
      · refine br_t (t2.mpr hQ) ⟨mm_in (by omega), nm_r (mm_wa (6 * m + s) rfl (by omega)) (nm_r (nI_1 s) (ih (s + 1) _ (by omega) (by omega) ?_ ?_))⟩
        · intro t ht hq
          by_cases et : t = s
          · subst et; exact pk_us
          · rw [pk_un (by omega)]; exact h1 t (by omega) hq
        · intro t ht hq
          have et : t ≠ s := by
            rintro rfl
            rcases hq with hq | hq
            · exact hq hQ
            · omega
          rw [pk_un (by omega)]
          refine h2 t ht ?_
          rcases hq with hq | hq
          · exact Or.inl hq
          · exact Or.inr (by omega)
      · refine br_f (fun x => hQ (t2.mp x)) (nm_r (nI_1 s) (ih (s + 1) _ (by omega) (by omega) ?_ ?_))
        · intro t ht hq
          by_cases et : t = s
          · subst et; exact absurd hq hQ
          · exact h1 t (by omega) hq
        · intro t ht hq
          by_cases et : t = s
          · subst et; exact h2 t ht (Or.inl hQ)
          · refine h2 t ht ?_
            rcases hq with hq | hq
            · exact Or.inl hq
            · exact Or.inr (by omega)
theorem mx_admit (W : mm_WF z N A) (T : mm_Tb2 z N A ap) {post : SX → Prop} {m b : Nat} {x : Int32} (hm : m < 2) (hx : x = nI (mm_G N (6 * m) b)) (hb : mm_FC (mm_RQ N A m) b) (hI : mm_IX z N A m b fc le cl) (h : ∀ fc' cl' le', mm_IX z N A m (b + 1) fc' le' cl' → post (fc', cu, mm_F z, mm_F N, mm_F A, ap, cl', le', qu, wo)) : wpX_admit post (fc, cu, mm_F z, mm_F N, mm_F A, ap, cl, le, qu, wo) (nI m) x := by
  subst hx
  obtain ⟨i1, i2, i3⟩ := hI
  subst i1
  have hn := mm_RQ_n W hm b
  have g := mm_g_th W hm hb.1
  refine And.intro (mm_in (by omega)) (nm_r (mm_wa (mm_cn (mm_FC (mm_RQ N A m)) b) rfl (by omega)) ⟨z m + 1, mx_ad_l W T hm g.1 ?_ (z m + 1) 0 cl (by omega) (by omega) (fun t ht => absurd ht (by omega)) (fun t _ _ => rfl)⟩)
  intro cl' c1 c2
  refine h _ _ _ ⟨by rw [mm_cn_t hb], ?_, ?_⟩
  · intro c hc hF
    by_cases e : c = b
    · subst e; exact pk_us
    · have l := mm_cn_st (mm_FC (mm_RQ N A m)) hF (show c < b by omega)
      rw [pk_un (by omega)]
      exact i2 c (by omega) hF
  · intro q hq hqm
    obtain ⟨j1, j2⟩ := i3 q hq hqm
    constructor
    · intro c hc hF hQ
      by_cases e : c = b
      · subst e; exact c1 q hq hqm hQ
      · have hnQ : ¬ mm_Q N A (mm_G N (6 * m) b) q := fun y => hb.2 c hF.1 (by omega) (mm_Q_tr hQ (mm_Q_sy y))
        rw [c2 q hq hqm hnQ]
        exact j1 c (by omega) hF hQ
    · intro hno
      rw [c2 q hq hqm (hno b (by omega) hb)]
      exact j2 fun c hc hF => hno c (by omega) hF
theorem mx_n57 (W : mm_WF z N A) (T : mm_Tb2 z N A ap) {post : SX → Prop} {J : Int32 → Int32 → Int32 → (Nat → Int32) → (Nat → Int32) → (Nat → Int32) → (Nat → Int32) → (Nat → Int32) → (Nat → Int32) → (Nat → Int32) → (Nat → Int32) → Prop} {m w k : Nat} (hm : m < 2) (hw : mm_FC (mm_RQ N A m) w) (hk : mm_cn (mm_FC (mm_RQ N A m)) w = k) (hJ : ∀ fc' cl' le', mm_IX z N A m (2 * w + 2) fc' le' cl' → J (nI (k + 1)) fc' cu (mm_F z) (mm_F N) (mm_F A) ap cl' le' qu wo) : ∀ n a (fc : Int32) (cl le : Nat → Int32), a ≤ 2 → 2 - a < n → mm_IX z N A m (2 * w + a) fc le cl → wX_number_57 post J (nI m) (nI k) n (nI a) fc cu (mm_F z) (mm_F N) (mm_F A) ap cl le qu wo := by
  intro n
  have h6 := mm_RQ_n W hm w
  have w1 := hw.1
  induction n with
  | zero => intro a _ _ _ _ h; exact absurd h (by omega)
  | succ n ih =>
    intro a fc cl le ha hn hI
    by_cases e : a = 2
    · subst e
      exact br_t (by decide) (nm_r (nI_1 k) (hJ fc cl le hI))
    · have gw := mm_g_th W hm w1
      have ga := mm_g_th W hm (c := 2 * w + a) (by omega)
      have e2 := mm_G2 N (6 * m) w1 (show a < 2 by omega)
      have el : le (nI k).toNatClampNeg = nI (mm_G N (6 * m) w) := by
        rw [pk_cl k rfl (by omega), ← hk]
        exact hI.2.1 w (by omega) hw
      refine br_f (nI_ge (b := 2) (by omega) (by decide)) ⟨pk_in k 12 (by omega), mx_after gw.1.1 (a := a) (by omega) ?_ el rfl⟩
      rw [← e2]
      obtain ⟨j1, j2⟩ := hI.2.2 _ ga.1 ga.2
      refine ⟨pk_in _ 12 ga.1.1, ?_⟩
      rw [pk_cl _ rfl (by have := ga.1.1; omega)]
      by_cases hF : mm_FC (mm_RQ N A m) (2 * w + a)
      · refine br_t (j2 fun c hc hc2 hQ => hF.2 c hc2.1 hc hQ) (mx_admit W T hm rfl hF hI ?_)
        intro fc' cl' le' hI'
        exact nm_r (nI_1 a) (ih (a + 1) fc' cl' le' (by omega) (by omega) hI')
      · refine br_f ?_ (nm_r (nI_1 a) (ih (a + 1) fc cl le (by omega) (by omega) (mm_IX_f hI hF)))
        obtain ⟨d, d1, d2, d3⟩ := mm_FC_no (mm_RQ_cg N A m) (show 1 ≤ 2 * w + a by omega) hF
        rw [j1 d d1 d2 d3]
        intro x
        have p := nI_pos (n := mm_cn (mm_FC (mm_RQ N A m)) d) (by have := mm_RQ_n W hm d; omega)
        rw [x] at p
        exact p (by decide)
theorem mx_n41 (W : mm_WF z N A) (T : mm_Tb2 z N A ap) {post : SX → Prop} {m : Nat} (hm : m < 2) (h : ∀ fc' cl' le', mm_IX z N A m 64 fc' le' cl' → post (fc', cu, mm_F z, mm_F N, mm_F A, ap, cl', le', qu, wo)) : ∀ n k B (fc : Int32) (cl le : Nat → Int32), k ≤ 6 → 6 - k < n → mm_IX z N A m B fc le cl → k ≤ mm_cn (mm_FC (mm_RQ N A m)) B → (∀ w, mm_FC (mm_RQ N A m) w → w < B → mm_cn (mm_FC (mm_RQ N A m)) w = k → mm_IX z N A m (2 * w) fc le cl) → (mm_cn (mm_FC (mm_RQ N A m)) B ≤ k → ∀ c, B ≤ c → ¬ mm_FC (mm_RQ N A m) c) → wX_number_41 post (nI m) n (nI k) fc cu (mm_F z) (mm_F N) (mm_F A) ap cl le qu wo := by
  intro n
  induction n with
  | zero => intro k _ _ _ _ _ h; exact absurd h (by omega)
  | succ n ih =>
    intro k B fc cl le hk hn hI hkB hw hE
    have h6 := mm_RQ_n W hm B
    by_cases e : mm_cn (mm_FC (mm_RQ N A m)) B ≤ k
    · have fin := h fc cl le (mm_IX_up hI W hm (hE e))
      by_cases e6 : k = 6
      · exact br_t (by rw [e6]; exact nI_le (a := 6) (b := 6) (by omega) (by decide)) fin
      · exact br_f (nI_ge (b := 6) (by omega) (by decide)) (br_t (by rw [hI.1]; exact nI_le (by omega) (by omega)) fin)
    · obtain ⟨w, w1, w2, w3⟩ := mm_cn_nth (mm_FC (mm_RQ N A m)) B k (by omega)
      refine br_f (nI_ge (b := 6) (by omega) (by decide)) (br_f (by rw [hI.1]; exact nI_ge (by omega) (by omega)) ⟨3, mx_n57 W T hm w2 w3 ?_ 3 0 fc cl le (by omega) (by omega) (hw w w2 w1 w3)⟩)
      intro fc' cl' le' hI'
      have l2 := mm_cn_st (mm_FC (mm_RQ N A m)) w2 (show w < 2 * w + 2 by omega)
      refine ih (k + 1) (2 * w + 2) fc' cl' le' (by omega) (by omega) hI' (by omega) ?_ ?_
      · intro v v1 v2 v3
        have wv : w < v := by
          rcases Nat.lt_or_ge w v with l | l
          · exact l
          · have := mm_cn_mono (mm_FC (mm_RQ N A m)) l
            omega
        exact mm_IX_skip hI' (by omega) (mm_FC_gap (mm_RQ_cg N A m) w2 v1 (by omega))
      · intro hle
        exact mm_FC_end (mm_RQ_cg N A m) w2 (by omega)
theorem mx_n6 (W : mm_WF z N A) (T : mm_Tb2 z N A ap) {post : SX → Prop} {m : Nat} (hm : m < 2) (h : ∀ fc' cl' le', mm_IX z N A m 64 fc' le' cl' → post (fc', cu, mm_F z, mm_F N, mm_F A, ap, cl', le', qu, wo)) : ∀ n p (cl : Nat → Int32), p ≤ 12 → 12 - p < n → (∀ q, q < p → cl q = -1) → wX_number_6 post (nI m) fc cu n (nI p) (mm_F z) (mm_F N) (mm_F A) ap cl le qu wo := by
  intro n
  induction n with
  | zero => intro p _ _ h; exact absurd h (by omega)
  | succ n ih =>
    intro p cl hp hn hc
    by_cases e : p = 12
    · subst e
      have c2 := mm_ct_2 (mm_RQ N A m)
      refine br_t (by decide) (mx_admit (b := 1) W T hm ?_ (mm_FC_1 _) ⟨?_, ?_, ?_⟩ ?_)
      · rw [mm_G1, mm_x6]
      · rw [c2.1]; rfl
      · intro c hc hF
        have := hF.1; omega
      · intro q hq _
        exact ⟨fun c hc hF => by have := hF.1; omega, fun _ => hc q hq.1⟩
      · intro fc' cl' le' hI
        refine ⟨7, mx_n41 W T hm h 7 0 2 fc' cl' le' (by omega) (by omega) hI (by omega) ?_ ?_⟩
        · intro w w1 w2 w3
          have := w1.1
          have : w = 1 := by omega
          subst this
          exact hI
        · intro hle
          have := c2.2
          omega
    · refine br_f (nI_ge (b := 12) (by omega) (by decide)) ⟨pk_in p 12 (by omega), nm_r (mm_wa p rfl (by omega)) (nm_r (nI_1 p) (ih (p + 1) _ (by omega) (by omega) ?_))⟩
      intro q hq
      by_cases eq : q = p
      · subst eq; exact pk_us
      · rw [pk_un eq]; exact hc q (by omega)
theorem mx_number (W : mm_WF z N A) {post : SX → Prop} {m : Nat} {x : Int32} (hx : x = nI m) (hm : m < 2) (hT : ¬ cu = 0 → mm_Tb2 z N A ap) (h : ∀ fc' cu' ap' cl' le', ¬ cu' = 0 → mm_Tb2 z N A ap' → mm_IX z N A m 64 fc' le' cl' → post (fc', cu', mm_F z, mm_F N, mm_F A, ap', cl', le', qu, wo)) : wpX_number post (fc, cu, mm_F z, mm_F N, mm_F A, ap, cl, le, qu, wo) x := by
  subst hx
  unfold wpX_number
  dsimp only
  refine mx_refresh W hT ?_
  intro cu' ap' hc' hT'
  exact ⟨13, mx_n6 W hT' hm (fun fc' cl' le' hI => h fc' cu' ap' cl' le' hc' hT' hI) 13 0 cl (by omega) (by omega) fun q hq => absurd hq (by omega)⟩
/-- classes -/
theorem mx_cl_in (W : mm_WF z N A) (T : mm_Tb2 z N A ap) {post : Int32 → SX → Prop} {J : Int32 → Int32 → Prop} {m s : Nat} {x2 : Int32} (hm : m < 2) (hs : s < z m) (hJ1 : mm_fr N A m s → J (x2 + 1) (nI (s + 1))) (hJ0 : ¬ mm_fr N A m s → J x2 (nI (s + 1))) : ∀ n t (x4 : Int32), t ≤ s → s - t < n → ((x4 = 1 ∧ ∀ i, i < t → ¬ mm_Q N A (6 * m + i) (6 * m + s)) ∨ (x4 = 0 ∧ ¬ mm_fr N A m s)) → wX_classes_33 post J (nI m) x2 (nI s) fc cu (mm_F z) (mm_F N) (mm_F A) ap cl le qu wo n x4 (nI t) := by
  intro n
  have hz := W.1 m hm
  induction n with
  | zero => intro t _ _ h; exact absurd h (by omega)
  | succ n ih =>
    intro t x4 ht hn hx
    by_cases e : t = s
    · subst e
      refine br_t (nI_le (by omega) (by omega)) ?_
      rcases hx with ⟨rfl, hf⟩ | ⟨rfl, hf⟩
      · exact br_f (by decide) (nm_e (nm_r (nI_1 t) (hJ1 hf)))
      · exact br_t rfl (nm_r (Int32.add_zero x2) (nm_r (nI_1 t) (hJ0 hf)))
    · refine br_f (nI_ge (by omega) (by omega)) ?_
      rcases hx with ⟨rfl, hf⟩ | ⟨rfl, hf⟩
      · have ts := mm_th_0 W hm hs
        have tt := mm_th_0 W hm (show t < z m by omega)
        have ex : ((12 * ((6 * nI m) + nI t)) + (6 * nI m)) + nI s = nI (12 * (6 * m + t) + (6 * m + s)) := by
          rw [mm_x6, nI_add, mm_x12, nI_add, nI_add]
          exact congrArg nI (by omega)
        obtain ⟨t1, t2⟩ := mx_tab0 W T tt.1 ts.1 ex
        refine br_f (by decide) ⟨t1, ?_⟩
        by_cases q : mm_Q N A (6 * m + t) (6 * m + s)
        · exact br_t (t2.mpr q) (nm_r (nI_1 t) (ih (t + 1) 0 (by omega) (by omega) (Or.inr ⟨rfl, fun hf => hf t (by omega) q⟩)))
        · refine br_f (fun x => q (t2.mp x)) (nm_r (nI_1 t) (ih (t + 1) 1 (by omega) (by omega) (Or.inl ⟨rfl, fun i hi => ?_⟩)))
          by_cases ei : i = t
          · subst ei; exact q
          · exact hf i (by omega)
      · exact br_t rfl (nm_r (nI_1 t) (ih (t + 1) 0 (by omega) (by omega) (Or.inr ⟨rfl, hf⟩)))
theorem mx_cl_out (W : mm_WF z N A) (T : mm_Tb2 z N A ap) {post : Int32 → SX → Prop} {m : Nat} (hm : m < 2) (h : post (nI (mm_cn (mm_fr N A m) (z m))) (fc, cu, mm_F z, mm_F N, mm_F A, ap, cl, le, qu, wo)) : ∀ n s, s ≤ z m → z m - s < n → wX_classes_17 post (nI m) fc cu (mm_F z) (mm_F N) (mm_F A) ap cl le qu wo n (nI (mm_cn (mm_fr N A m) s)) (nI s) := by
  intro n
  have hz := W.1 m hm
  have er : mm_F z (nI m).toNatClampNeg = nI (z m) := mm_rd m rfl (by omega)
  induction n with
  | zero => intro s _ h; exact absurd h (by omega)
  | succ n ih =>
    intro s hs hn
    refine And.intro (pk_in m 2 hm) ?_
    rw [er]
    by_cases e : s = z m
    · subst e
      exact br_t (nI_le (by omega) (by omega)) h
    · refine br_f (nI_ge (by omega) (by omega)) ⟨s + 1, mx_cl_in W T hm (by omega) ?_ ?_ (s + 1) 0 1 (by omega) (by omega) (Or.inl ⟨rfl, fun i hi => absurd hi (by omega)⟩)⟩
      · intro hf
        have := ih (s + 1) (by omega) (by omega)
        rw [mm_cn_t hf, ← nI_1] at this
        exact this
      · intro hf
        have := ih (s + 1) (by omega) (by omega)
        rw [mm_cn_f hf] at this
        exact this
end
end
section
/-! the component's search over sets of states -/
def mm_IZ (z N : Nat → Nat) (m b : Nat) (x3 : Int32) (qu wo : Nat → Int32) : Prop := x3 = nI (mm_cn (mm_FC (mm_RS z N m)) b) ∧ (∀ c, c < b → mm_FC (mm_RS z N m) c → qu (mm_cn (mm_FC (mm_RS z N m)) c) = nI (mm_S z N m c)) ∧ (∀ c, c < b → mm_FC (mm_RS z N m) c → wo (mm_S z N m c) = nI c) ∧ (∀ x, x < 64 → (∀ c, c < b → mm_FC (mm_RS z N m) c → mm_S z N m c ≠ x) → wo x = 0)
theorem mm_IZ_skip {z N : Nat → Nat} {m b d : Nat} {x3 : Int32} {qu wo : Nat → Int32} (h : mm_IZ z N m b x3 qu wo) (hbd : b ≤ d) (hn : ∀ c, b ≤ c → c < d → ¬ mm_FC (mm_RS z N m) c) : mm_IZ z N m d x3 qu wo := by
  obtain ⟨h1, h2, h3, h4⟩ := h
  have lo : ∀ c, c < d → mm_FC (mm_RS z N m) c → c < b := by
    intro c hc hF
    rcases Nat.lt_or_ge c b with l | l
    · exact l
    · exact absurd hF (hn c l hc)
  exact ⟨by rw [mm_cn_skip _ hbd hn]; exact h1, fun c hc hF => h2 c (lo c hc hF) hF, fun c hc hF => h3 c (lo c hc hF) hF, fun x hx g => h4 x hx fun c hc hF => g c (by omega) hF⟩
theorem mm_IZ_t {z N A : Nat → Nat} (W : mm_WF z N A) {m b : Nat} {x3 : Int32} {qu wo : Nat → Int32} (hm : m < 2) (h : mm_IZ z N m b x3 qu wo) (hb : mm_FC (mm_RS z N m) b) : mm_IZ z N m (b + 1) (nI (mm_cn (mm_FC (mm_RS z N m)) b + 1)) (upd qu (mm_cn (mm_FC (mm_RS z N m)) b) (nI (mm_S z N m b))) (upd wo (mm_S z N m b) (nI b)) := by
  obtain ⟨h1, h2, h3, h4⟩ := h
  refine ⟨by rw [mm_cn_t hb], ?_, ?_, ?_⟩
  · intro c hc hF
    by_cases e : c = b
    · subst e; exact pk_us
    · have l := mm_cn_st (mm_FC (mm_RS z N m)) hF (show c < b by omega)
      rw [pk_un (by omega)]
      exact h2 c (by omega) hF
  · intro c hc hF
    by_cases e : c = b
    · subst e; exact pk_us
    · rw [pk_un (fun x => e (mm_FC_u (mm_RS_cg z N m) hF hb x))]
      exact h3 c (by omega) hF
  · intro x hx g
    have ne := g b (by omega) hb
    rw [pk_un (fun e => ne e.symm)]
    exact h4 x hx fun c hc hF => g c (by omega) hF
theorem mm_al_S {z N A : Nat → Nat} (W : mm_WF z N A) {m c : Nat} (hm : m < 2) (hc : 1 ≤ c) : mm_S z N m c &&& (mm_S z N m c - 1) = 0 ↔ mm_al z N m c := mm_S_1 W hm hc
theorem mm_al_R {z N A : Nat → Nat} (W : mm_WF z N A) {m c d : Nat} (hm : m < 2) (hc : 1 ≤ c) (hd : 1 ≤ d) (h : mm_RS z N m c d) (a : mm_al z N m d) : mm_al z N m c := by
  rw [← mm_al_S W hm hd] at a
  rw [← mm_al_S W hm hc]
  unfold mm_RS at h
  rw [h]
  exact a
/-- if none of the new codes below b brings together, no code below b does -/
theorem mm_al_no {z N A : Nat → Nat} (W : mm_WF z N A) {m b : Nat} (hm : m < 2) (h : ∀ c, c < b → mm_FC (mm_RS z N m) c → ¬ mm_al z N m c) : ∀ d, 1 ≤ d → d < b → ¬ mm_al z N m d := by
  intro d d1 d2 a
  obtain ⟨e, e1, e2, e3⟩ := mm_FC_ex (mm_RS_cg z N m) d1
  exact h e (by omega) e2 (mm_al_R W hm e2.1 d1 e3 a)
section
variable {fc cu : Int32} {sz an ap cl le qu wo : Nat → Int32} {z N A : Nat → Nat}
theorem mx_tg_l (W : mm_WF z N A) {post : Int32 → Prop} {m x a : Nat} (hm : m < 2) (hx : x < 64) (ha : a < 2) (h : post (nI (mm_tg N m a x (z m)))) : ∀ n s, s ≤ z m → z m - s < n → wX_together_6 post (nI m) (nI x) (nI a) fc cu (mm_F z) (mm_F N) an ap cl le qu wo n (nI (mm_tg N m a x s)) (nI s) := by
  intro n
  have hz := W.1 m hm
  have er : mm_F z (nI m).toNatClampNeg = nI (z m) := mm_rd m rfl (by omega)
  induction n with
  | zero => intro s _ h; exact absurd h (by omega)
  | succ n ih =>
    intro s hs hn
    refine And.intro (pk_in m 2 hm) ?_
    rw [er]
    by_cases e : s = z m
    · subst e
      exact br_t (nI_le (by omega) (by omega)) h
    · have i := ih (s + 1) (by omega) (by omega)
      refine br_f (nI_ge (by omega) (by omega)) ?_
      rw [mm_bit (by omega) (by omega)]
      have ex : ((12 * nI m) + (2 * nI s)) + nI a = nI (12 * m + 2 * s + a) := by rw [mm_x12, mm_x2, nI_add, nI_add]
      by_cases g : x / 2 ^ s % 2 = 1
      · have et : mm_tg N m a x (s + 1) = mm_tg N m a x s ||| 2 ^ N (12 * m + 2 * s + a) := by
          show (if _ then _ else _) = _
          rw [if_pos g]
        rw [et] at i
        refine br_t (congrArg nI g) ⟨pk_in _ 24 (by omega) ex, nm_r (e' := nI (mm_tg N m a x s ||| 2 ^ N (12 * m + 2 * s + a))) ?_ (nm_r (nI_1 s) i)⟩
        rw [mm_rd _ ex (by omega), mm_sl1 (by have := W.2.1 (12 * m + 2 * s + a); omega), mm_or]
      · have et : mm_tg N m a x (s + 1) = mm_tg N m a x s := by
          show (if _ then _ else _) = _
          rw [if_neg g]
        rw [et] at i
        exact br_f (fun y => g ((nI_eq (b := 1) (by omega) (by decide)).mp y)) (nm_r (nI_1 s) i)
theorem mx_tg (W : mm_WF z N A) {post : Int32 → Prop} {m x a : Nat} (hm : m < 2) (hx : x < 64) (ha : a < 2) (h : post (nI (mm_tg N m a x (z m)))) : wpX_together post (fc, cu, mm_F z, mm_F N, an, ap, cl, le, qu, wo) (nI m) (nI x) (nI a) :=
  Exists.intro (z m + 1) (mx_tg_l W hm hx ha h (z m + 1) 0 (by omega) (by omega))
theorem mx_r103 (W : mm_WF z N A) {post : Int32 → SX → Prop} {J : Int32 → Int32 → (Nat → Int32) → (Nat → Int32) → (Nat → Int32) → (Nat → Int32) → (Nat → Int32) → (Nat → Int32) → (Nat → Int32) → (Nat → Int32) → Prop} {m w k : Nat} (hm : m < 2) (hw : mm_FC (mm_RS z N m) w) (hw2 : w < 2048) (hJ : ∀ x3' qu' wo', mm_IZ z N m (2 * w + 2) x3' qu' wo' → J x3' (nI (k + 1)) (mm_F z) (mm_F N) an ap cl le qu' wo') : ∀ n a (x3 : Int32) (qu wo : Nat → Int32), a ≤ 2 → 2 - a < n → mm_IZ z N m (2 * w + a) x3 qu wo → wX_reset_103 post J (nI m) (nI k) (nI (mm_S z N m w)) fc cu n x3 (nI a) (mm_F z) (mm_F N) an ap cl le qu wo := by
  intro n
  have w1 := hw.1
  have sw := mm_S_lt W hm w1
  induction n with
  | zero => intro a _ _ _ _ h; exact absurd h (by omega)
  | succ n ih =>
    intro a x3 qu wo ha hn hI
    by_cases e : a = 2
    · subst e
      exact br_t (by decide) (nm_r (nI_1 k) (hJ x3 qu wo hI))
    · have ew : wo (nI (mm_S z N m w)).toNatClampNeg = nI w := by
        rw [pk_cl _ rfl (by omega)]
        exact hI.2.2.1 w (by omega) hw
      have es := mm_S2 z N m w1 (show a < 2 by omega)
      have sa := mm_S_lt W hm (c := 2 * w + a) (by omega)
      refine br_f (nI_ge (b := 2) (by omega) (by decide)) ⟨pk_in _ 64 sw, br_f ?_ (mx_tg W hm sw (by omega) ?_)⟩
      · rw [ew]; exact nI_ge (b := 2048) (by omega) (by decide)
      · rw [← es]
        refine ⟨pk_in _ 64 sa, ?_⟩
        rw [pk_cl _ rfl (by omega)]
        by_cases hF : mm_FC (mm_RS z N m) (2 * w + a)
        · have hn1 := mm_RS_n W hm (2 * w + a + 1)
          rw [mm_cn_t hF] at hn1
          have h3 := hI.1
          have hI' := mm_IZ_t W hm hI hF
          refine br_t (hI.2.2.2 _ sa fun c hc hc2 y => hF.2 c hc2.1 hc y) ⟨pk_in _ 64 sw, pk_in _ 64 sa, nm_r ?_ ⟨pk_in _ 64 (by omega) h3, nm_r (mm_wa _ h3 (by omega)) (nm_r (e' := nI (mm_cn (mm_FC (mm_RS z N m)) (2 * w + a) + 1)) ?_ (nm_r (nI_1 a) (ih (a + 1) _ _ _ (by omega) (by omega) hI')))⟩⟩
          · rw [ew, mm_x2, nI_add]
          · rw [h3, nI_1]
        · obtain ⟨d, d1, d2, d3⟩ := mm_FC_no (mm_RS_cg z N m) (show 1 ≤ 2 * w + a by omega) hF
          refine br_f ?_ (nm_r (nI_1 a) (ih (a + 1) x3 qu wo (by omega) (by omega) (mm_IZ_skip hI (by omega) fun c c1 c2 y => ?_)))
          · rw [← (show mm_S z N m d = mm_S z N m (2 * w + a) from d3), hI.2.2.1 d d1 d2]
            have := d2.1
            exact nI_ne0 (by omega) (by omega)
          · have : c = 2 * w + a := by omega
            subst this
            exact hF y
theorem mx_r60 (W : mm_WF z N A) {post : Int32 → SX → Prop} {m : Nat} (hm : m < 2) (h1 : ∀ c qu' wo', 1 ≤ c → c < 4096 → mm_al z N m c → (∀ d, 1 ≤ d → d < c → ¬ mm_al z N m d) → post (nI c) (fc, cu, mm_F z, mm_F N, an, ap, cl, le, qu', wo')) (h0 : ∀ qu' wo', (∀ d, 1 ≤ d → d < 4096 → ¬ mm_al z N m d) → post 0 (fc, cu, mm_F z, mm_F N, an, ap, cl, le, qu', wo')) : ∀ n k B (x3 : Int32) (qu wo : Nat → Int32), k ≤ 64 → 64 - k < n → B ≤ 4096 → mm_IZ z N m B x3 qu wo → k ≤ mm_cn (mm_FC (mm_RS z N m)) B → (∀ w, mm_FC (mm_RS z N m) w → w < B → mm_cn (mm_FC (mm_RS z N m)) w = k → mm_IZ z N m (if w < 2048 then 2 * w else 4096) x3 qu wo) → (mm_cn (mm_FC (mm_RS z N m)) B ≤ k → ∀ c, B ≤ c → c < 4096 → ¬ mm_FC (mm_RS z N m) c) → (∀ c, mm_FC (mm_RS z N m) c → c < 4096 → mm_cn (mm_FC (mm_RS z N m)) c < k → ¬ mm_al z N m c) → wX_reset_60 post (nI m) fc cu n x3 (nI k) (mm_F z) (mm_F N) an ap cl le qu wo := by
  intro n
  induction n with
  | zero => intro k _ _ _ _ _ h; exact absurd h (by omega)
  | succ n ih =>
    intro k B x3 qu wo hk hn hB hI hkB hw hE hA
    have h64 := mm_RS_n W hm B
    by_cases e : mm_cn (mm_FC (mm_RS z N m)) B ≤ k
    · have fin := h0 qu wo (mm_al_no W hm fun c c1 c2 => by
        rcases Nat.lt_or_ge c B with l | l
        · exact hA c c2 c1 (by have := mm_cn_st (mm_FC (mm_RS z N m)) c2 l; omega)
        · exact absurd c2 (hE e c l c1))
      by_cases e6 : k = 64
      · exact br_t (by rw [e6]; exact nI_le (a := 64) (b := 64) (by omega) (by decide)) fin
      · exact br_f (nI_ge (b := 64) (by omega) (by decide)) (br_t (by rw [hI.1]; exact nI_le (by omega) (by omega)) fin)
    · obtain ⟨w, w1, w2, w3⟩ := mm_cn_nth (mm_FC (mm_RS z N m)) B k (by omega)
      have s64 := mm_S_lt W hm w2.1
      have s0 := mm_S_n0 W hm w2.1
      have eq : qu (nI k).toNatClampNeg = nI (mm_S z N m w) := by
        rw [pk_cl k rfl (by omega), ← w3]
        exact hI.2.1 w w1 w2
      have es : nI (mm_S z N m w) &&& (nI (mm_S z N m w) - 1) = nI (mm_S z N m w &&& (mm_S z N m w - 1)) := by
        rw [show nI (mm_S z N m w) - 1 = nI (mm_S z N m w - 1) from pk_sub (b := 1) (by omega), nx_and]
      have ea : nI (mm_S z N m w &&& (mm_S z N m w - 1)) = 0 ↔ mm_al z N m w := by
        rw [← mm_al_S W hm w2.1]
        have := Nat.and_le_left (n := mm_S z N m w) (m := mm_S z N m w - 1)
        exact nI_eq (b := 0) (by omega) (by decide)
      refine br_f (nI_ge (b := 64) (by omega) (by decide)) (br_f (by rw [hI.1]; exact nI_ge (by omega) (by omega)) ⟨pk_in k 64 (by omega), nm_r eq ?_⟩)
      rw [es]
      by_cases a : mm_al z N m w
      · refine br_t (ea.mpr a) ⟨pk_in _ 64 s64, ?_⟩
        rw [pk_cl _ rfl (by omega), hI.2.2.1 w w1 w2]
        refine h1 w qu wo w2.1 (by omega) a (mm_al_no W hm fun c c1 c2 => hA c c2 (by omega) ?_)
        have := mm_cn_st (mm_FC (mm_RS z N m)) c2 c1
        omega
      · refine br_f (fun y => a (ea.mp y)) ?_
        have hA' : ∀ c, mm_FC (mm_RS z N m) c → c < 4096 → mm_cn (mm_FC (mm_RS z N m)) c < k + 1 → ¬ mm_al z N m c := by
          intro c c1 c2 c3
          by_cases ec : mm_cn (mm_FC (mm_RS z N m)) c = k
          · have : c = w := mm_cn_inj _ c1 w2 (by omega)
            subst this
            exact a
          · exact hA c c1 c2 (by omega)
        have after : ∀ v, mm_FC (mm_RS z N m) v → mm_cn (mm_FC (mm_RS z N m)) v = k + 1 → w < v := by
          intro v v1 v2
          rcases Nat.lt_or_ge w v with l | l
          · exact l
          · have := mm_cn_mono (mm_FC (mm_RS z N m)) l
            omega
        have hIw := hw w w2 w1 w3
        by_cases g : w < 2048
        · rw [if_pos g] at hIw
          refine ⟨3, mx_r103 W hm w2 g ?_ 3 0 x3 qu wo (by omega) (by omega) hIw⟩
          intro x3' qu' wo' hI'
          have l2 := mm_cn_st (mm_FC (mm_RS z N m)) w2 (show w < 2 * w + 2 by omega)
          refine ih (k + 1) (2 * w + 2) x3' qu' wo' (by omega) (by omega) (by omega) hI' (by omega) ?_ ?_ hA'
          · intro v v1 v2 v3
            have wv := after v v1 v3
            have gap := mm_FC_gap (mm_RS_cg z N m) w2 v1 (by omega)
            split
            · exact mm_IZ_skip hI' (by omega) gap
            · exact mm_IZ_skip hI' (by omega) fun c c1 c2 => gap c c1 (by omega)
          · intro hle c c1 _
            exact mm_FC_end (mm_RS_cg z N m) w2 (by omega) c c1
        · rw [if_neg g] at hIw
          have ew : wo (nI (mm_S z N m w)).toNatClampNeg = nI w := by
            rw [pk_cl _ rfl (by omega)]
            exact hI.2.2.1 w w1 w2
          have l2 := mm_cn_st (mm_FC (mm_RS z N m)) w2 (show w < 4096 by omega)
          have i := ih (k + 1) 4096 x3 qu wo (by omega) (by omega) (by omega) hIw (by omega) ?_ (fun _ c c1 c2 => by omega) hA'
          · refine ⟨1, br_f (by decide) ⟨pk_in _ 64 s64, br_t ?_ (nm_r (nI_1 k) i)⟩⟩
            rw [ew]; exact nI_le (a := 2048) (by omega) (by omega)
          · intro v v1 v2 v3
            have wv := after v v1 v3
            rw [if_neg (by omega)]
            exact hIw
theorem mx_r11 (W : mm_WF z N A) {post : Int32 → SX → Prop} {m : Nat} (hm : m < 2) (h1 : ∀ c qu' wo', 1 ≤ c → c < 4096 → mm_al z N m c → (∀ d, 1 ≤ d → d < c → ¬ mm_al z N m d) → post (nI c) (fc, cu, mm_F z, mm_F N, an, ap, cl, le, qu', wo')) (h0 : ∀ qu' wo', (∀ d, 1 ≤ d → d < 4096 → ¬ mm_al z N m d) → post 0 (fc, cu, mm_F z, mm_F N, an, ap, cl, le, qu', wo')) : ∀ n x (wo : Nat → Int32), x ≤ 64 → 64 - x < n → (∀ y, y < x → wo y = 0) → wX_reset_11 post (nI m) fc cu n (nI x) (mm_F z) (mm_F N) an ap cl le qu wo := by
  intro n
  have hz := W.1 m hm
  have er : mm_F z (nI m).toNatClampNeg = nI (z m) := mm_rd m rfl (by omega)
  induction n with
  | zero => intro x _ _ h; exact absurd h (by omega)
  | succ n ih =>
    intro x wo hx hn hw
    by_cases e : x = 64
    · subst e
      have c2 := mm_ct_2 (mm_RS z N m)
      have s64 := mm_S_lt W hm (c := 1) (by omega)
      have p0 := Nat.two_pow_pos (z m)
      have ea : (1 : Int32) <<< (mm_F z (nI m).toNatClampNeg &&& 31) - 1 = nI (mm_S z N m 1) := by
        rw [er, mm_sl1 (by omega), mm_S1]
        exact pk_sub (b := 1) (by omega)
      refine br_t (by decide) ⟨pk_in m 2 hm, nm_r ea ⟨pk_in _ 64 s64, nm_r (mm_wa _ rfl (by omega)) (nm_e ?_)⟩⟩
      have I1 : mm_IZ z N m 1 0 qu wo := ⟨by rw [c2.1]; rfl, fun c hc hF => by have := hF.1; omega, fun c hc hF => by have := hF.1; omega, fun y hy _ => hw y hy⟩
      have I2 := mm_IZ_t W hm I1 (mm_FC_1 _)
      rw [c2.1] at I2
      refine ⟨65, mx_r60 W hm h1 h0 65 0 2 1 _ _ (by omega) (by omega) (by omega) I2 (by omega) ?_ ?_ (fun c _ _ c3 => absurd c3 (by omega))⟩
      · intro w w1 w2 w3
        have := w1.1
        have : w = 1 := by omega
        subst this
        exact I2
      · intro hle
        have := c2.2
        omega
    · refine br_f (nI_ge (b := 64) (by omega) (by decide)) ⟨pk_in x 64 (by omega), nm_r (mm_wa x rfl (by omega)) (nm_r (nI_1 x) (ih (x + 1) _ (by omega) (by omega) ?_))⟩
      intro y hy
      by_cases ey : y = x
      · subst ey; exact pk_us
      · rw [pk_un ey]; exact hw y (by omega)
theorem mx_reset (W : mm_WF z N A) {post : Int32 → SX → Prop} {m : Nat} (hm : m < 2) (h1 : ∀ c qu' wo', 1 ≤ c → c < 4096 → mm_al z N m c → (∀ d, 1 ≤ d → d < c → ¬ mm_al z N m d) → post (nI c) (fc, cu, mm_F z, mm_F N, an, ap, cl, le, qu', wo')) (h0 : ∀ qu' wo', (∀ d, 1 ≤ d → d < 4096 → ¬ mm_al z N m d) → post 0 (fc, cu, mm_F z, mm_F N, an, ap, cl, le, qu', wo')) : wpX_reset post (fc, cu, mm_F z, mm_F N, an, ap, cl, le, qu, wo) (nI m) := by
  unfold wpX_reset
  dsimp only
  exact mx_m1 hm (br_f (by decide) ⟨65, mx_r11 W hm h1 h0 65 0 wo (by omega) (by omega) fun y hy => absurd hy (by omega)⟩)
end
end
section
/-! size, weave and copy: what they write -/
def mm_wv (f : Nat → Nat) (a : Nat) (g : Nat → Nat) (i : Nat) : Nat → Nat := fun j => if a ≤ j ∧ j < a + i then g (j - a) else f j
theorem mm_wv_0 (f : Nat → Nat) (a : Nat) (g : Nat → Nat) : mm_wv f a g 0 = f := by
  funext j
  unfold mm_wv
  rw [if_neg (by omega)]
theorem mm_wv_s (f : Nat → Nat) (a : Nat) (g : Nat → Nat) (i : Nat) : mm_u (mm_wv f a g i) (a + i) (g i) = mm_wv f a g (i + 1) := by
  funext j
  unfold mm_u mm_wv
  by_cases e : j = a + i
  · rw [if_pos e, if_pos (by omega), show j - a = i by omega]
  · rw [if_neg e]
    by_cases l : a ≤ j ∧ j < a + i
    · rw [if_pos l, if_pos (by omega)]
    · rw [if_neg l, if_neg (by omega)]
theorem mm_wv_in {f : Nat → Nat} {a : Nat} {g : Nat → Nat} {i k : Nat} (h : k < i) : mm_wv f a g i (a + k) = g k := by
  unfold mm_wv
  rw [if_pos (by omega), show a + k - a = k by omega]
theorem mm_wv_out {f : Nat → Nat} {a : Nat} {g : Nat → Nat} {i j : Nat} (h : ¬ (a ≤ j ∧ j < a + i)) : mm_wv f a g i j = f j := by
  unfold mm_wv
  rw [if_neg h]
theorem mm_wv_all {f : Nat → Nat} {a : Nat} {g : Nat → Nat} {i b : Nat} (hf : ∀ j, f j < b) (hg : ∀ k, k < i → g k < b) (j : Nat) : mm_wv f a g i j < b := by
  by_cases h : a ≤ j ∧ j < a + i
  · unfold mm_wv
    rw [if_pos h]
    exact hg _ (by omega)
  · rw [mm_wv_out h]; exact hf j
/-- two machines: the other one -/
theorem mm_WF_wv {z N A : Nat → Nat} (W : mm_WF z N A) {m n i : Nat} {g h : Nat → Nat} (hm : m < 2) (n1 : 1 ≤ n) (n6 : n ≤ 6) (hi : 2 * n ≤ i) (hi2 : i ≤ 12) (hg : ∀ k, k < i → g k < n) (hh : ∀ k, k < i → h k < 4) : mm_WF (mm_u z m n) (mm_wv N (12 * m) g i) (mm_wv A (12 * m) h i) := by
  refine ⟨fun k hk => ?_, mm_wv_all W.2.1 (fun k hk => by have := hg k hk; omega), mm_wv_all W.2.2.1 hh, fun k j hk hj => ?_⟩
  · by_cases e : k = m
    · subst e; rw [mm_us]; exact ⟨n1, n6⟩
    · rw [mm_un e]; exact W.1 k hk
  · by_cases e : k = m
    · subst e
      rw [mm_us] at hj ⊢
      rw [mm_wv_in (by omega)]
      exact hg j (by omega)
    · rw [mm_un e] at hj ⊢
      have b := W.1 k hk
      rw [mm_wv_out (by omega)]
      exact W.2.2.2 k j hk hj
theorem mm_u_id (f : Nat → Nat) (k : Nat) : mm_u f k (f k) = f := by
  funext j
  unfold mm_u
  by_cases e : j = k
  · rw [if_pos e, e]
  · rw [if_neg e]
section
variable {fc cu cnt x3 : Int32} {sz ap cl le qu wo mem : Nat → Int32} {z N A : Nat → Nat}
theorem mx_size_l {post : Int32 → SX → Prop} {m : Nat} (hm : m < 2) (h : post x3 (fc, 0, sz, mm_F (mm_wv N (12 * m) (fun _ => 0) 12), mm_F (mm_wv A (12 * m) (fun _ => 0) 12), ap, cl, le, qu, wo)) : ∀ n i, i ≤ 12 → 12 - i < n → wX_size_43 post (nI m) x3 fc cu n (nI (12 * m + i)) sz (mm_F (mm_wv N (12 * m) (fun _ => 0) i)) (mm_F (mm_wv A (12 * m) (fun _ => 0) i)) ap cl le qu wo := by
  intro n
  have ee : 12 * nI m + 12 = nI (12 * m + 12) := by rw [mm_x12, mm_a12]
  induction n with
  | zero => intro i _ h; exact absurd h (by omega)
  | succ n ih =>
    intro i hi hn
    by_cases e : i = 12
    · subst e
      exact br_t (by rw [ee]; exact nI_le (by omega) (by omega)) h
    · refine br_f (by rw [ee]; exact nI_ge (by omega) (by omega)) ⟨mm_in (by omega), nm_r (e' := mm_F (mm_wv N (12 * m) (fun _ => 0) (i + 1))) ?_ ⟨mm_in (by omega), nm_r (e' := mm_F (mm_wv A (12 * m) (fun _ => 0) (i + 1))) ?_ (nm_r (nI_1 (12 * m + i)) (ih (i + 1) (by omega) (by omega)))⟩⟩
      · exact (mm_wr (12 * m + i) 0 rfl rfl (by omega)).trans (congrArg mm_F (mm_wv_s _ _ _ _))
      · exact (mm_wr (12 * m + i) 0 rfl rfl (by omega)).trans (congrArg mm_F (mm_wv_s _ _ _ _))
theorem my_size_l {post : Int32 → SY → Prop} {m : Nat} (hm : m < 2) (h : post x3 (cnt, sz, mm_F (mm_wv N (12 * m) (fun _ => 0) 12), mm_F (mm_wv A (12 * m) (fun _ => 0) 12), mem)) : ∀ n i, i ≤ 12 → 12 - i < n → wY_size_41 post (nI m) x3 cnt n (nI i) sz (mm_F (mm_wv N (12 * m) (fun _ => 0) i)) (mm_F (mm_wv A (12 * m) (fun _ => 0) i)) mem := by
  intro n
  induction n with
  | zero => intro i _ h; exact absurd h (by omega)
  | succ n ih =>
    intro i hi hn
    have ex : 12 * nI m + nI i = nI (12 * m + i) := by rw [mm_x12, nI_add]
    by_cases e : i = 12
    · subst e
      exact br_t (by decide) h
    · refine br_f (nI_ge (b := 12) (by omega) (by decide)) ⟨pk_in _ 24 (by omega) ex, nm_r (e' := mm_F (mm_wv N (12 * m) (fun _ => 0) (i + 1))) ?_ ⟨pk_in _ 24 (by omega) ex, nm_r (e' := mm_F (mm_wv A (12 * m) (fun _ => 0) (i + 1))) ?_ (nm_r (nI_1 i) (ih (i + 1) (by omega) (by omega)))⟩⟩
      · exact (mm_wr (12 * m + i) 0 ex rfl (by omega)).trans (congrArg mm_F (mm_wv_s _ _ _ _))
      · exact (mm_wr (12 * m + i) 0 ex rfl (by omega)).trans (congrArg mm_F (mm_wv_s _ _ _ _))
/-- weave's values at k = 2 s + a -/
def mm_vn (sd mx n k : Nat) : Nat := ((k / 2) * (mx / 8) + k % 2 + sd) % n
def mm_va (sd mx k : Nat) : Nat := ((k / 2) * (k / 2) + (k % 2) * (mx % 8) + sd) % 4
theorem mm_vb {s mx a sd : Nat} (hs : s < 6) (hx : mx ≤ 63) (ha : a < 2) (hd : sd ≤ 20) : s * (mx / 8) + a + sd < 2 ^ 31 ∧ s * s + a * (mx % 8) + sd < 2 ^ 31 := by
  have h1 : s * (mx / 8) ≤ 6 * 8 := Nat.mul_le_mul (by omega) (by omega)
  have h2 : s * s ≤ 6 * 6 := Nat.mul_le_mul (by omega) (by omega)
  have h3 : a * (mx % 8) ≤ 2 * 8 := Nat.mul_le_mul (by omega) (by omega)
  omega
theorem mx_weave_l {post : Int32 → SX → Prop} {m sd mx n : Nat} (hm : m < 2) (hd : sd ≤ 20) (hx : mx ≤ 63) (n1 : 1 ≤ n) (n6 : n ≤ 6) (h : post 0 (fc, 0, sz, mm_F (mm_wv N (12 * m) (mm_vn sd mx n) (2 * n)), mm_F (mm_wv A (12 * m) (mm_va sd mx) (2 * n)), ap, cl, le, qu, wo)) : ∀ f k, k ≤ 2 * n → 2 * n - k < f → wX_weave_46 post (nI m) (nI sd) (nI mx) (nI n) fc cu f (nI k) sz (mm_F (mm_wv N (12 * m) (mm_vn sd mx n) k)) (mm_F (mm_wv A (12 * m) (mm_va sd mx) k)) ap cl le qu wo := by
  intro f
  induction f with
  | zero => intro k _ h; exact absurd h (by omega)
  | succ f ih =>
    intro k hk hn
    by_cases e : k = 2 * n
    · subst e
      exact br_t (by rw [mm_x2]; exact nI_le (by omega) (by omega)) h
    · have vb := mm_vb (s := k / 2) (a := k % 2) (by omega) hx (by omega) hd
      have e1 : ((nI (k / 2) * (nI mx >>> ((3 : Int32) &&& 31))) + nI (k % 2)) + nI sd = nI ((k / 2) * (mx / 8) + k % 2 + sd) := by
        rw [mm_s3 (by omega), pk_mul, nI_add, nI_add]
      have e2 : ((nI (k / 2) * nI (k / 2)) + (nI (k % 2) * (nI mx &&& 7))) + nI sd = nI ((k / 2) * (k / 2) + (k % 2) * (mx % 8) + sd) := by
        rw [mm_n7 (by omega), pk_mul, pk_mul, nI_add, nI_add]
      have ex : 12 * nI m + nI k = nI (12 * m + k) := by rw [mm_x12, nI_add]
      refine br_f (by rw [mm_x2]; exact nI_ge (by omega) (by omega)) (nm_r (mm_s1 (by omega)) (nm_r (mm_n1 (by omega)) (br_f (nI_nle (by omega) (by omega)) (And.intro (nI_ne0 (by omega) (by omega)) ⟨pk_in _ 24 (by omega) ex, nm_r (e' := mm_F (mm_wv N (12 * m) (mm_vn sd mx n) (k + 1))) ?_ ⟨pk_in _ 24 (by omega) ex, nm_r (e' := mm_F (mm_wv A (12 * m) (mm_va sd mx) (k + 1))) ?_ (nm_r (nI_1 k) (ih (k + 1) (by omega) (by omega)))⟩⟩))))
      · rw [e1, mm_wr (12 * m + k) (mm_vn sd mx n k) ex (pk_rem vb.1 (by omega) (by omega)) (by omega), mm_wv_s]
      · rw [e2, mm_wr (12 * m + k) (mm_va sd mx k) ex (mm_n3 (by omega)) (by omega), mm_wv_s]
theorem my_weave_in {post : Int32 → SY → Prop} {J : Int32 → (Nat → Int32) → (Nat → Int32) → (Nat → Int32) → (Nat → Int32) → Prop} {m sd mx n s : Nat} (hm : m < 2) (hd : sd ≤ 20) (hx : mx ≤ 63) (n1 : 1 ≤ n) (n6 : n ≤ 6) (hs : s < n) (h : J (nI (s + 1)) sz (mm_F (mm_wv N (12 * m) (mm_vn sd mx n) (2 * (s + 1)))) (mm_F (mm_wv A (12 * m) (mm_va sd mx) (2 * (s + 1)))) mem) : ∀ f a, a ≤ 2 → 2 - a < f → wY_weave_78 post J (nI m) (nI sd) (nI mx) (nI n) (nI s) cnt f (nI a) sz (mm_F (mm_wv N (12 * m) (mm_vn sd mx n) (2 * s + a))) (mm_F (mm_wv A (12 * m) (mm_va sd mx) (2 * s + a))) mem := by
  intro f
  induction f with
  | zero => intro a _ h; exact absurd h (by omega)
  | succ f ih =>
    intro a ha hn
    by_cases e : a = 2
    · subst e
      exact br_t (by decide) (nm_r (nI_1 s) h)
    · have vb := mm_vb (s := s) (a := a) (by omega) hx (by omega) hd
      have e1 : ((nI s * (nI mx / 8)) + nI a) + nI sd = nI (s * (mx / 8) + a + sd) := by
        rw [mm_d8 (by omega), pk_mul, nI_add, nI_add]
      have e2 : ((nI s * nI s) + (nI a * (nI mx - nI mx / 8 * 8))) + nI sd = nI (s * s + a * (mx % 8) + sd) := by
        rw [mm_r8 (by omega), pk_mul, pk_mul, nI_add, nI_add]
      have ex : ((12 * nI m) + (2 * nI s)) + nI a = nI (12 * m + (2 * s + a)) := by
        rw [mm_x12, mm_x2, nI_add, nI_add]
        exact congrArg nI (by omega)
      have g1 : mm_vn sd mx n (2 * s + a) = (s * (mx / 8) + a + sd) % n := by
        unfold mm_vn
        rw [show (2 * s + a) / 2 = s by omega, show (2 * s + a) % 2 = a by omega]
      have g2 : mm_va sd mx (2 * s + a) = (s * s + a * (mx % 8) + sd) % 4 := by
        unfold mm_va
        rw [show (2 * s + a) / 2 = s by omega, show (2 * s + a) % 2 = a by omega]
      refine br_f (nI_ge (b := 2) (by omega) (by decide)) ⟨by decide, nI_ne0 (by omega) (by omega), pk_in _ 24 (by omega) ex, nm_r (e' := mm_F (mm_wv N (12 * m) (mm_vn sd mx n) (2 * s + (a + 1)))) ?_ ⟨by decide, by decide, pk_in _ 24 (by omega) ex, nm_r (e' := mm_F (mm_wv A (12 * m) (mm_va sd mx) (2 * s + (a + 1)))) ?_ (nm_r (nI_1 a) (ih (a + 1) (by omega) (by omega)))⟩⟩
      · rw [e1, mm_wr (12 * m + (2 * s + a)) (mm_vn sd mx n (2 * s + a)) ex (by rw [g1]; exact pk_rem vb.1 (by omega) (by omega)) (by omega), mm_wv_s, Nat.add_assoc]
      · rw [e2, mm_wr (12 * m + (2 * s + a)) (mm_va sd mx (2 * s + a)) ex (by rw [g2]; exact mm_r4 vb.2) (by omega), mm_wv_s, Nat.add_assoc]
theorem my_weave_l {post : Int32 → SY → Prop} {m sd mx n : Nat} (hm : m < 2) (hd : sd ≤ 20) (hx : mx ≤ 63) (n1 : 1 ≤ n) (n6 : n ≤ 6) (h : post 0 (cnt, sz, mm_F (mm_wv N (12 * m) (mm_vn sd mx n) (2 * n)), mm_F (mm_wv A (12 * m) (mm_va sd mx) (2 * n)), mem)) : ∀ f s, s ≤ n → n - s < f → wY_weave_61 post (nI m) (nI sd) (nI mx) (nI n) cnt f (nI s) sz (mm_F (mm_wv N (12 * m) (mm_vn sd mx n) (2 * s))) (mm_F (mm_wv A (12 * m) (mm_va sd mx) (2 * s))) mem := by
  intro f
  induction f with
  | zero => intro s _ h; exact absurd h (by omega)
  | succ f ih =>
    intro s hs hn
    by_cases e : s = n
    · subst e
      exact br_t (nI_le (by omega) (by omega)) h
    · exact br_f (nI_ge (by omega) (by omega)) (br_f (nI_ge (b := 6) (by omega) (by decide)) ⟨3, my_weave_in hm hd hx n1 n6 (by omega) (ih (s + 1) (by omega) (by omega)) 3 0 (by omega) (by omega)⟩)
end
/-! copy -/
def mm_to (m b n k : Nat) : Nat := 12 * m + 2 * ((k / 2 + b) % n) + k % 2
def mm_cp (f h : Nat → Nat) (m o b n : Nat) : Nat → Nat → Nat
  | 0 => f
  | k + 1 => mm_u (mm_cp f h m o b n k) (mm_to m b n k) (h (mm_cp f h m o b n k (12 * o + k)))
theorem mm_to_b {m b n k : Nat} (hm : m < 2) (n1 : 1 ≤ n) (n6 : n ≤ 6) : 12 * m ≤ mm_to m b n k ∧ mm_to m b n k < 12 * m + 2 * n := by
  have := Nat.mod_lt (k / 2 + b) (show 0 < n from n1)
  unfold mm_to
  omega
theorem mm_cp_out {f h : Nat → Nat} {m o b n : Nat} (hm : m < 2) (n1 : 1 ≤ n) (n6 : n ≤ 6) {j : Nat} (hj : ¬ (12 * m ≤ j ∧ j < 12 * m + 12)) : ∀ k, mm_cp f h m o b n k j = f j := by
  intro k
  induction k with
  | zero => rfl
  | succ k ih =>
    have t := mm_to_b (b := b) (k := k) hm n1 n6
    show mm_u _ _ _ j = _
    rw [mm_un (by omega), ih]
theorem mm_cp_all {f h : Nat → Nat} {m o b n v : Nat} (hf : ∀ j, f j < v) (hh : ∀ x, x < v → h x < v) : ∀ k j, mm_cp f h m o b n k j < v := by
  intro k
  induction k with
  | zero => exact hf
  | succ k ih =>
    intro j
    show mm_u _ _ _ j < v
    by_cases e : j = mm_to m b n k
    · rw [e, mm_us]; exact hh _ (ih _)
    · rw [mm_un e]; exact ih j
theorem mm_cp_in {f h : Nat → Nat} {m o b n : Nat} (hh : ∀ x, h x < n) : ∀ k i, i < k → mm_cp f h m o b n k (mm_to m b n i) < n := by
  intro k
  induction k with
  | zero => intro i hi; exact absurd hi (by omega)
  | succ k ih =>
    intro i hi
    show mm_u _ _ _ _ < n
    by_cases e : mm_to m b n i = mm_to m b n k
    · rw [e, mm_us]; exact hh _
    · rw [mm_un e]
      refine ih i ?_
      rcases Nat.lt_or_ge i k with l | l
      · exact l
      · have : i = k := by omega
        subst this
        exact absurd rfl e
theorem mm_rot : ∀ n, n < 7 → ∀ b, b < 6 → ∀ t, t < n → ∃ s, s < n ∧ (s + b) % n = t := by decide +kernel
theorem mm_WF_cp {z N A : Nat → Nat} (W : mm_WF z N A) {m b n : Nat} (hm : m < 2) (hb : b < 6) (n1 : 1 ≤ n) (n6 : n ≤ 6) : mm_WF (mm_u z m n) (mm_cp N (fun x => (x + b) % n) m (1 - m) b n (2 * n)) (mm_cp A (fun x => x) m (1 - m) b n (2 * n)) := by
  have hh : ∀ x, (x + b) % n < n := fun x => Nat.mod_lt _ n1
  refine ⟨fun k hk => ?_, mm_cp_all W.2.1 (fun x _ => by have := hh x; omega) _, mm_cp_all W.2.2.1 (fun x hx => hx) _, fun k j hk hj => ?_⟩
  · by_cases e : k = m
    · subst e; rw [mm_us]; exact ⟨n1, n6⟩
    · rw [mm_un e]; exact W.1 k hk
  · by_cases e : k = m
    · subst e
      rw [mm_us] at hj ⊢
      obtain ⟨s, s1, s2⟩ := mm_rot n (by omega) b hb (j / 2) (by omega)
      have et : mm_to k b n (2 * s + j % 2) = 12 * k + j := by
        unfold mm_to
        rw [show (2 * s + j % 2) / 2 = s by omega, s2]
        omega
      have := mm_cp_in (f := N) (m := k) (o := 1 - k) (b := b) hh (2 * n) (2 * s + j % 2) (by omega)
      rw [et] at this
      exact this
    · rw [mm_un e] at hj ⊢
      have bd := W.1 k hk
      rw [mm_cp_out hm n1 n6 (by omega)]
      exact W.2.2.2 k j hk hj
section
variable {fc cu cnt : Int32} {sz ap cl le qu wo mem : Nat → Int32} {z N A : Nat → Nat}
theorem mx_copy_l {post : Int32 → SX → Prop} {m b n : Nat} (hN : ∀ k, N k < 6) (hm : m < 2) (hb : b < 6) (n1 : 1 ≤ n) (n6 : n ≤ 6) (h : post (nI n) (fc, 0, sz, mm_F (mm_cp N (fun x => (x + b) % n) m (1 - m) b n (2 * n)), mm_F (mm_cp A (fun x => x) m (1 - m) b n (2 * n)), ap, cl, le, qu, wo)) : ∀ f k, k ≤ 2 * n → 2 * n - k < f → wX_copy_57 post (nI m) (nI b) (nI (1 - m)) (nI n) fc cu f (nI k) sz (mm_F (mm_cp N (fun x => (x + b) % n) m (1 - m) b n k)) (mm_F (mm_cp A (fun x => x) m (1 - m) b n k)) ap cl le qu wo := by
  intro f
  induction f with
  | zero => intro k _ h; exact absurd h (by omega)
  | succ f ih =>
    intro k hk hn
    by_cases e : k = 2 * n
    · subst e
      exact br_t (by rw [mm_x2]; exact nI_le (by omega) (by omega)) h
    · have n0 : ¬ nI n = 0 := nI_ne0 (by omega) (by omega)
      have t := mm_to_b (b := b) (k := k) hm n1 n6
      have e6 : ((nI k >>> ((1 : Int32) &&& 31)) + nI b) - ((nI k >>> ((1 : Int32) &&& 31)) + nI b) / nI n * nI n = nI ((k / 2 + b) % n) := by
        rw [mm_s1 (by omega), nI_add]
        exact pk_rem (by omega) (by omega) (by omega)
      have e7 : ((12 * nI m) + (2 * nI ((k / 2 + b) % n))) + (nI k &&& 1) = nI (mm_to m b n k) := by
        rw [mm_n1 (by omega), mm_x12, mm_x2, nI_add, nI_add]; rfl
      have ex : 12 * nI (1 - m) + nI k = nI (12 * (1 - m) + k) := by rw [mm_x12, nI_add]
      have c6 := mm_cp_all (h := fun x => (x + b) % n) (m := m) (o := 1 - m) (b := b) (n := n) hN (fun x _ => by have := Nat.mod_lt (x + b) (show 0 < n from n1); omega) k (12 * (1 - m) + k)
      refine br_f (by rw [mm_x2]; exact nI_ge (by omega) (by omega)) ⟨n0, nm_r e6 (nm_r e7 ⟨pk_in _ 24 (by omega) ex, n0, mm_in (by omega), nm_r (e' := mm_F (mm_cp N (fun x => (x + b) % n) m (1 - m) b n (k + 1))) ?_ ⟨pk_in _ 24 (by omega) ex, mm_in (by omega), nm_r (e' := mm_F (mm_cp A (fun x => x) m (1 - m) b n (k + 1))) ?_ (nm_r (nI_1 k) (ih (k + 1) (by omega) (by omega)))⟩⟩)⟩
      · rw [mm_rd _ ex (by omega), nI_add]
        exact mm_wr (mm_to m b n k) _ rfl (pk_rem (by omega) (by omega) (by omega)) (by omega)
      · rw [mm_rd _ ex (by omega)]
        exact mm_wr (mm_to m b n k) _ rfl rfl (by omega)
theorem my_copy_in {post : Int32 → SY → Prop} {J : Int32 → (Nat → Int32) → (Nat → Int32) → (Nat → Int32) → (Nat → Int32) → Prop} {m b n s : Nat} (hN : ∀ k, N k < 6) (hm : m < 2) (hb : b < 6) (n1 : 1 ≤ n) (n6 : n ≤ 6) (hs : s < n) (h : J (nI (s + 1)) sz (mm_F (mm_cp N (fun x => (x + b) % n) m (1 - m) b n (2 * (s + 1)))) (mm_F (mm_cp A (fun x => x) m (1 - m) b n (2 * (s + 1)))) mem) : ∀ f a, a ≤ 2 → 2 - a < f → wY_copy_76 post J (nI m) (nI b) (nI (1 - m)) (nI n) (nI s) cnt f (nI a) sz (mm_F (mm_cp N (fun x => (x + b) % n) m (1 - m) b n (2 * s + a))) (mm_F (mm_cp A (fun x => x) m (1 - m) b n (2 * s + a))) mem := by
  intro f
  induction f with
  | zero => intro a _ h; exact absurd h (by omega)
  | succ f ih =>
    intro a ha hn
    by_cases e : a = 2
    · subst e
      exact br_t (by decide) (nm_r (nI_1 s) h)
    · have n0 : ¬ nI n = 0 := nI_ne0 (by omega) (by omega)
      have t := mm_to_b (b := b) (k := 2 * s + a) hm n1 n6
      have e7 : ((12 * nI m) + (2 * ((nI s + nI b) - (nI s + nI b) / nI n * nI n))) + nI a = nI (mm_to m b n (2 * s + a)) := by
        rw [nI_add s b, pk_rem (by omega) (by omega) (by omega), mm_x12, mm_x2, nI_add, nI_add]
        unfold mm_to
        rw [show (2 * s + a) / 2 = s by omega, show (2 * s + a) % 2 = a by omega]
      have ex : ((12 * nI (1 - m)) + (2 * nI s)) + nI a = nI (12 * (1 - m) + (2 * s + a)) := by
        rw [mm_x12, mm_x2, nI_add, nI_add]
        exact congrArg nI (by omega)
      have c6 := mm_cp_all (h := fun x => (x + b) % n) (m := m) (o := 1 - m) (b := b) (n := n) hN (fun x _ => by have := Nat.mod_lt (x + b) (show 0 < n from n1); omega) (2 * s + a) (12 * (1 - m) + (2 * s + a))
      refine br_f (nI_ge (b := 2) (by omega) (by decide)) ⟨n0, nm_r e7 ⟨pk_in _ 24 (by omega) ex, n0, mm_in (by omega), nm_r (e' := mm_F (mm_cp N (fun x => (x + b) % n) m (1 - m) b n (2 * s + (a + 1)))) ?_ ⟨pk_in _ 24 (by omega) ex, mm_in (by omega), nm_r (e' := mm_F (mm_cp A (fun x => x) m (1 - m) b n (2 * s + (a + 1)))) ?_ (nm_r (nI_1 a) (ih (a + 1) (by omega) (by omega)))⟩⟩⟩
      · rw [mm_rd _ ex (by omega), nI_add]
        exact mm_wr (mm_to m b n (2 * s + a)) _ rfl (pk_rem (by omega) (by omega) (by omega)) (by omega)
      · rw [mm_rd _ ex (by omega)]
        exact mm_wr (mm_to m b n (2 * s + a)) _ rfl rfl (by omega)
theorem my_copy_l {post : Int32 → SY → Prop} {m b n : Nat} (hN : ∀ k, N k < 6) (hm : m < 2) (hb : b < 6) (n1 : 1 ≤ n) (n6 : n ≤ 6) (h : post (nI n) (cnt, sz, mm_F (mm_cp N (fun x => (x + b) % n) m (1 - m) b n (2 * n)), mm_F (mm_cp A (fun x => x) m (1 - m) b n (2 * n)), mem)) : ∀ f s, s ≤ n → n - s < f → wY_copy_59 post (nI m) (nI b) (nI (1 - m)) (nI n) cnt f (nI s) sz (mm_F (mm_cp N (fun x => (x + b) % n) m (1 - m) b n (2 * s))) (mm_F (mm_cp A (fun x => x) m (1 - m) b n (2 * s))) mem := by
  intro f
  induction f with
  | zero => intro s _ h; exact absurd h (by omega)
  | succ f ih =>
    intro s hs hn
    by_cases e : s = n
    · subst e
      exact br_t (nI_le (by omega) (by omega)) h
    · exact br_f (nI_ge (by omega) (by omega)) (br_f (nI_ge (b := 6) (by omega) (by decide)) ⟨3, my_copy_in hN hm hb n1 n6 (by omega) (ih (s + 1) (by omega) (by omega)) 3 0 (by omega) (by omega)⟩)
end
end
section
/-! the relation; what is owed -/
/-- both hold the same machines, well formed; a table that is current is the machines' -/
def i_Rel (k : Nat) (u : SX) (v : SY) : Prop := ∃ (z N A : Nat → Nat) (fc cu : Int32) (ap cl le qu wo : Nat → Int32) (cnt : Int32) (mem : Nat → Int32), u = (fc, cu, mm_F z, mm_F N, mm_F A, ap, cl, le, qu, wo) ∧ v = (cnt, mm_F z, mm_F N, mm_F A, mem) ∧ mm_WF z N A ∧ (¬ cu = 0 → mm_Tb2 z N A ap)
theorem i_up {k : Nat} {u : SX} {v : SY} (h : i_Rel k u v) : i_Rel (k + 4) u v := h
theorem mm_rel {k : Nat} {z N A : Nat → Nat} {fc cu cnt : Int32} {ap cl le qu wo mem : Nat → Int32} (W : mm_WF z N A) (T : ¬ cu = 0 → mm_Tb2 z N A ap) : i_Rel k (fc, cu, mm_F z, mm_F N, mm_F A, ap, cl, le, qu, wo) (cnt, mm_F z, mm_F N, mm_F A, mem) :=
  ⟨z, N, A, fc, cu, ap, cl, le, qu, wo, cnt, mem, rfl, rfl, W, T⟩
theorem mm_rel0 {k : Nat} {z N A : Nat → Nat} {fc cnt : Int32} {ap cl le qu wo mem : Nat → Int32} (W : mm_WF z N A) : i_Rel k (fc, 0, mm_F z, mm_F N, mm_F A, ap, cl, le, qu, wo) (cnt, mm_F z, mm_F N, mm_F A, mem) :=
  mm_rel W fun h => absurd rfl h
theorem i_vc0 : wpX_init (fun u => wpY_init (fun v => i_Rel 0 u v)) := by
  have e : upd (upd (fun _ => 0) 0 1) 1 1 = mm_F (fun k => if k < 2 then 1 else 0) := by
    funext j
    unfold upd mm_F
    by_cases h1 : j = 1
    · subst h1; rfl
    · by_cases h0 : j = 0
      · subst h0; rfl
      · rw [if_neg h1, if_neg h0]
        show (0 : Int32) = nI (if j < 2 then 1 else 0)
        rw [if_neg (by omega)]; rfl
  have e0 : (fun _ => 0 : Nat → Int32) = mm_F (fun _ => 0) := rfl
  have W : mm_WF (fun k => if k < 2 then 1 else 0) (fun _ => 0) (fun _ => 0) := by
    refine ⟨fun m hm => ?_, fun _ => (by decide : (0 : Nat) < 6), fun _ => (by decide : (0 : Nat) < 4), fun m k hm hk => ?_⟩
    · dsimp only; rw [if_pos hm]; exact ⟨Nat.le_refl _, by decide⟩
    · dsimp only; rw [if_pos hm]; decide
  refine nm_e (nm_r e (nm_e (nm_r e ?_)))
  exact mm_rel0 (fc := 0) (cnt := 0) (ap := fun _ => 0) (cl := fun _ => 0) (le := fun _ => 0) (qu := fun _ => 0) (wo := fun _ => 0) (mem := fun _ => 0) W
theorem i_vc_size {k : Nat} {u : SX} {v : SY} (I : i_Rel k u v) (hk : k + 4 ≤ 2048) (v1 : Int32) (v2 : Int32) : wpX_size (fun r u' => wpY_size (fun r' v' => r' = r ∧ i_Rel (k + 4) u' v') v v1 v2) u v1 v2 := by
  obtain ⟨z, N, A, fc, cu, ap, cl, le, qu, wo, cnt, mem, rfl, rfl, W, T⟩ := I
  unfold wpX_size wpY_size
  dsimp only
  rcases mm_mc v1 with ⟨m, hm, rfl⟩ | ⟨⟨n0, n1⟩, nb⟩
  · refine mx_m1 hm (br_f (by decide) ?_)
    by_cases h1 : v2 < 1
    · exact br_t h1 (my_bad0 hm (br_t rfl (br_t h1 ⟨rfl, mm_rel W T⟩)))
    · by_cases h6 : v2 ≤ 6
      · obtain ⟨n, hn, rfl⟩ : ∃ n, n < 2 ^ 31 ∧ v2 = nI n := nI_of fun h => h1 (Int32.lt_of_lt_of_le h (by decide))
        have n1 : 1 ≤ n := by
          rcases Nat.lt_or_ge n 1 with l | l
          · exact absurd (nI_lt (b := 1) l (by decide)) h1
          · exact l
        have n6 : n ≤ 6 := (nI_leI (b := 6) hn (by decide)).mp h6
        have ew : upd (mm_F z) (nI m).toNatClampNeg (nI n) = mm_F (mm_u z m n) := mm_wr m n rfl rfl (by omega)
        have ei : 12 * nI m = nI (12 * m + 0) := mm_x12 m
        have e0N : mm_F N = mm_F (mm_wv N (12 * m) (fun _ => 0) 0) := by rw [mm_wv_0]
        have e0A : mm_F A = mm_F (mm_wv A (12 * m) (fun _ => 0) 0) := by rw [mm_wv_0]
        have W' := mm_WF_wv (i := 12) (g := fun _ => 0) (h := fun _ => 0) W hm n1 n6 (by omega) (by omega) (fun _ _ => n1) (fun _ _ => by decide)
        refine br_f h1 (br_t h6 ⟨pk_in m 2 hm, nm_r (mm_rd m rfl (by omega)) ⟨pk_in m 2 hm, nm_r ew (nm_r ei ⟨13, ?_⟩)⟩⟩)
        rw [e0N, e0A]
        refine mx_size_l hm ?_ 13 0 (by omega) (by omega)
        refine my_bad0 hm (br_t rfl (br_f h1 (br_t h6 ⟨pk_in m 2 hm, nm_r (mm_rd m rfl (by omega)) ⟨pk_in m 2 hm, nm_r ew ⟨13, ?_⟩⟩⟩)))
        rw [← e0N, ← e0A]
        rw [e0N, e0A]
        exact my_size_l hm ⟨rfl, mm_rel0 W'⟩ 13 0 (by omega) (by omega)
      · exact br_f h1 (br_f h6 (my_bad0 hm (br_t rfl (br_f h1 (br_f h6 ⟨rfl, mm_rel W T⟩)))))
  · exact mx_m0 n0 n1 (br_t rfl (my_bad1 nb (br_f (by decide) ⟨rfl, mm_rel W T⟩)))
theorem i_vc_set {k : Nat} {u : SX} {v : SY} (I : i_Rel k u v) (hk : k + 4 ≤ 2048) (v1 : Int32) (v2 : Int32) (v3 : Int32) : wpX_set (fun r u' => wpY_set (fun r' v' => r' = r ∧ i_Rel (k + 4) u' v') v v1 v2 v3) u v1 v2 v3 := by
  obtain ⟨z, N, A, fc, cu, ap, cl, le, qu, wo, cnt, mem, rfl, rfl, W, T⟩ := I
  unfold wpX_set wpY_set
  dsimp only
  rcases mm_mc v1 with ⟨m, hm, rfl⟩ | ⟨⟨n0, n1⟩, nb⟩
  · have hz := W.1 m hm
    have er : mm_F z (nI m).toNatClampNeg = nI (z m) := mm_rd m rfl (by omega)
    rw [er]
    refine mx_m1 hm (br_f (by decide) ?_)
    by_cases h0 : v2 < 0
    · exact br_t h0 (my_bad0 hm (br_t rfl (br_t h0 ⟨rfl, mm_rel W T⟩)))
    · obtain ⟨a, ha, rfl⟩ := nI_of h0
      rw [mm_s1 ha, mm_d2 ha]
      refine br_f h0 ⟨pk_in m 2 hm, ?_⟩
      by_cases hs : a / 2 < z m
      · refine br_t (nI_lt hs (by omega)) ?_
        by_cases g0 : v3 < 0
        · exact br_t g0 (my_bad0 hm (br_t rfl (br_f h0 ⟨by decide, pk_in m 2 hm, br_t (nI_lt hs (by omega)) (br_t g0 ⟨rfl, mm_rel W T⟩)⟩)))
        · obtain ⟨b, hb, rfl⟩ := nI_of g0
          rw [mm_s2 hb, mm_d4 hb, mm_n3 (by omega), mm_x12, nI_add]
          refine br_f g0 ⟨pk_in m 2 hm, ?_⟩
          by_cases gs : b / 4 < z m
          · have wN : upd (mm_F N) (nI (12 * m + a)).toNatClampNeg (nI (b / 4)) = mm_F (mm_u N (12 * m + a) (b / 4)) := mm_wr _ _ rfl rfl (by omega)
            have wA : upd (mm_F A) (nI (12 * m + a)).toNatClampNeg (nI (b % 4)) = mm_F (mm_u A (12 * m + a) (b % 4)) := mm_wr _ _ rfl rfl (by omega)
            have e4 : nI b - nI (b / 4) * 4 = nI (b % 4) := by
              rw [← mm_d4 hb]; exact mm_r4 hb
            have W' : mm_WF z (mm_u N (12 * m + a) (b / 4)) (mm_u A (12 * m + a) (b % 4)) := by
              refine ⟨W.1, fun j => ?_, fun j => ?_, fun j i hj hi => ?_⟩
              · by_cases e : j = 12 * m + a
                · rw [e, mm_us]; omega
                · rw [mm_un e]; exact W.2.1 j
              · by_cases e : j = 12 * m + a
                · rw [e, mm_us]; omega
                · rw [mm_un e]; exact W.2.2.1 j
              · by_cases e : 12 * j + i = 12 * m + a
                · rw [e, mm_us]
                  have b2 := W.1 j hj
                  have : j = m := by omega
                  rw [this]; exact gs
                · rw [mm_un e]; exact W.2.2.2 j i hj hi
            refine br_t (nI_lt gs (by omega)) (nm_e ⟨mm_in (by omega), mm_in (by omega), nm_e ⟨mm_in (by omega), nm_r wN ⟨mm_in (by omega), nm_r wA ?_⟩⟩⟩)
            rw [e4]
            exact my_bad0 hm (br_t rfl (br_f h0 ⟨by decide, pk_in m 2 hm, br_t (nI_lt hs (by omega)) (br_f g0 ⟨by decide, pk_in m 2 hm, br_t (nI_lt gs (by omega)) ⟨mm_in (by omega), mm_in (by omega), nm_e ⟨by decide, mm_in (by omega), nm_r wN ⟨by decide, mm_in (by omega), nm_r wA ⟨rfl, mm_rel0 W'⟩⟩⟩⟩⟩)⟩))
          · refine br_f (nI_nlt (by omega) (by omega)) ?_
            exact my_bad0 hm (br_t rfl (br_f h0 ⟨by decide, pk_in m 2 hm, br_t (nI_lt hs (by omega)) (br_f g0 ⟨by decide, pk_in m 2 hm, br_f (nI_nlt (by omega) (by omega)) ⟨rfl, mm_rel W T⟩⟩)⟩))
      · refine br_f (nI_nlt (by omega) (by omega)) ?_
        exact my_bad0 hm (br_t rfl (br_f h0 ⟨by decide, pk_in m 2 hm, br_f (nI_nlt (by omega) (by omega)) ⟨rfl, mm_rel W T⟩⟩))
  · exact mx_m0 n0 n1 (br_t rfl (my_bad1 nb (br_f (by decide) ⟨rfl, mm_rel W T⟩)))
theorem i_vc_weave {k : Nat} {u : SX} {v : SY} (I : i_Rel k u v) (hk : k + 4 ≤ 2048) (v1 : Int32) (v2 : Int32) (v3 : Int32) : wpX_weave (fun r u' => wpY_weave (fun r' v' => r' = r ∧ i_Rel (k + 4) u' v') v v1 v2 v3) u v1 v2 v3 := by
  obtain ⟨z, N, A, fc, cu, ap, cl, le, qu, wo, cnt, mem, rfl, rfl, W, T⟩ := I
  unfold wpX_weave wpY_weave
  dsimp only
  rcases mm_mc v1 with ⟨m, hm, rfl⟩ | ⟨⟨n0, n1⟩, nb⟩
  · have hz := W.1 m hm
    have er : mm_F z (nI m).toNatClampNeg = nI (z m) := mm_rd m rfl (by omega)
    refine mx_m1 hm (br_f (by decide) ?_)
    by_cases h0 : v2 < 0
    · exact br_t h0 (my_bad0 hm (br_t rfl (br_t h0 ⟨rfl, mm_rel W T⟩)))
    · by_cases h20 : v2 ≤ 20
      · by_cases g0 : v3 < 0
        · exact br_f h0 (br_t h20 (br_t g0 (my_bad0 hm (br_t rfl (br_f h0 (br_t h20 (br_t g0 ⟨rfl, mm_rel W T⟩)))))))
        · by_cases g63 : v3 ≤ 63
          · obtain ⟨sd, hd, rfl⟩ := nI_of2 (n := 20) (by decide) h0 h20
            obtain ⟨mx, hx, rfl⟩ := nI_of2 (n := 63) (by decide) g0 g63
            have W' := mm_WF_wv (m := m) (n := z m) (i := 2 * z m) (g := mm_vn sd mx (z m)) (h := mm_va sd mx) W hm hz.1 hz.2 (by omega) (by omega) (fun k _ => Nat.mod_lt _ hz.1) (fun k _ => Nat.mod_lt _ (by decide))
            rw [mm_u_id] at W'
            have e0N : mm_F N = mm_F (mm_wv N (12 * m) (mm_vn sd mx (z m)) 0) := by rw [mm_wv_0]
            have e0A : mm_F A = mm_F (mm_wv A (12 * m) (mm_va sd mx) 0) := by rw [mm_wv_0]
            rw [er]
            refine br_f h0 (br_t h20 (br_f g0 (br_t g63 ⟨pk_in m 2 hm, nm_e ⟨2 * z m + 1, ?_⟩⟩)))
            rw [e0N, e0A]
            refine mx_weave_l hm hd hx hz.1 hz.2 ?_ (2 * z m + 1) 0 (by omega) (by omega)
            refine my_bad0 hm (br_t rfl (br_f h0 (br_t h20 (br_f g0 (br_t g63 ⟨pk_in m 2 hm, br_t (nI_le (a := 1) (by omega) (by omega)) ⟨pk_in m 2 hm, nm_e ⟨z m + 1, ?_⟩⟩⟩)))))
            exact my_weave_l hm hd hx hz.1 hz.2 ⟨rfl, mm_rel0 W'⟩ (z m + 1) 0 (by omega) (by omega)
          · exact br_f h0 (br_t h20 (br_f g0 (br_f g63 (my_bad0 hm (br_t rfl (br_f h0 (br_t h20 (br_f g0 (br_f g63 ⟨rfl, mm_rel W T⟩)))))))))
      · exact br_f h0 (br_f h20 (my_bad0 hm (br_t rfl (br_f h0 (br_f h20 ⟨rfl, mm_rel W T⟩)))))
  · exact mx_m0 n0 n1 (br_t rfl (my_bad1 nb (br_f (by decide) ⟨rfl, mm_rel W T⟩)))
theorem i_vc_copy {k : Nat} {u : SX} {v : SY} (I : i_Rel k u v) (hk : k + 4 ≤ 2048) (v1 : Int32) (v2 : Int32) : wpX_copy (fun r u' => wpY_copy (fun r' v' => r' = r ∧ i_Rel (k + 4) u' v') v v1 v2) u v1 v2 := by
  obtain ⟨z, N, A, fc, cu, ap, cl, le, qu, wo, cnt, mem, rfl, rfl, W, T⟩ := I
  unfold wpX_copy wpY_copy
  dsimp only
  rcases mm_mc v1 with ⟨m, hm, rfl⟩ | ⟨⟨n0, n1⟩, nb⟩
  · have ho : 1 - m < 2 := by omega
    have hz := W.1 (1 - m) ho
    have eo : 1 - nI m = nI (1 - m) := pk_sub (a := 1) (by omega)
    have er : mm_F z (nI (1 - m)).toNatClampNeg = nI (z (1 - m)) := mm_rd (1 - m) rfl (by omega)
    refine mx_m1 hm (br_f (by decide) ?_)
    by_cases h0 : v2 < 0
    · exact br_t h0 (my_bad0 hm (br_t rfl (br_t h0 ⟨rfl, mm_rel W T⟩)))
    · by_cases h5 : v2 ≤ 5
      · obtain ⟨b, hb, rfl⟩ := nI_of2 (n := 5) (by decide) h0 h5
        have W' := mm_WF_cp W (m := m) (b := b) (n := z (1 - m)) hm (by omega) hz.1 hz.2
        have ew : upd (mm_F z) (nI m).toNatClampNeg (nI (z (1 - m))) = mm_F (mm_u z m (z (1 - m))) := mm_wr m _ rfl rfl (by omega)
        refine br_f h0 (br_t h5 (nm_r eo ⟨pk_in _ 2 ho, ?_⟩))
        rw [er]
        refine br_f (nI_nle (by omega) (by omega)) ⟨pk_in _ 2 ho, And.intro (pk_in m 2 hm) (nm_r ew ⟨2 * z (1 - m) + 1, mx_copy_l W.2.1 hm (by omega) hz.1 hz.2 ?_ (2 * z (1 - m) + 1) 0 (by omega) (by omega)⟩)⟩
        refine my_bad0 hm (br_t rfl (br_f h0 (br_t h5 (nm_r eo ⟨pk_in _ 2 ho, ?_⟩))))
        rw [er]
        exact br_t (nI_le (a := 1) (by omega) (by omega)) ⟨pk_in _ 2 ho, And.intro (pk_in m 2 hm) (nm_r ew ⟨z (1 - m) + 1, my_copy_l W.2.1 hm (by omega) hz.1 hz.2 ⟨rfl, mm_rel0 W'⟩ (z (1 - m) + 1) 0 (by omega) (by omega)⟩)⟩
      · exact br_f h0 (br_f h5 (my_bad0 hm (br_t rfl (br_f h0 (br_f h5 ⟨rfl, mm_rel W T⟩)))))
  · exact mx_m0 n0 n1 (br_t rfl (my_bad1 nb (br_f (by decide) ⟨rfl, mm_rel W T⟩)))
theorem i_vc_states {k : Nat} {u : SX} {v : SY} (I : i_Rel k u v) (hk : k + 4 ≤ 2048) (v1 : Int32) : wpX_states (fun r => wpY_states (fun r' => r' = r ∧ i_Rel (k + 4) u v) v v1) u v1 := by
  obtain ⟨z, N, A, fc, cu, ap, cl, le, qu, wo, cnt, mem, rfl, rfl, W, T⟩ := I
  unfold wpX_states wpY_states
  dsimp only
  rcases mm_mc v1 with ⟨m, hm, rfl⟩ | ⟨⟨n0, n1⟩, nb⟩
  · exact mx_m1 hm (br_f (by decide) ⟨pk_in m 2 hm, my_bad0 hm (br_t rfl ⟨pk_in m 2 hm, rfl, mm_rel W T⟩)⟩)
  · exact mx_m0 n0 n1 (br_t rfl (my_bad1 nb (br_f (by decide) ⟨rfl, mm_rel W T⟩)))
end
section
theorem i_vc_run {k : Nat} {u : SX} {v : SY} (I : i_Rel k u v) (hk : k + 4 ≤ 2048) (v1 : Int32) (v2 : Int32) : wpX_run (fun r => wpY_run (fun r' => r' = r ∧ i_Rel (k + 4) u v) v v1 v2) u v1 v2 := by
  obtain ⟨z, N, A, fc, cu, ap, cl, le, qu, wo, cnt, mem, rfl, rfl, W, T⟩ := I
  unfold wpX_run wpY_run
  dsimp only
  rcases mm_pl (fc := fc) (cu := cu) (nx := mm_F N) (an := mm_F A) (ap := ap) (cl := cl) (le := le) (qu := qu) (wo := wo) (cnt := cnt) (ynx := mm_F N) (yan := mm_F A) (mem := mem) W v1 with ⟨p, hp, rfl, hX, hY⟩ | ⟨hX, hY⟩
  · refine hX _ (br_t (nI_pos' (by have := hp.1; omega)) ?_)
    by_cases h1 : v2 < 1
    · exact br_t h1 (hY _ (br_t rfl (br_t h1 ⟨rfl, mm_rel W T⟩)))
    · by_cases h2 : v2 ≤ 4095
      · obtain ⟨c, hc, rfl⟩ := nI_of2 (n := 4095) (by decide) (fun h => h1 (Int32.lt_of_lt_of_le h (by decide))) h2
        have c1 : 1 ≤ c := by
          rcases Nat.lt_or_ge c 1 with l | l
          · exact absurd (nI_lt (b := 1) l (by decide)) h1
          · exact l
        obtain ⟨L, l1, l2, l3⟩ := mm_lg c1 (by omega)
        refine br_f h1 (br_t h2 (mx_let l1 l2 l3 (by omega) (nm_e (mx_run W hp (by omega) l1 l2 l3 ?_))))
        exact hY _ (br_t rfl (br_f h1 (br_t h2 (my_goal W rfl hp c1 (by omega) ⟨rfl, mm_rel W T⟩))))
      · exact br_f h1 (br_f h2 (hY _ (br_t rfl (br_f h1 (br_f h2 ⟨rfl, mm_rel W T⟩)))))
  · exact hX _ (br_f (by decide) (hY _ (br_f (by decide) ⟨rfl, mm_rel W T⟩)))
theorem i_vc_response {k : Nat} {u : SX} {v : SY} (I : i_Rel k u v) (hk : k + 4 ≤ 2048) (v1 : Int32) (v2 : Int32) : wpX_response (fun r => wpY_response (fun r' => r' = r ∧ i_Rel (k + 4) u v) v v1 v2) u v1 v2 := by
  obtain ⟨z, N, A, fc, cu, ap, cl, le, qu, wo, cnt, mem, rfl, rfl, W, T⟩ := I
  unfold wpX_response wpY_response
  dsimp only
  rcases mm_pl (fc := fc) (cu := cu) (nx := mm_F N) (an := mm_F A) (ap := ap) (cl := cl) (le := le) (qu := qu) (wo := wo) (cnt := cnt) (ynx := mm_F N) (yan := mm_F A) (mem := mem) W v1 with ⟨p, hp, rfl, hX, hY⟩ | ⟨hX, hY⟩
  · refine hX _ (br_t (nI_pos' (by have := hp.1; omega)) ?_)
    by_cases h1 : v2 < 1
    · exact br_t h1 (hY _ (br_t rfl (br_t h1 ⟨rfl, mm_rel W T⟩)))
    · by_cases h2 : v2 ≤ 4095
      · obtain ⟨c, hc, rfl⟩ := nI_of2 (n := 4095) (by decide) (fun h => h1 (Int32.lt_of_lt_of_le h (by decide))) h2
        have c1 : 1 ≤ c := by
          rcases Nat.lt_or_ge c 1 with l | l
          · exact absurd (nI_lt (b := 1) l (by decide)) h1
          · exact l
        obtain ⟨L, l1, l2, l3⟩ := mm_lg c1 (by omega)
        refine br_f h1 (br_t h2 (mx_let l1 l2 l3 (by omega) (nm_e (mx_resp W hp (by omega) l1 l2 l3 ?_))))
        exact hY _ (br_t rfl (br_f h1 (br_t h2 (my_told W rfl hp c1 (by omega) ⟨rfl, mm_rel W T⟩))))
      · exact br_f h1 (br_f h2 (hY _ (br_t rfl (br_f h1 (br_f h2 ⟨rfl, mm_rel W T⟩)))))
  · exact hX _ (br_f (by decide) (hY _ (br_f (by decide) ⟨rfl, mm_rel W T⟩)))
theorem i_vc_alike {k : Nat} {u : SX} {v : SY} (I : i_Rel k u v) (hk : k + 4 ≤ 2048) (v1 : Int32) (v2 : Int32) : wpX_alike (fun r u' => wpY_alike (fun r' => r' = r ∧ i_Rel (k + 4) u' v) v v1 v2) u v1 v2 := by
  obtain ⟨z, N, A, fc, cu, ap, cl, le, qu, wo, cnt, mem, rfl, rfl, W, T⟩ := I
  unfold wpX_alike wpY_alike
  dsimp only
  rcases mm_pl (fc := fc) (cu := cu) (nx := mm_F N) (an := mm_F A) (ap := ap) (cl := cl) (le := le) (qu := qu) (wo := wo) (cnt := cnt) (ynx := mm_F N) (yan := mm_F A) (mem := mem) W v1 with ⟨p, hp, rfl, hX, hY⟩ | ⟨hX, hY⟩
  · rcases mm_pl (fc := fc) (cu := cu) (nx := mm_F N) (an := mm_F A) (ap := ap) (cl := cl) (le := le) (qu := qu) (wo := wo) (cnt := cnt) (ynx := mm_F N) (yan := mm_F A) (mem := mem) W v2 with ⟨q, hq, rfl, gX, gY⟩ | ⟨gX, gY⟩
    · refine hX _ (gX _ (br_f (nI_pos (by have := hp.1; omega)) (br_t (nI_pos' (by have := hq.1; omega)) (mx_refresh W T ?_))))
      intro cu' ap' hc' T'
      obtain ⟨t1, t2⟩ := mx_tab0 W T' (x := 12 * nI p + nI q) hp hq (by rw [mm_x12, nI_add])
      refine ⟨t1, ?_⟩
      by_cases hQ : mm_Q N A p q
      · refine br_t (t2.mpr hQ) (hY _ (br_t rfl (gY _ (br_t rfl (my_apart W rfl rfl hp hq fun r hr hP => ?_)))))
        have r0 := (mm_P_0 W.2.2.1 hP).mpr hQ
        subst r0
        exact br_t rfl ⟨rfl, mm_rel W fun _ => T'⟩
      · refine br_f (fun x => hQ (t2.mp x)) (hY _ (br_t rfl (gY _ (br_t rfl (my_apart W rfl rfl hp hq fun r hr hP => ?_)))))
        exact br_f (fun x => hQ ((mm_P_0 W.2.2.1 hP).mp ((nI_eq (b := 0) (by omega) (by decide)).mp x))) ⟨rfl, mm_rel W fun _ => T'⟩
    · exact hX _ (gX _ (br_f (nI_pos (by have := hp.1; omega)) (br_f (by decide) (hY _ (br_t rfl (gY _ (br_f (by decide) ⟨rfl, mm_rel W T⟩)))))))
  · rcases mm_pl (fc := fc) (cu := cu) (nx := mm_F N) (an := mm_F A) (ap := ap) (cl := cl) (le := le) (qu := qu) (wo := wo) (cnt := cnt) (ynx := mm_F N) (yan := mm_F A) (mem := mem) W v2 with ⟨q, hq, rfl, gX, gY⟩ | ⟨gX, gY⟩
    · exact hX _ (gX _ (br_t (by decide) (hY _ (br_f (by decide) ⟨rfl, mm_rel W T⟩))))
    · exact hX _ (gX _ (br_t (by decide) (hY _ (br_f (by decide) ⟨rfl, mm_rel W T⟩))))
theorem i_vc_difference {k : Nat} {u : SX} {v : SY} (I : i_Rel k u v) (hk : k + 4 ≤ 2048) (v1 : Int32) (v2 : Int32) : wpX_difference (fun r u' => wpY_difference (fun r' => r' = r ∧ i_Rel (k + 4) u' v) v v1 v2) u v1 v2 := by
  obtain ⟨z, N, A, fc, cu, ap, cl, le, qu, wo, cnt, mem, rfl, rfl, W, T⟩ := I
  unfold wpX_difference wpY_difference
  dsimp only
  rcases mm_pl (fc := fc) (cu := cu) (nx := mm_F N) (an := mm_F A) (ap := ap) (cl := cl) (le := le) (qu := qu) (wo := wo) (cnt := cnt) (ynx := mm_F N) (yan := mm_F A) (mem := mem) W v1 with ⟨p, hp, rfl, hX, hY⟩ | ⟨hX, hY⟩
  · rcases mm_pl (fc := fc) (cu := cu) (nx := mm_F N) (an := mm_F A) (ap := ap) (cl := cl) (le := le) (qu := qu) (wo := wo) (cnt := cnt) (ynx := mm_F N) (yan := mm_F A) (mem := mem) W v2 with ⟨q, hq, rfl, gX, gY⟩ | ⟨gX, gY⟩
    · refine hX _ (gX _ (br_f (nI_pos (by have := hp.1; omega)) (br_t (nI_pos' (by have := hq.1; omega)) (mx_refresh W T ?_))))
      intro cu' ap' hc' T'
      refine mx_fw W T' hp hq fun r hP => ?_
      refine hY _ (br_t rfl (gY _ (br_t rfl (my_apart W rfl rfl hp hq fun s hs hS => ?_))))
      have e := mm_P_u W.2.2.1 hS hP
      subst e
      exact ⟨rfl, mm_rel W fun _ => T'⟩
    · exact hX _ (gX _ (br_f (nI_pos (by have := hp.1; omega)) (br_f (by decide) (hY _ (br_t rfl (gY _ (br_f (by decide) ⟨rfl, mm_rel W T⟩)))))))
  · rcases mm_pl (fc := fc) (cu := cu) (nx := mm_F N) (an := mm_F A) (ap := ap) (cl := cl) (le := le) (qu := qu) (wo := wo) (cnt := cnt) (ynx := mm_F N) (yan := mm_F A) (mem := mem) W v2 with ⟨q, hq, rfl, gX, gY⟩ | ⟨gX, gY⟩
    · exact hX _ (gX _ (br_t (by decide) (hY _ (br_f (by decide) ⟨rfl, mm_rel W T⟩))))
    · exact hX _ (gX _ (br_t (by decide) (hY _ (br_f (by decide) ⟨rfl, mm_rel W T⟩))))
theorem i_vc_same {k : Nat} {u : SX} {v : SY} (I : i_Rel k u v) (hk : k + 4 ≤ 2048) : wpX_same (fun r u' => wpY_same (fun r' => r' = r ∧ i_Rel (k + 4) u' v) v) u := by
  obtain ⟨z, N, A, fc, cu, ap, cl, le, qu, wo, cnt, mem, rfl, rfl, W, T⟩ := I
  unfold wpX_same wpY_same
  dsimp only
  refine mx_refresh W T ?_
  intro cu' ap' hc' T'
  have b0 := W.1 0 (by decide)
  have b1 := W.1 1 (by decide)
  have h0 := mm_th_0 W (m := 0) (s := 0) (by decide) (by omega)
  have h6 := mm_th_0 W (m := 1) (s := 0) (by decide) (by omega)
  have hp : mm_th z 0 := h0.1
  have hq : mm_th z 6 := h6.1
  obtain ⟨t1, t2⟩ := mx_tab0 W T' (x := nI 6) hp hq rfl
  rw [pk_cl 6 rfl (by decide)] at t2
  by_cases hQ : mm_Q N A 0 6
  · refine br_t (t2.mpr hQ) (my_apart W (p := 0) (q := 6) rfl rfl hp hq fun r hr hP => ?_)
    have r0 := (mm_P_0 W.2.2.1 hP).mpr hQ
    subst r0
    exact br_t rfl ⟨rfl, mm_rel W fun _ => T'⟩
  · refine br_f (fun x => hQ (t2.mp x)) (my_apart W (p := 0) (q := 6) rfl rfl hp hq fun r hr hP => ?_)
    exact br_f (fun x => hQ ((mm_P_0 W.2.2.1 hP).mp ((nI_eq (b := 0) (by omega) (by decide)).mp x))) ⟨rfl, mm_rel W fun _ => T'⟩
theorem i_vc_classes {k : Nat} {u : SX} {v : SY} (I : i_Rel k u v) (hk : k + 4 ≤ 2048) (v1 : Int32) : wpX_classes (fun r u' => wpY_classes (fun r' => r' = r ∧ i_Rel (k + 4) u' v) v v1) u v1 := by
  obtain ⟨z, N, A, fc, cu, ap, cl, le, qu, wo, cnt, mem, rfl, rfl, W, T⟩ := I
  unfold wpX_classes
  dsimp only
  rcases mm_mc v1 with ⟨m, hm, rfl⟩ | ⟨⟨n0, n1⟩, nb⟩
  · refine mx_m1 hm (br_f (by decide) (mx_refresh W T ?_))
    intro cu' ap' hc' T'
    exact ⟨z m + 1, mx_cl_out W T' hm (my_classes W hm ⟨rfl, mm_rel W fun _ => T'⟩) (z m + 1) 0 (by omega) (by omega)⟩
  · unfold wpY_classes
    dsimp only
    exact mx_m0 n0 n1 (br_t rfl (my_bad1 nb (br_f (by decide) ⟨rfl, mm_rel W T⟩)))
end
section
theorem i_vc_core {k : Nat} {u : SX} {v : SY} (I : i_Rel k u v) (hk : k + 4 ≤ 2048) (v1 : Int32) : wpX_core (fun r u' => wpY_core (fun r' v' => r' = r ∧ i_Rel (k + 4) u' v') v v1) u v1 := by
  obtain ⟨z, N, A, fc, cu, ap, cl, le, qu, wo, cnt, mem, rfl, rfl, W, T⟩ := I
  unfold wpX_core wpY_core
  dsimp only
  rcases mm_mc v1 with ⟨m, hm, rfl⟩ | ⟨⟨n0, n1⟩, nb⟩
  · refine mx_m1 hm (br_f (by decide) (mx_number W rfl hm T ?_))
    intro fc' cu' ap' cl' le' hc' T' hX
    refine my_bad0 hm (br_t rfl (my_work W hm ?_))
    intro cnt' mem' hY
    exact ⟨hY.1.trans hX.1.symm, mm_rel W fun _ => T'⟩
  · exact mx_m0 n0 n1 (br_t rfl (my_bad1 nb (br_f (by decide) ⟨rfl, mm_rel W T⟩)))
/-- letters -/
theorem mm_lt2 (v : Int32) : (∃ a, a < 2 ∧ v = nI a ∧ (v = 0 ∨ v = 1)) ∨ ((¬ v = 0 ∧ ¬ v = 1) ∧ (v < 0 ∨ (¬ v < 0 ∧ ¬ v ≤ 1))) := by
  rcases mm_mc v with ⟨m, hm, rfl⟩ | h
  · refine Or.inl ⟨m, hm, rfl, ?_⟩
    rcases (show m = 0 ∨ m = 1 by omega) with rfl | rfl
    · exact Or.inl rfl
    · exact Or.inr rfl
  · exact Or.inr h
theorem mm_br2 {v : Int32} {A B : Prop} (h : v = 0 ∨ v = 1) (a : A) : (v = 0 → A) ∧ (¬ v = 0 → (v = 1 → A) ∧ (¬ v = 1 → B)) := by
  rcases h with rfl | rfl
  · exact br_t rfl a
  · exact br_f (by decide) (br_t rfl a)
theorem i_vc_coreNext {k : Nat} {u : SX} {v : SY} (I : i_Rel k u v) (hk : k + 4 ≤ 2048) (v1 : Int32) (v2 : Int32) (v3 : Int32) : wpX_coreNext (fun r u' => wpY_coreNext (fun r' v' => r' = r ∧ i_Rel (k + 4) u' v') v v1 v2 v3) u v1 v2 v3 := by
  obtain ⟨z, N, A, fc, cu, ap, cl, le, qu, wo, cnt, mem, rfl, rfl, W, T⟩ := I
  unfold wpX_coreNext wpY_coreNext
  dsimp only
  rcases mm_mc v1 with ⟨m, hm, rfl⟩ | ⟨⟨n0, n1⟩, nb⟩
  · refine mx_m1 hm (br_f (by decide) (mx_number W rfl hm T ?_))
    intro fc' cu' ap' cl' le' hc' T' hX
    have h6 := mm_RQ_n W hm 64
    have fX := hX.1
    have R : ∀ cnt' mem', i_Rel (k + 4) (fc', cu', mm_F z, mm_F N, mm_F A, ap', cl', le', qu, wo) (cnt', mm_F z, mm_F N, mm_F A, mem') := fun _ _ => mm_rel W fun _ => T'
    by_cases h0 : v2 < 0
    · exact br_t h0 (my_bad0 hm (br_t rfl (my_work W hm fun cnt' mem' hY => br_t h0 ⟨rfl, R _ _⟩)))
    · obtain ⟨i, hi, rfl⟩ := nI_of h0
      by_cases hn : i < mm_cn (mm_FC (mm_RQ N A m)) 64
      · obtain ⟨w, w1, w2, w3⟩ := mm_cn_nth (mm_FC (mm_RQ N A m)) 64 i hn
        have gw := mm_g_th W hm w2.1
        have el : le' (nI i).toNatClampNeg = nI (mm_G N (6 * m) w) := by
          rw [pk_cl i rfl (by omega), ← w3]
          exact hX.2.1 w w1 w2
        refine br_f h0 (br_t (by rw [fX]; exact nI_lt hn (by omega)) ?_)
        rcases mm_lt2 v3 with ⟨a, ha, rfl, ha'⟩ | ⟨⟨g0, g1⟩, gb⟩
        · have st := mm_st_th W gw.1 ha
          have stm : mm_st N (mm_G N (6 * m) w) a / 6 = m := st.2.1.trans gw.2
          obtain ⟨c1, c2⟩ := hX.2.2 _ st.1 stm
          refine mm_br2 ha' (And.intro (mm_in (by omega)) (mx_after gw.1.1 ha ⟨mm_in st.1.1, ?_⟩ el rfl))
          rw [pk_cl (mm_st N (mm_G N (6 * m) w) a) rfl (by have := st.1.1; omega)]
          refine my_bad0 hm (br_t rfl (my_work W hm fun cnt' mem' hY => ?_))
          have em : mem' (nI i).toNatClampNeg = nI (mm_G N (6 * m) w % 6) := by
            rw [pk_cl i rfl (by omega), ← w3]
            exact hY.2 w w1 w2
          have ex : ((12 * nI m) + (2 * mem' (nI i).toNatClampNeg)) + nI a = nI (2 * mm_G N (6 * m) w + a) := by
            rw [em, mm_x12, mm_x2, nI_add, nI_add]
            have := gw.2
            exact congrArg nI (by omega)
          refine br_f h0 (br_f (by rw [hY.1]; exact nI_ge hn (by omega)) (br_t (nI_le (b := 5) (by omega) (by decide)) (br_f (nI_pos (by omega)) (br_t (nI_le (b := 1) (by omega) (by decide)) ⟨pk_in i 6 (by omega), pk_in _ 24 (by have := gw.1.1; omega) ex, ?_⟩))))
          refine my_pl W (p := mm_st N (mm_G N (6 * m) w) a) ?_ stm hm hY st.1 ?_ ?_
          · dsimp only
            rw [mm_rd _ ex (by have := gw.1.1; omega), mm_x8, nI_add]
            unfold mm_y
            rw [stm, st.2.2]
          · intro c hc hF hQ
            exact ⟨(c1 c hc hF hQ).symm, R _ _⟩
          · intro hno
            exact ⟨(c2 hno).symm, R _ _⟩
        · refine br_f g0 (br_f g1 (my_bad0 hm (br_t rfl (my_work W hm fun cnt' mem' hY => ?_))))
          refine br_f h0 (br_f (by rw [hY.1]; exact nI_ge hn (by omega)) (br_t (nI_le (b := 5) (by omega) (by decide)) ?_))
          rcases gb with gb | ⟨gb, gc⟩
          · exact br_t gb ⟨rfl, R _ _⟩
          · exact br_f gb (br_f gc ⟨rfl, R _ _⟩)
      · refine br_f h0 (br_f (by rw [fX]; exact nI_nlt (by omega) hi) (my_bad0 hm (br_t rfl (my_work W hm fun cnt' mem' hY => ?_))))
        exact br_f h0 (br_t (by rw [hY.1]; exact nI_le (by omega) hi) ⟨rfl, R _ _⟩)
  · exact mx_m0 n0 n1 (br_t rfl (my_bad1 nb (br_f (by decide) ⟨rfl, mm_rel W T⟩)))
theorem i_vc_coreAnswer {k : Nat} {u : SX} {v : SY} (I : i_Rel k u v) (hk : k + 4 ≤ 2048) (v1 : Int32) (v2 : Int32) (v3 : Int32) : wpX_coreAnswer (fun r u' => wpY_coreAnswer (fun r' v' => r' = r ∧ i_Rel (k + 4) u' v') v v1 v2 v3) u v1 v2 v3 := by
  obtain ⟨z, N, A, fc, cu, ap, cl, le, qu, wo, cnt, mem, rfl, rfl, W, T⟩ := I
  unfold wpX_coreAnswer wpY_coreAnswer
  dsimp only
  rcases mm_mc v1 with ⟨m, hm, rfl⟩ | ⟨⟨n0, n1⟩, nb⟩
  · refine mx_m1 hm (br_f (by decide) (mx_number W rfl hm T ?_))
    intro fc' cu' ap' cl' le' hc' T' hX
    have h6 := mm_RQ_n W hm 64
    have fX := hX.1
    have R : ∀ cnt' mem', i_Rel (k + 4) (fc', cu', mm_F z, mm_F N, mm_F A, ap', cl', le', qu, wo) (cnt', mm_F z, mm_F N, mm_F A, mem') := fun _ _ => mm_rel W fun _ => T'
    by_cases h0 : v2 < 0
    · exact br_t h0 (my_bad0 hm (br_t rfl (my_work W hm fun cnt' mem' hY => br_t h0 ⟨rfl, R _ _⟩)))
    · obtain ⟨i, hi, rfl⟩ := nI_of h0
      by_cases hn : i < mm_cn (mm_FC (mm_RQ N A m)) 64
      · obtain ⟨w, w1, w2, w3⟩ := mm_cn_nth (mm_FC (mm_RQ N A m)) 64 i hn
        have gw := mm_g_th W hm w2.1
        have el : le' (nI i).toNatClampNeg = nI (mm_G N (6 * m) w) := by
          rw [pk_cl i rfl (by omega), ← w3]
          exact hX.2.1 w w1 w2
        refine br_f h0 (br_t (by rw [fX]; exact nI_lt hn (by omega)) ?_)
        rcases mm_lt2 v3 with ⟨a, ha, rfl, ha'⟩ | ⟨⟨g0, g1⟩, gb⟩
        · have st := mm_st_th W gw.1 ha
          have e2 : 2 * le' (nI i).toNatClampNeg + nI a = nI (2 * mm_G N (6 * m) w + a) := by rw [el, mm_x2, nI_add]
          have hl : 2 * mm_G N (6 * m) w + a < 24 := by have := gw.1.1; omega
          refine mm_br2 ha' (And.intro (mm_in (by omega)) ⟨pk_in _ 24 hl e2, ?_⟩)
          dsimp only
          rw [mm_rd _ e2 (by omega)]
          refine my_bad0 hm (br_t rfl (my_work W hm fun cnt' mem' hY => ?_))
          have em : mem' (nI i).toNatClampNeg = nI (mm_G N (6 * m) w % 6) := by
            rw [pk_cl i rfl (by omega), ← w3]
            exact hY.2 w w1 w2
          have ex : ((12 * nI m) + (2 * mem' (nI i).toNatClampNeg)) + nI a = nI (2 * mm_G N (6 * m) w + a) := by
            rw [em, mm_x12, mm_x2, nI_add, nI_add]
            have := gw.2
            exact congrArg nI (by omega)
          exact br_f h0 (br_f (by rw [hY.1]; exact nI_ge hn (by omega)) (br_t (nI_le (b := 5) (by omega) (by decide)) (br_f (nI_pos (by omega)) (br_t (nI_le (b := 1) (by omega) (by decide)) ⟨pk_in i 6 (by omega), pk_in _ 24 hl ex, mm_rd _ ex (by omega), R _ _⟩))))
        · refine br_f g0 (br_f g1 (my_bad0 hm (br_t rfl (my_work W hm fun cnt' mem' hY => ?_))))
          refine br_f h0 (br_f (by rw [hY.1]; exact nI_ge hn (by omega)) (br_t (nI_le (b := 5) (by omega) (by decide)) ?_))
          rcases gb with gb | ⟨gb, gc⟩
          · exact br_t gb ⟨rfl, R _ _⟩
          · exact br_f gb (br_f gc ⟨rfl, R _ _⟩)
      · refine br_f h0 (br_f (by rw [fX]; exact nI_nlt (by omega) hi) (my_bad0 hm (br_t rfl (my_work W hm fun cnt' mem' hY => ?_))))
        exact br_f h0 (br_t (by rw [hY.1]; exact nI_le (by omega) hi) ⟨rfl, R _ _⟩)
  · exact mx_m0 n0 n1 (br_t rfl (my_bad1 nb (br_f (by decide) ⟨rfl, mm_rel W T⟩)))
theorem i_vc_classOf {k : Nat} {u : SX} {v : SY} (I : i_Rel k u v) (hk : k + 4 ≤ 2048) (v1 : Int32) : wpX_classOf (fun r u' => wpY_classOf (fun r' v' => r' = r ∧ i_Rel (k + 4) u' v') v v1) u v1 := by
  obtain ⟨z, N, A, fc, cu, ap, cl, le, qu, wo, cnt, mem, rfl, rfl, W, T⟩ := I
  unfold wpX_classOf wpY_classOf
  dsimp only
  rcases mm_pl (fc := fc) (cu := cu) (nx := mm_F N) (an := mm_F A) (ap := ap) (cl := cl) (le := le) (qu := qu) (wo := wo) (cnt := cnt) (ynx := mm_F N) (yan := mm_F A) (mem := mem) W v1 with ⟨p, hp, rfl, hX, hY⟩ | ⟨hX, hY⟩
  · have p12 := hp.1
    have hm : p / 6 < 2 := by omega
    have yb : mm_y p < 2 ^ 31 := by unfold mm_y; omega
    have e8 : nI (mm_y p) / 8 = nI (p / 6) := (mm_d8 yb).trans (congrArg nI (mm_y8 p).1)
    refine hX _ (br_t (nI_pos' (by omega)) ⟨by decide, mx_number W (mm_d6 (by omega)) hm T ?_⟩)
    intro fc' cu' ap' cl' le' hc' T' gX
    have R : ∀ cnt' mem', i_Rel (k + 4) (fc', cu', mm_F z, mm_F N, mm_F A, ap', cl', le', qu, wo) (cnt', mm_F z, mm_F N, mm_F A, mem') := fun _ _ => mm_rel W fun _ => T'
    obtain ⟨c1, c2⟩ := gX.2.2 p hp rfl
    refine ⟨mm_in p12, ?_⟩
    rw [pk_cl p rfl (by omega), e8]
    by_cases hc : ∃ c, c < 64 ∧ mm_FC (mm_RQ N A (p / 6)) c ∧ mm_Q N A (mm_G N (6 * (p / 6)) c) p
    · obtain ⟨c, d1, d2, d3⟩ := hc
      have h6 := mm_RQ_n W hm c
      have ec := c1 c d1 d2 d3
      refine br_f ?_ ⟨mm_in p12, hY _ (br_t rfl ⟨by decide, my_work W hm fun cnt' mem' gY => ?_⟩)⟩
      · dsimp only
        rw [ec]
        intro x
        have q := nI_pos (n := mm_cn (mm_FC (mm_RQ N A (p / 6))) c) (by omega)
        rw [x] at q
        exact q (by decide)
      · refine my_pl W (p := p) rfl rfl hm gY hp ?_ ?_
        · intro d e1 e2 e3
          have h6' := mm_RQ_n W hm d
          exact br_t (nI_pos' (by omega)) ⟨(c1 d e1 e2 e3).symm, R _ _⟩
        · intro hno
          exact absurd d3 (hno c d1 d2)
    · have hno : ∀ c, c < 64 → mm_FC (mm_RQ N A (p / 6)) c → ¬ mm_Q N A (mm_G N (6 * (p / 6)) c) p := fun c d1 d2 d3 => hc ⟨c, d1, d2, d3⟩
      refine br_t (c2 hno) (hY _ (br_t rfl ⟨by decide, my_work W hm fun cnt' mem' gY => ?_⟩))
      refine my_pl W (p := p) rfl rfl hm gY hp ?_ ?_
      · intro d e1 e2 e3
        exact absurd e3 (hno d e1 e2)
      · intro _
        exact br_f (by decide) ⟨rfl, R _ _⟩
  · exact hX _ (br_f (by decide) (hY _ (br_f (by decide) ⟨rfl, mm_rel W T⟩)))
theorem i_vc_reset {k : Nat} {u : SX} {v : SY} (I : i_Rel k u v) (hk : k + 4 ≤ 2048) (v1 : Int32) : wpX_reset (fun r u' => wpY_reset (fun r' => r' = r ∧ i_Rel (k + 4) u' v) v v1) u v1 := by
  obtain ⟨z, N, A, fc, cu, ap, cl, le, qu, wo, cnt, mem, rfl, rfl, W, T⟩ := I
  rcases mm_mc v1 with ⟨m, hm, rfl⟩ | ⟨⟨n0, n1⟩, nb⟩
  · refine mx_reset W hm ?_ ?_
    · intro c qu' wo' c1 c2 ca cl
      refine my_reset W hm ?_ ?_
      · intro d d1 d2 da dl
        have e : d = c := by
          rcases Nat.lt_trichotomy d c with l | l | l
          · exact absurd da (cl d d1 l)
          · exact l
          · exact absurd ca (dl c c1 l)
        subst e
        exact ⟨rfl, mm_rel W T⟩
      · intro hno
        exact absurd ca (hno c c1 c2)
    · intro qu' wo' hno
      refine my_reset W hm ?_ ?_
      · intro d d1 d2 da _
        exact absurd da (hno d d1 d2)
      · intro _
        exact ⟨rfl, mm_rel W T⟩
  · unfold wpX_reset wpY_reset
    dsimp only
    exact mx_m0 n0 n1 (br_t rfl (my_bad1 nb (br_f (by decide) ⟨rfl, mm_rel W T⟩)))
end
