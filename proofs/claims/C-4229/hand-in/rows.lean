section
/-! rows of the kit (kit/rows), pasted -/
theorem pk_us {f : Nat → Int32} {k : Nat} {x : Int32} : upd f k x k = x := if_pos rfl
theorem pk_un {f : Nat → Int32} {k j : Nat} {x : Int32} (h : j ≠ k) : upd f k x j = f j := if_neg h
theorem pk_sub {a b : Nat} (h : b ≤ a) : nI a - nI b = nI (a - b) := by
  obtain ⟨c, rfl⟩ : ∃ c, a = c + b := ⟨a - b, by omega⟩
  rw [← nI_add, Int32.add_sub_cancel, Nat.add_sub_cancel]
theorem pk_m1 (n : Nat) : nI (n + 1) + (-1) = nI n := by
  rw [← nI_1, Int32.add_assoc, show (1 : Int32) + (-1) = 0 from rfl, Int32.add_zero]
theorem pk_mul (a b : Nat) : nI a * nI b = nI (a * b) := (Int32.ofNat_mul a b).symm
theorem pk_div {a d : Nat} (ha : a < 2 ^ 31) (h0 : 0 < d) (hd : d < 2 ^ 31) : nI a / nI d = nI (a / d) := by
  apply Int32.toInt_inj.mp
  rw [lg_idiv_nonneg (by rw [nI_toInt ha]; omega) (by rw [nI_toInt hd]; omega), nI_toInt ha, nI_toInt hd, nI_toInt (Nat.lt_of_le_of_lt (Nat.div_le_self a d) ha)]
  first | rfl | exact (Int.natCast_ediv _ _).symm
theorem pk_rem {a d : Nat} (ha : a < 2 ^ 31) (h0 : 0 < d) (hd : d < 2 ^ 31) : nI a - nI a / nI d * nI d = nI (a % d) := by
  rw [pk_div ha h0 hd, pk_mul, pk_sub (Nat.div_mul_le_self a d)]
  exact congrArg nI (by have := Nat.div_add_mod' a d; omega)
theorem pk_sub_toInt {a b : Nat} (ha : a < 2 ^ 30) (hb : b < 2 ^ 30) : (nI a - nI b).toInt = (a : Int) - b := by
  rw [Int32.toInt_sub, nI_toInt (by omega), nI_toInt (by omega)]
  exact Int.bmod_eq_of_le (by omega) (by omega)
theorem pk_sneg {a b : Nat} (hb : b < 2 ^ 30) (h : a < b) : nI a - nI b < 0 := by
  rw [Int32.lt_iff_toInt_lt, pk_sub_toInt (by omega) hb, show (0 : Int32).toInt = 0 from by decide]
  omega
theorem pk_ix (x : Int32) {n : Nat} (hn : n < 2 ^ 31) : x < 0 ∨ nI n ≤ x ∨ ∃ j : Nat, j < n ∧ x = nI j := by
  by_cases h : x < 0
  · exact Or.inl h
  · obtain ⟨j, hj, rfl⟩ := nI_of h
    by_cases h2 : j < n
    · exact Or.inr (Or.inr ⟨j, h2, rfl⟩)
    · exact Or.inr (Or.inl (nI_le (by omega) hj))
theorem pk_le {x y : Int32} {A B : Prop} (a b : Nat) (f : a ≤ b → A) (g : b < a → B) (hx : x = nI a := by rfl) (hy : y = nI b := by rfl) (ha : a < 2 ^ 31 := by omega) (hb : b < 2 ^ 31 := by omega) : (x ≤ y → A) ∧ (¬ x ≤ y → B) := by
  subst hx hy
  rw [nI_leI ha hb]
  exact ⟨f, fun z => g (by omega)⟩
theorem pk_lt {x y : Int32} {A B : Prop} (a b : Nat) (f : a < b → A) (g : b ≤ a → B) (hx : x = nI a := by rfl) (hy : y = nI b := by rfl) (ha : a < 2 ^ 31 := by omega) (hb : b < 2 ^ 31 := by omega) : (x < y → A) ∧ (¬ x < y → B) := by
  subst hx hy
  rw [nI_ltI ha hb]
  exact ⟨f, fun z => g (by omega)⟩
theorem pk_eq {x y : Int32} {A B : Prop} (a b : Nat) (f : a = b → A) (g : a ≠ b → B) (hx : x = nI a := by rfl) (hy : y = nI b := by rfl) (ha : a < 2 ^ 31 := by omega) (hb : b < 2 ^ 31 := by omega) : (x = y → A) ∧ (¬ x = y → B) := by
  subst hx hy
  rw [nI_eq ha hb]
  exact ⟨f, g⟩
theorem pk_in {x : Int32} (n N : Nat) (h : n < N) (hx : x = nI n := by rfl) (hN : N < 2 ^ 31 := by omega) : vp_in x N := by
  subst hx
  exact vp_in_nI h hN
theorem pk_cl {x : Int32} (n : Nat) (hx : x = nI n := by rfl) (h : n < 2 ^ 31 := by omega) : x.toNatClampNeg = n := by
  subst hx
  exact nI_clamp h
theorem pk_tn {n : Nat} (h : n < 2 ^ 32) : (nI n).toBitVec.toNat = n := Nat.mod_eq_of_lt h
theorem pk_and (x : Int32) {m : Int32} (k : Nat) (hm : m.toBitVec.toNat = 2 ^ k - 1) : x &&& m = nI (x.toBitVec.toNat % 2 ^ k) := by
  apply Int32.toBitVec_inj.mp
  apply BitVec.eq_of_toNat_eq
  rw [Int32.toBitVec_and, BitVec.toNat_and, hm, Nat.and_two_pow_sub_one_eq_mod]
  show _ = (BitVec.ofNat 32 _).toNat
  rw [BitVec.toNat_ofNat]
  exact (Nat.mod_eq_of_lt (Nat.lt_of_le_of_lt (Nat.mod_le _ _) x.toBitVec.isLt)).symm
theorem pk_andN {n : Nat} (h : n < 2 ^ 32) {m : Int32} (k : Nat) (hm : m.toBitVec.toNat = 2 ^ k - 1) : nI n &&& m = nI (n % 2 ^ k) := by
  rw [pk_and _ k hm, pk_tn h]
theorem pk_shr (a s : Int32) (k : Nat) (hs : (s.toBitVec.smod 32).toNat = k) : (a >>> s).toInt = a.toInt >>> k := by
  show (a.toBitVec.sshiftRight (s.toBitVec.smod 32).toNat).toInt = _
  rw [hs, BitVec.toInt_sshiftRight]
  rfl
theorem pk_shrN {n : Nat} (h : n < 2 ^ 31) (s : Int32) (k : Nat) (hs : (s.toBitVec.smod 32).toNat = k) : nI n >>> s = nI (n / 2 ^ k) := by
  apply Int32.toInt_inj.mp
  have h2 : n / 2 ^ k ≤ n := Nat.div_le_self _ _
  rw [pk_shr _ _ k hs, nI_toInt h, nI_toInt (by omega), Int.shiftRight_eq_div_pow]
  rfl
theorem pk_vs (z : Int32) : vp_nar .short z.toInt16.toInt32 = z.toInt16.toInt32 := by rw [vp_nar_short]; simp
theorem pk_loop {σ : Type} (W : Nat → Nat → σ → Prop) (I : Nat → σ → Prop) (e i0 : Nat) (s : σ) (hi : i0 ≤ e) (h0 : I i0 s) (hx : ∀ n s, I e s → W (n + 1) e s)
    (hs : ∀ n i s, i < e → I i s → (∀ s', I (i + 1) s' → W n (i + 1) s') → W (n + 1) i s) : ∃ n, W n i0 s :=
  ⟨e + 1, loop_i W I e hx hs (e + 1) i0 s hi (by omega) h0⟩
theorem nx_and (a b : Nat) : nI a &&& nI b = nI (a &&& b) := by
  apply Int32.toBitVec_inj.1
  show BitVec.ofNat 32 a &&& BitVec.ofNat 32 b = BitVec.ofNat 32 (a &&& b)
  apply BitVec.eq_of_getLsbD_eq
  intro i hi
  simp [hi]
theorem nx_xor (a b : Nat) : nI a ^^^ nI b = nI (a ^^^ b) := by
  apply Int32.toBitVec_inj.1
  show BitVec.ofNat 32 a ^^^ BitVec.ofNat 32 b = BitVec.ofNat 32 (a ^^^ b)
  apply BitVec.eq_of_getLsbD_eq
  intro i hi
  simp [hi]
end
section
/-! the field of 256: sums are exclusive or, products by doubling -/
theorem gf_xl (a b c : BitVec 8) : a ^^^ (b ^^^ c) = b ^^^ (a ^^^ c) := by
  rw [← BitVec.xor_assoc, BitVec.xor_comm a b, BitVec.xor_assoc]
theorem gf_xs (a b : BitVec 8) : a ^^^ (a ^^^ b) = b := by
  rw [← BitVec.xor_assoc, BitVec.xor_self, BitVec.zero_xor]
theorem gf_all {P : BitVec 8 → Prop} (h : ∀ n, n < 256 → P (BitVec.ofNat 8 n)) (a : BitVec 8) : P a := by
  have h1 := h a.toNat a.isLt
  rwa [BitVec.ofNat_toNat, BitVec.setWidth_eq] at h1
def gf_x2 (a : BitVec 8) : BitVec 8 := (a <<< 1) ^^^ (if a.msb = true then 29#8 else 0#8)
def gf_xn : Nat → BitVec 8 → BitVec 8
  | 0, a => a
  | n + 1, a => gf_x2 (gf_xn n a)
def gf_mk (a b : BitVec 8) : Nat → BitVec 8
  | 0 => 0#8
  | k + 1 => gf_mk a b k ^^^ (if b.getLsbD k = true then gf_xn k a else 0#8)
def gf_m (a b : BitVec 8) : BitVec 8 := gf_mk a b 8
def gf_pw (n : Nat) : BitVec 8 := gf_xn n 1#8
theorem gf_x2_xor (a b : BitVec 8) : gf_x2 (a ^^^ b) = gf_x2 a ^^^ gf_x2 b := by
  unfold gf_x2
  rw [BitVec.shiftLeft_xor_distrib, BitVec.msb_xor]
  generalize a <<< 1 = p
  generalize b <<< 1 = q
  cases a.msb <;> cases b.msb <;> simp [BitVec.xor_assoc, BitVec.xor_comm, gf_xl, gf_xs]
theorem gf_x2_0 : gf_x2 0#8 = 0#8 := by decide
theorem gf_xn_xor (n : Nat) (a b : BitVec 8) : gf_xn n (a ^^^ b) = gf_xn n a ^^^ gf_xn n b := by
  induction n with
  | zero => rfl
  | succ n ih => rw [gf_xn, ih, gf_x2_xor]; rfl
theorem gf_xn_0 (n : Nat) : gf_xn n 0#8 = 0#8 := by
  induction n with
  | zero => rfl
  | succ n ih => rw [gf_xn, ih, gf_x2_0]
theorem gf_xn_add (i j : Nat) (a : BitVec 8) : gf_xn (i + j) a = gf_xn i (gf_xn j a) := by
  induction i with
  | zero => rw [Nat.zero_add]; rfl
  | succ i ih => rw [Nat.succ_add, gf_xn, ih]; rfl
theorem gf_xn_x2 (n : Nat) (a : BitVec 8) : gf_xn n (gf_x2 a) = gf_x2 (gf_xn n a) := by
  induction n with
  | zero => rfl
  | succ n ih => rw [gf_xn, ih]; rfl
theorem gf_mk_l (a c b : BitVec 8) (k : Nat) : gf_mk (a ^^^ c) b k = gf_mk a b k ^^^ gf_mk c b k := by
  induction k with
  | zero => exact (BitVec.xor_zero (x := 0#8)).symm
  | succ k ih =>
    rw [gf_mk, gf_mk, gf_mk, ih, gf_xn_xor]
    cases b.getLsbD k <;> simp [BitVec.xor_assoc, BitVec.xor_comm, gf_xl]
theorem gf_mk_r (a b c : BitVec 8) (k : Nat) : gf_mk a (b ^^^ c) k = gf_mk a b k ^^^ gf_mk a c k := by
  induction k with
  | zero => exact (BitVec.xor_zero (x := 0#8)).symm
  | succ k ih =>
    rw [gf_mk, gf_mk, gf_mk, ih, BitVec.getLsbD_xor]
    generalize gf_xn k a = x
    generalize gf_mk a b k = p
    generalize gf_mk a c k = q
    cases b.getLsbD k <;> cases c.getLsbD k <;> simp [BitVec.xor_assoc, BitVec.xor_comm, gf_xl, gf_xs]
theorem gf_mk_x2 (a b : BitVec 8) (k : Nat) : gf_mk (gf_x2 a) b k = gf_x2 (gf_mk a b k) := by
  induction k with
  | zero => exact gf_x2_0.symm
  | succ k ih =>
    rw [gf_mk, gf_mk, ih, gf_x2_xor, gf_xn_x2]
    cases b.getLsbD k
    · rw [if_neg (by decide), if_neg (by decide), gf_x2_0]
    · rw [if_pos rfl, if_pos rfl]
theorem gf_xr (a b c : BitVec 8) : gf_m (a ^^^ b) c = gf_m a c ^^^ gf_m b c := gf_mk_l a b c 8
theorem gf_rx (a b c : BitVec 8) : gf_m a (b ^^^ c) = gf_m a b ^^^ gf_m a c := gf_mk_r a b c 8
theorem gf_0m (a : BitVec 8) : gf_m 0#8 a = 0#8 := by
  have h := gf_xr a a a
  rwa [BitVec.xor_self, BitVec.xor_self] at h
theorem gf_m0 (a : BitVec 8) : gf_m a 0#8 = 0#8 := by
  have h := gf_rx a a a
  rwa [BitVec.xor_self, BitVec.xor_self] at h
theorem gf_1m (a : BitVec 8) : gf_m 1#8 a = a := by
  revert a
  exact gf_all (P := fun a => gf_m 1#8 a = a) (by decide +kernel)
theorem gf_xm (i : Nat) (a b : BitVec 8) : gf_m (gf_xn i a) b = gf_xn i (gf_m a b) := by
  induction i with
  | zero => rfl
  | succ i ih =>
    show gf_mk (gf_x2 (gf_xn i a)) b 8 = gf_x2 (gf_xn i (gf_m a b))
    rw [gf_mk_x2, ← ih]
    rfl
theorem gf_pm (i : Nat) (b : BitVec 8) : gf_m (gf_pw i) b = gf_xn i b := by
  rw [gf_pw, gf_xm, gf_1m]
theorem gf_pp (i j : Nat) : gf_m (gf_pw i) (gf_pw j) = gf_pw (i + j) := by
  rw [gf_pm, gf_pw, gf_pw, gf_xn_add]
theorem gf_p0 : gf_pw 0 = 1#8 := rfl
theorem gf_ps (n : Nat) : gf_pw (n + 1) = gf_x2 (gf_pw n) := rfl
theorem gf_p255 : gf_pw 255 = 1#8 := by decide +kernel
theorem gf_pa (n : Nat) : gf_pw (n + 255) = gf_pw n := by
  rw [gf_pw, gf_xn_add]
  show gf_xn n (gf_pw 255) = _
  rw [gf_p255, gf_pw]
theorem gf_x2_i (a : BitVec 8) : gf_x2 a = 0#8 → a = 0#8 := by
  revert a
  exact gf_all (P := fun a => gf_x2 a = 0#8 → a = 0#8) (by decide +kernel)
theorem gf_xn_i (n : Nat) (a : BitVec 8) (h : gf_xn n a = 0#8) : a = 0#8 := by
  induction n with
  | zero => exact h
  | succ n ih => exact ih (gf_x2_i _ h)
theorem gf_pn0 (n : Nat) : gf_pw n ≠ 0#8 := by
  intro h
  exact absurd (gf_xn_i n _ h) (by decide)
theorem gf_xn_j (n : Nat) (a b : BitVec 8) (h : gf_xn n a = gf_xn n b) : a = b := by
  have h1 : gf_xn n (a ^^^ b) = 0#8 := by rw [gf_xn_xor, h, BitVec.xor_self]
  exact BitVec.xor_eq_zero_iff.mp (gf_xn_i n _ h1)
theorem gf_pn1 : ∀ d, d < 255 → 0 < d → gf_pw d ≠ 1#8 := by decide +kernel
theorem gf_pj' {i j : Nat} (h : i < j) (hj : j < 255) : gf_pw i ≠ gf_pw j := by
  intro e
  obtain ⟨d, rfl⟩ : ∃ d, j = i + d := ⟨j - i, by omega⟩
  rw [gf_pw, gf_pw, gf_xn_add] at e
  exact gf_pn1 d (by omega) (by omega) (gf_xn_j i _ _ e).symm
theorem gf_pj {i j : Nat} (hi : i < 255) (hj : j < 255) (e : gf_pw i = gf_pw j) : i = j := by
  rcases Nat.lt_trichotomy i j with h | h | h
  · exact absurd e (gf_pj' h hj)
  · exact h
  · exact absurd e.symm (gf_pj' h hi)
def gf_ls (a : BitVec 8) : Nat → BitVec 8 → Nat → Nat
  | 0, _, i => i
  | f + 1, x, i => if x = a then i else gf_ls a f (gf_x2 x) (i + 1)
def gf_lg (a : BitVec 8) : Nat := gf_ls a 255 1#8 0
theorem gf_lgT : ∀ n, n < 256 → BitVec.ofNat 8 n ≠ 0#8 → gf_lg (BitVec.ofNat 8 n) < 255 ∧ gf_pw (gf_lg (BitVec.ofNat 8 n)) = BitVec.ofNat 8 n := by decide +kernel
theorem gf_sur (a : BitVec 8) (h : a ≠ 0#8) : ∃ i, i < 255 ∧ a = gf_pw i := by
  have h1 := gf_all (P := fun a => a ≠ 0#8 → gf_lg a < 255 ∧ gf_pw (gf_lg a) = a) gf_lgT a h
  exact ⟨gf_lg a, h1.1, h1.2.symm⟩
theorem gf_zd {a b : BitVec 8} (h : gf_m a b = 0#8) : a = 0#8 ∨ b = 0#8 := by
  by_cases ha : a = 0#8
  · exact Or.inl ha
  · by_cases hb : b = 0#8
    · exact Or.inr hb
    · obtain ⟨i, _, rfl⟩ := gf_sur a ha
      obtain ⟨j, _, rfl⟩ := gf_sur b hb
      rw [gf_pp] at h
      exact absurd h (gf_pn0 _)
theorem gf_c (a b : BitVec 8) : gf_m a b = gf_m b a := by
  by_cases ha : a = 0#8
  · rw [ha, gf_0m, gf_m0]
  · by_cases hb : b = 0#8
    · rw [hb, gf_0m, gf_m0]
    · obtain ⟨i, _, rfl⟩ := gf_sur a ha
      obtain ⟨j, _, rfl⟩ := gf_sur b hb
      rw [gf_pp, gf_pp, Nat.add_comm]
theorem gf_a (a b c : BitVec 8) : gf_m (gf_m a b) c = gf_m a (gf_m b c) := by
  by_cases ha : a = 0#8
  · rw [ha, gf_0m, gf_0m, gf_0m]
  · by_cases hb : b = 0#8
    · rw [hb, gf_0m, gf_m0, gf_0m]
    · by_cases hc : c = 0#8
      · rw [hc, gf_m0, gf_m0, gf_m0]
      · obtain ⟨i, _, rfl⟩ := gf_sur a ha
        obtain ⟨j, _, rfl⟩ := gf_sur b hb
        obtain ⟨k, _, rfl⟩ := gf_sur c hc
        rw [gf_pp, gf_pp, gf_pp, gf_pp, Nat.add_assoc]
theorem gf_lc (a b c : BitVec 8) : gf_m a (gf_m b c) = gf_m b (gf_m a c) := by
  rw [← gf_a, gf_c a b, gf_a]
theorem gf_m1 (a : BitVec 8) : gf_m a 1#8 = a := by rw [gf_c, gf_1m]
theorem gf_cn {a b c : BitVec 8} (hc : c ≠ 0#8) (h : gf_m a c = gf_m b c) : a = b := by
  have h1 : gf_m (a ^^^ b) c = 0#8 := by rw [gf_xr, h, BitVec.xor_self]
  rcases gf_zd h1 with h2 | h2
  · exact BitVec.xor_eq_zero_iff.mp h2
  · exact absurd h2 hc
theorem gf_nz {a b : BitVec 8} (ha : a ≠ 0#8) (hb : b ≠ 0#8) : gf_m a b ≠ 0#8 := by
  intro h
  rcases gf_zd h with h | h
  · exact ha h
  · exact hb h
end
section
/-! a line of eight symbols: four of data, four of check; its check sums; what mending must do -/
def sc_g (i : Nat) : BitVec 8 := if i = 0 then 64#8 else if i = 1 then 120#8 else if i = 2 then 54#8 else 15#8
theorem sc_root : ∀ i, i < 4 → gf_m (gf_m (gf_m (gf_pw i) (gf_pw i)) (gf_pw i)) (gf_pw i) = gf_m (sc_g 3) (gf_m (gf_m (gf_pw i) (gf_pw i)) (gf_pw i)) ^^^ (gf_m (sc_g 2) (gf_m (gf_pw i) (gf_pw i)) ^^^ (gf_m (sc_g 1) (gf_pw i) ^^^ sc_g 0)) := by decide +kernel
def sc_rm (l : Nat → BitVec 8) : Nat → Nat → BitVec 8
  | 0, _ => 0#8
  | i + 1, j => if j < 4 then sc_rm l i (j + 1) ^^^ gf_m (l i ^^^ sc_rm l i 0) (sc_g (3 - j)) else 0#8
theorem sc_rm_s (l : Nat → BitVec 8) (i j : Nat) : sc_rm l (i + 1) j = if j < 4 then sc_rm l i (j + 1) ^^^ gf_m (l i ^^^ sc_rm l i 0) (sc_g (3 - j)) else 0#8 := rfl
theorem sc_rm4 (l : Nat → BitVec 8) (i : Nat) : sc_rm l i 4 = 0#8 := by
  cases i with
  | zero => rfl
  | succ i => rw [sc_rm_s, if_neg (by decide)]
theorem sc_rm_lin (A B : Nat → BitVec 8) (z : BitVec 8) (i : Nat) : ∀ j, sc_rm (fun r => gf_m (A r) z ^^^ B r) i j = gf_m (sc_rm A i j) z ^^^ sc_rm B i j := by
  induction i with
  | zero =>
    intro j
    show 0#8 = gf_m 0#8 z ^^^ 0#8
    rw [gf_0m, BitVec.xor_zero]
  | succ i ih =>
    intro j
    by_cases hj : j < 4
    · rw [sc_rm_s, sc_rm_s, sc_rm_s, if_pos hj, if_pos hj, if_pos hj, ih, ih]
      generalize sc_rm A i (j + 1) = a1
      generalize sc_rm B i (j + 1) = b1
      generalize sc_rm A i 0 = a0
      generalize sc_rm B i 0 = b0
      generalize sc_g (3 - j) = g
      simp only [gf_xr, gf_rx, gf_a, gf_c, gf_lc, BitVec.xor_assoc, BitVec.xor_comm, gf_xl, BitVec.xor_self, gf_xs, BitVec.xor_zero, BitVec.zero_xor, gf_0m, gf_m0]
    · rw [sc_rm_s, sc_rm_s, sc_rm_s, if_neg hj, if_neg hj, if_neg hj, gf_0m, BitVec.xor_zero]
def sc_cl (l : Nat → BitVec 8) (k : Nat) : BitVec 8 := if k < 4 then l k else sc_rm l 4 (k - 4)
theorem sc_cl_lin (A B : Nat → BitVec 8) (z : BitVec 8) (k : Nat) : sc_cl (fun r => gf_m (A r) z ^^^ B r) k = gf_m (sc_cl A k) z ^^^ sc_cl B k := by
  unfold sc_cl
  by_cases hk : k < 4
  · rw [if_pos hk, if_pos hk, if_pos hk]
  · rw [if_neg hk, if_neg hk, if_neg hk, sc_rm_lin]
theorem sc_cl_0 (k : Nat) : sc_cl (fun _ => 0#8) k = 0#8 := by
  have h := sc_cl_lin (fun _ => 0#8) (fun _ => 0#8) 1#8 k
  simp only [gf_m1, BitVec.xor_self] at h
  exact h
theorem sc_rm_congr {l m : Nat → BitVec 8} (h : ∀ j, j < 4 → l j = m j) : ∀ i, i ≤ 4 → ∀ j, sc_rm l i j = sc_rm m i j := by
  intro i
  induction i with
  | zero => intro _ _; rfl
  | succ i ih =>
    intro hi j
    rw [sc_rm_s, sc_rm_s, ih (by omega), ih (by omega), h i (by omega)]
theorem sc_cl_congr {l m : Nat → BitVec 8} (h : ∀ j, j < 4 → l j = m j) (k : Nat) : sc_cl l k = sc_cl m k := by
  unfold sc_cl
  by_cases hk : k < 4
  · rw [if_pos hk, if_pos hk, h k hk]
  · rw [if_neg hk, if_neg hk, sc_rm_congr h 4 (by omega)]
theorem sc_cl_lo (l : Nat → BitVec 8) {k : Nat} (h : k < 4) : sc_cl l k = l k := if_pos h
def sc_sh (l : Nat → BitVec 8) (i : Nat) : Nat → BitVec 8
  | 0 => 0#8
  | k + 1 => gf_m (sc_sh l i k) (gf_pw i) ^^^ l k
theorem sc_sh_s (l : Nat → BitVec 8) (i k : Nat) : sc_sh l i (k + 1) = gf_m (sc_sh l i k) (gf_pw i) ^^^ l k := rfl
theorem sc_sh_congr {l m : Nat → BitVec 8} (i n : Nat) (h : ∀ k, k < n → l k = m k) : sc_sh l i n = sc_sh m i n := by
  induction n with
  | zero => rfl
  | succ n ih => rw [sc_sh_s, sc_sh_s, ih (fun k hk => h k (by omega)), h n (by omega)]
theorem sc_sh_xor (a b : Nat → BitVec 8) (i n : Nat) : sc_sh (fun k => a k ^^^ b k) i n = sc_sh a i n ^^^ sc_sh b i n := by
  induction n with
  | zero => exact (BitVec.xor_zero).symm
  | succ n ih =>
    rw [sc_sh_s, sc_sh_s, sc_sh_s, ih, gf_xr]
    generalize gf_m (sc_sh a i n) (gf_pw i) = p
    generalize gf_m (sc_sh b i n) (gf_pw i) = q
    simp only [gf_xr, gf_rx, gf_a, gf_c, gf_lc, BitVec.xor_assoc, BitVec.xor_comm, gf_xl, BitVec.xor_self, gf_xs, BitVec.xor_zero, BitVec.zero_xor, gf_0m, gf_m0]
theorem sc_sh_cl (R : Nat → Nat → BitVec 8) (r i n : Nat) : sc_sh (fun c => sc_cl (fun q => R q c) r) i n = sc_cl (fun q => sc_sh (R q) i n) r := by
  induction n with
  | zero => exact (sc_cl_0 r).symm
  | succ n ih =>
    rw [sc_sh_s, ih]
    exact (sc_cl_lin (fun q => sc_sh (R q) i n) (fun q => R q n) (gf_pw i) r).symm
def sc_CW (l : Nat → BitVec 8) : Prop := ∀ i, i < 4 → sc_sh l i 8 = 0#8
theorem sc_ring1 (z D x r0 r1 r2 r3 g0 g1 g2 g3 : BitVec 8) (hz : gf_m (gf_m (gf_m z z) z) z = gf_m g3 (gf_m (gf_m z z) z) ^^^ (gf_m g2 (gf_m z z) ^^^ (gf_m g1 z ^^^ g0)))
    (ih : gf_m D (gf_m (gf_m (gf_m z z) z) z) = gf_m r0 (gf_m (gf_m z z) z) ^^^ (gf_m r1 (gf_m z z) ^^^ (gf_m r2 z ^^^ r3))) :
    gf_m (gf_m D z ^^^ x) (gf_m (gf_m (gf_m z z) z) z) = gf_m (r1 ^^^ gf_m (x ^^^ r0) g3) (gf_m (gf_m z z) z) ^^^ (gf_m (r2 ^^^ gf_m (x ^^^ r0) g2) (gf_m z z) ^^^ (gf_m (r3 ^^^ gf_m (x ^^^ r0) g1) z ^^^ (0#8 ^^^ gf_m (x ^^^ r0) g0))) := by
  have e1 : gf_m (r1 ^^^ gf_m (x ^^^ r0) g3) (gf_m (gf_m z z) z) ^^^ (gf_m (r2 ^^^ gf_m (x ^^^ r0) g2) (gf_m z z) ^^^ (gf_m (r3 ^^^ gf_m (x ^^^ r0) g1) z ^^^ (0#8 ^^^ gf_m (x ^^^ r0) g0))) = (gf_m r1 (gf_m (gf_m z z) z) ^^^ (gf_m r2 (gf_m z z) ^^^ gf_m r3 z)) ^^^ gf_m (x ^^^ r0) (gf_m g3 (gf_m (gf_m z z) z) ^^^ (gf_m g2 (gf_m z z) ^^^ (gf_m g1 z ^^^ g0))) := by
    simp only [gf_xr, gf_rx, gf_a, gf_c, gf_lc, BitVec.xor_assoc, BitVec.xor_comm, gf_xl, BitVec.xor_self, gf_xs, BitVec.xor_zero, BitVec.zero_xor, gf_0m, gf_m0]
  have e2 : gf_m (gf_m D z ^^^ x) (gf_m (gf_m (gf_m z z) z) z) = gf_m z (gf_m D (gf_m (gf_m (gf_m z z) z) z)) ^^^ gf_m x (gf_m (gf_m (gf_m z z) z) z) := by
    simp only [gf_xr, gf_rx, gf_a, gf_c, gf_lc, BitVec.xor_assoc, BitVec.xor_comm, gf_xl, BitVec.xor_self, gf_xs, BitVec.xor_zero, BitVec.zero_xor, gf_0m, gf_m0]
  rw [e1, ← hz, e2, ih]
  simp only [gf_xr, gf_rx, gf_a, gf_c, gf_lc, BitVec.xor_assoc, BitVec.xor_comm, gf_xl, BitVec.xor_self, gf_xs, BitVec.xor_zero, BitVec.zero_xor, gf_0m, gf_m0]
theorem sc_P (l : Nat → BitVec 8) (i : Nat) (hi : i < 4) (n : Nat) : gf_m (sc_sh l i n) (gf_m (gf_m (gf_m (gf_pw i) (gf_pw i)) (gf_pw i)) (gf_pw i)) = gf_m (sc_rm l n 0) (gf_m (gf_m (gf_pw i) (gf_pw i)) (gf_pw i)) ^^^ (gf_m (sc_rm l n 1) (gf_m (gf_pw i) (gf_pw i)) ^^^ (gf_m (sc_rm l n 2) (gf_pw i) ^^^ sc_rm l n 3)) := by
  induction n with
  | zero =>
    show gf_m 0#8 _ = gf_m 0#8 _ ^^^ (gf_m 0#8 _ ^^^ (gf_m 0#8 _ ^^^ 0#8))
    rw [gf_0m, gf_0m, gf_0m, gf_0m]
    decide
  | succ n ih =>
    rw [sc_sh_s, sc_rm_s, sc_rm_s, sc_rm_s, sc_rm_s, if_pos (by decide), if_pos (by decide), if_pos (by decide), if_pos (by decide)]
    have e := sc_ring1 (gf_pw i) (sc_sh l i n) (l n) (sc_rm l n 0) (sc_rm l n 1) (sc_rm l n 2) (sc_rm l n 3) (sc_g 0) (sc_g 1) (sc_g 2) (sc_g 3) (sc_root i hi) ih
    rw [e]
    show _ = _ ^^^ (_ ^^^ (_ ^^^ (sc_rm l n 4 ^^^ _)))
    rw [sc_rm4]
theorem sc_cw_cl (l : Nat → BitVec 8) : sc_CW (sc_cl l) := by
  intro i hi
  have h4 : sc_sh (sc_cl l) i 4 = sc_sh l i 4 := sc_sh_congr i 4 (fun k hk => sc_cl_lo l hk)
  have hP := sc_P l i hi 4
  rw [sc_sh_s, sc_sh_s, sc_sh_s, sc_sh_s, h4, show sc_cl l 4 = sc_rm l 4 0 from rfl, show sc_cl l 5 = sc_rm l 4 1 from rfl, show sc_cl l 6 = sc_rm l 4 2 from rfl, show sc_cl l 7 = sc_rm l 4 3 from rfl]
  generalize sc_rm l 4 0 = r0 at hP ⊢
  generalize sc_rm l 4 1 = r1 at hP ⊢
  generalize sc_rm l 4 2 = r2 at hP ⊢
  generalize sc_rm l 4 3 = r3 at hP ⊢
  generalize sc_sh l i 4 = D at hP ⊢
  generalize gf_pw i = z at hP ⊢
  have e : gf_m (gf_m (gf_m (gf_m D z ^^^ r0) z ^^^ r1) z ^^^ r2) z ^^^ r3 = gf_m D (gf_m (gf_m (gf_m z z) z) z) ^^^ (gf_m r0 (gf_m (gf_m z z) z) ^^^ (gf_m r1 (gf_m z z) ^^^ (gf_m r2 z ^^^ r3))) := by
    simp only [gf_xr, gf_rx, gf_a, gf_c, gf_lc, BitVec.xor_assoc, BitVec.xor_comm, gf_xl, BitVec.xor_self, gf_xs, BitVec.xor_zero, BitVec.zero_xor, gf_0m, gf_m0]
  rw [e, hP, BitVec.xor_self]
/-! errors -/
def sc_d (q : Nat) (v : BitVec 8) : Nat → BitVec 8 := fun k => if k = q then v else 0#8
theorem sc_sh_d (q : Nat) (v : BitVec 8) (i n : Nat) : sc_sh (sc_d q v) i n = if n ≤ q then 0#8 else gf_m v (gf_pw (i * (n - 1 - q))) := by
  induction n with
  | zero => rw [if_pos (Nat.zero_le _)]; rfl
  | succ n ih =>
    rw [sc_sh_s, ih]
    rcases Nat.lt_trichotomy n q with h | h | h
    · rw [if_pos (show n ≤ q by omega), if_pos (show n + 1 ≤ q by omega), gf_0m, show sc_d q v n = 0#8 from if_neg (by omega), BitVec.xor_zero]
    · subst h
      rw [if_pos (Nat.le_refl _), if_neg (show ¬ n + 1 ≤ n by omega), gf_0m, show sc_d n v n = v from if_pos rfl, BitVec.zero_xor, show n + 1 - 1 - n = 0 by omega, Nat.mul_zero, gf_p0, gf_m1]
    · rw [if_neg (show ¬ n ≤ q by omega), if_neg (show ¬ n + 1 ≤ q by omega), show sc_d q v n = 0#8 from if_neg (by omega), BitVec.xor_zero, gf_a, gf_pp, show n + 1 - 1 - q = (n - 1 - q) + 1 by omega, Nat.mul_succ]
theorem sc_two {c l : Nat → BitVec 8} (hc : sc_CW c) {k1 k2 : Nat} (h1 : k1 < 8) (h2 : k2 < 8) (hne : k1 ≠ k2) (he : ∀ k, k < 8 → k ≠ k1 → k ≠ k2 → l k = c k) (i : Nat) (hi : i < 4) :
    sc_sh l i 8 = gf_m (l k1 ^^^ c k1) (gf_pw (i * (7 - k1))) ^^^ gf_m (l k2 ^^^ c k2) (gf_pw (i * (7 - k2))) := by
  have e : sc_sh l i 8 = sc_sh (fun k => c k ^^^ (fun k => sc_d k1 (l k1 ^^^ c k1) k ^^^ sc_d k2 (l k2 ^^^ c k2) k) k) i 8 := by
    refine sc_sh_congr i 8 (fun k hk => ?_)
    show l k = c k ^^^ (sc_d k1 (l k1 ^^^ c k1) k ^^^ sc_d k2 (l k2 ^^^ c k2) k)
    by_cases e1 : k = k1
    · subst e1
      rw [show sc_d k (l k ^^^ c k) k = l k ^^^ c k from if_pos rfl, show sc_d k2 (l k2 ^^^ c k2) k = 0#8 from if_neg hne]
      simp only [gf_xr, gf_rx, gf_a, gf_c, gf_lc, BitVec.xor_assoc, BitVec.xor_comm, gf_xl, BitVec.xor_self, gf_xs, BitVec.xor_zero, BitVec.zero_xor, gf_0m, gf_m0]
    · by_cases e2 : k = k2
      · subst e2
        rw [show sc_d k (l k ^^^ c k) k = l k ^^^ c k from if_pos rfl, show sc_d k1 (l k1 ^^^ c k1) k = 0#8 from if_neg e1]
        simp only [gf_xr, gf_rx, gf_a, gf_c, gf_lc, BitVec.xor_assoc, BitVec.xor_comm, gf_xl, BitVec.xor_self, gf_xs, BitVec.xor_zero, BitVec.zero_xor, gf_0m, gf_m0]
      · rw [show sc_d k1 (l k1 ^^^ c k1) k = 0#8 from if_neg e1, show sc_d k2 (l k2 ^^^ c k2) k = 0#8 from if_neg e2, BitVec.xor_zero, BitVec.xor_zero, he k hk e1 e2]
  rw [e, sc_sh_xor, sc_sh_xor, hc i hi, BitVec.zero_xor]
  have a1 := sc_sh_d k1 (l k1 ^^^ c k1) i 8
  have a2 := sc_sh_d k2 (l k2 ^^^ c k2) i 8
  rw [if_neg (by omega)] at a1 a2
  rw [a1, a2]
theorem sc_nx {a b : BitVec 8} (h : a ≠ b) : a ^^^ b ≠ 0#8 := fun e => h (BitVec.xor_eq_zero_iff.mp e)
theorem sc_back (a b : BitVec 8) : a = b ^^^ (a ^^^ b) := by simp only [gf_xr, gf_rx, gf_a, gf_c, gf_lc, BitVec.xor_assoc, BitVec.xor_comm, gf_xl, BitVec.xor_self, gf_xs, BitVec.xor_zero, BitVec.zero_xor, gf_0m, gf_m0]
def sc_one (l c : Nat → BitVec 8) : Prop := ∃ p v, p < 8 ∧ v ≠ 0#8 ∧ l (7 - p) = c (7 - p) ^^^ v ∧ (∀ k, k < 8 → k ≠ 7 - p → l k = c k) ∧ ∀ i, i < 4 → sc_sh l i 8 = gf_m v (gf_pw (i * p))
def sc_duo (l c : Nat → BitVec 8) : Prop := ∃ p q v w, p < q ∧ q < 8 ∧ v ≠ 0#8 ∧ w ≠ 0#8 ∧ l (7 - p) = c (7 - p) ^^^ v ∧ l (7 - q) = c (7 - q) ^^^ w ∧ (∀ k, k < 8 → k ≠ 7 - p → k ≠ 7 - q → l k = c k) ∧ ∀ i, i < 4 → sc_sh l i 8 = gf_m v (gf_pw (i * p)) ^^^ gf_m w (gf_pw (i * q))
theorem sc_c1 {l c : Nat → BitVec 8} (hc : sc_CW c) {k : Nat} (hk : k < 8) (he : ∀ j, j < 8 → j ≠ k → l j = c j) : (∀ j, j < 8 → l j = c j) ∨ sc_one l c := by
  by_cases h : l k = c k
  · refine Or.inl (fun j hj => ?_)
    by_cases e : j = k
    · rw [e, h]
    · exact he j hj e
  · refine Or.inr ⟨7 - k, l k ^^^ c k, by omega, sc_nx h, ?_, ?_, ?_⟩
    · rw [show 7 - (7 - k) = k by omega]
      exact sc_back _ _
    · rw [show 7 - (7 - k) = k by omega]
      exact he
    · intro i hi
      have h2 : (k + 1) % 8 < 8 := Nat.mod_lt _ (by decide)
      have h3 : k ≠ (k + 1) % 8 := by omega
      rw [sc_two hc hk h2 h3 (fun j hj e _ => he j hj e) i hi, he _ h2 h3.symm, BitVec.xor_self, gf_0m, BitVec.xor_zero]
theorem sc_c2 {l c : Nat → BitVec 8} (hc : sc_CW c) {a b : Nat} (hab : a < b) (hb : b < 8) (ha' : l a ≠ c a) (hb' : l b ≠ c b) (he : ∀ j, j < 8 → j ≠ a → j ≠ b → l j = c j) : sc_duo l c := by
  refine ⟨7 - b, 7 - a, l b ^^^ c b, l a ^^^ c a, by omega, by omega, sc_nx hb', sc_nx ha', ?_, ?_, ?_, ?_⟩
  · rw [show 7 - (7 - b) = b by omega]
    exact sc_back _ _
  · rw [show 7 - (7 - a) = a by omega]
    exact sc_back _ _
  · rw [show 7 - (7 - b) = b by omega, show 7 - (7 - a) = a by omega]
    exact fun k hk e1 e2 => he k hk e2 e1
  · intro i hi
    exact sc_two hc hb (by omega) (by omega) (fun j hj e1 e2 => he j hj e2 e1) i hi
theorem sc_cases {l c : Nat → BitVec 8} (hc : sc_CW c) (k1 k2 : Nat) (he : ∀ k, k < 8 → k ≠ k1 → k ≠ k2 → l k = c k) : (∀ k, k < 8 → l k = c k) ∨ sc_one l c ∨ sc_duo l c := by
  have ha : k1 % 8 < 8 := Nat.mod_lt _ (by decide)
  have hb : k2 % 8 < 8 := Nat.mod_lt _ (by decide)
  have he' : ∀ k, k < 8 → k ≠ k1 % 8 → k ≠ k2 % 8 → l k = c k := fun k hk e1 e2 => he k hk (by omega) (by omega)
  generalize k1 % 8 = a at ha he'
  generalize k2 % 8 = b at hb he'
  by_cases h1 : l a = c a
  · rcases sc_c1 (l := l) hc hb (fun j hj e => by
      by_cases e1 : j = a
      · rw [e1, h1]
      · exact he' j hj e1 e) with h | h
    · exact Or.inl h
    · exact Or.inr (Or.inl h)
  · by_cases h2 : l b = c b
    · rcases sc_c1 (l := l) hc ha (fun j hj e => by
        by_cases e1 : j = b
        · rw [e1, h2]
        · exact he' j hj e e1) with h | h
      · exact Or.inl h
      · exact Or.inr (Or.inl h)
    · rcases Nat.lt_trichotomy a b with h | h | h
      · exact Or.inr (Or.inr (sc_c2 hc h hb h1 h2 he'))
      · subst h
        rcases sc_c1 hc ha (fun j hj e => he' j hj e e) with h | h
        · exact Or.inl h
        · exact Or.inr (Or.inl h)
      · exact Or.inr (Or.inr (sc_c2 hc h ha h2 h1 (fun j hj e1 e2 => he' j hj e2 e1)))
end
section
/-! what mending a line gives, by its ends -/
def sc_MD (l m : Nat → BitVec 8) : Prop := ∀ c, sc_CW c → ∀ k1 k2, (∀ k, k < 8 → k ≠ k1 → k ≠ k2 → l k = c k) → ∀ k, k < 8 → m k = c k
def sc_det (l : Nat → BitVec 8) : BitVec 8 := gf_m (sc_sh l 0 8) (sc_sh l 2 8) ^^^ gf_m (sc_sh l 1 8) (sc_sh l 1 8)
theorem sc_p2 (p : Nat) : gf_pw (2 * p) = gf_m (gf_pw p) (gf_pw p) := by
  rw [gf_pp, Nat.two_mul]
theorem sc_p3 (p : Nat) : gf_pw (3 * p) = gf_m (gf_pw p) (gf_m (gf_pw p) (gf_pw p)) := by
  rw [gf_pp, gf_pp, show 3 * p = p + (p + p) by omega]
theorem sc_B {l : Nat → BitVec 8} {v : BitVec 8} {p : Nat} (h : ∀ i, i < 4 → sc_sh l i 8 = gf_m v (gf_pw (i * p))) :
    sc_sh l 0 8 = v ∧ sc_sh l 1 8 = gf_m v (gf_pw p) ∧ sc_sh l 2 8 = gf_m v (gf_m (gf_pw p) (gf_pw p)) ∧ sc_sh l 3 8 = gf_m v (gf_m (gf_pw p) (gf_m (gf_pw p) (gf_pw p))) := by
  refine ⟨?_, ?_, ?_, ?_⟩
  · rw [h 0 (by decide), Nat.zero_mul, gf_p0, gf_m1]
  · rw [h 1 (by decide), Nat.one_mul]
  · rw [h 2 (by decide), sc_p2]
  · rw [h 3 (by decide), sc_p3]
theorem sc_C {l : Nat → BitVec 8} {v w : BitVec 8} {p q : Nat} (h : ∀ i, i < 4 → sc_sh l i 8 = gf_m v (gf_pw (i * p)) ^^^ gf_m w (gf_pw (i * q))) :
    sc_sh l 0 8 = v ^^^ w ∧ sc_sh l 1 8 = gf_m v (gf_pw p) ^^^ gf_m w (gf_pw q) ∧ sc_sh l 2 8 = gf_m v (gf_m (gf_pw p) (gf_pw p)) ^^^ gf_m w (gf_m (gf_pw q) (gf_pw q)) ∧ sc_sh l 3 8 = gf_m v (gf_m (gf_pw p) (gf_m (gf_pw p) (gf_pw p))) ^^^ gf_m w (gf_m (gf_pw q) (gf_m (gf_pw q) (gf_pw q))) := by
  refine ⟨?_, ?_, ?_, ?_⟩
  · rw [h 0 (by decide), Nat.zero_mul, Nat.zero_mul, gf_p0, gf_m1, gf_m1]
  · rw [h 1 (by decide), Nat.one_mul, Nat.one_mul]
  · rw [h 2 (by decide), sc_p2, sc_p2]
  · rw [h 3 (by decide), sc_p3, sc_p3]
theorem sc_A0 {l c : Nat → BitVec 8} (hc : sc_CW c) (h : ∀ k, k < 8 → l k = c k) : ∀ i, i < 4 → sc_sh l i 8 = 0#8 := by
  intro i hi
  rw [sc_sh_congr i 8 h, hc i hi]
theorem sc_A_det {l c : Nat → BitVec 8} (hc : sc_CW c) (h : ∀ k, k < 8 → l k = c k) : sc_det l = 0#8 := by
  unfold sc_det
  rw [sc_A0 hc h 0 (by decide), sc_A0 hc h 1 (by decide), gf_0m, gf_0m, BitVec.xor_self]
theorem sc_B_det {l c : Nat → BitVec 8} (h : sc_one l c) : sc_det l = 0#8 := by
  obtain ⟨p, v, _, _, _, _, hS⟩ := h
  obtain ⟨h0, h1, h2, _⟩ := sc_B hS
  unfold sc_det
  rw [h0, h1, h2]
  generalize gf_pw p = X
  simp only [gf_xr, gf_rx, gf_a, gf_c, gf_lc, BitVec.xor_assoc, BitVec.xor_comm, gf_xl, BitVec.xor_self, gf_xs, BitVec.xor_zero, BitVec.zero_xor, gf_0m, gf_m0]
theorem sc_dets (v w X Y : BitVec 8) : gf_m (v ^^^ w) (gf_m v (gf_m X X) ^^^ gf_m w (gf_m Y Y)) ^^^ gf_m (gf_m v X ^^^ gf_m w Y) (gf_m v X ^^^ gf_m w Y) = gf_m (gf_m v w) (gf_m (X ^^^ Y) (X ^^^ Y)) := by
  simp only [gf_xr, gf_rx, gf_a, gf_c, gf_lc, BitVec.xor_assoc, BitVec.xor_comm, gf_xl, BitVec.xor_self, gf_xs, BitVec.xor_zero, BitVec.zero_xor, gf_0m, gf_m0]
theorem sc_pne {p q : Nat} (h : p < q) (hq : q < 8) : gf_pw p ^^^ gf_pw q ≠ 0#8 := by
  apply sc_nx
  intro e
  have := gf_pj (by omega) (by omega) e
  omega
theorem sc_C_det {l c : Nat → BitVec 8} (h : sc_duo l c) : sc_det l ≠ 0#8 := by
  obtain ⟨p, q, v, w, hpq, hq, hv, hw, _, _, _, hS⟩ := h
  obtain ⟨h0, h1, h2, _⟩ := sc_C hS
  unfold sc_det
  rw [h0, h1, h2, sc_dets]
  exact gf_nz (gf_nz hv hw) (gf_nz (sc_pne hpq hq) (sc_pne hpq hq))
theorem sc_md_0 {l : Nat → BitVec 8} (h : ∀ i, i < 4 → sc_sh l i 8 = 0#8) : sc_MD l l := by
  intro c hc k1 k2 he
  rcases sc_cases hc k1 k2 he with hA | hB | hC
  · exact hA
  · exfalso
    obtain ⟨p, v, _, hv, _, _, hS⟩ := hB
    exact hv ((sc_B hS).1.symm.trans (h 0 (by decide)))
  · exfalso
    apply sc_C_det hC
    unfold sc_det
    rw [h 0 (by decide), h 1 (by decide), gf_0m, gf_0m, BitVec.xor_self]
theorem sc_md_1 {l : Nat → BitVec 8} (hn : ¬ ∀ i, i < 4 → sc_sh l i 8 = 0#8) (hd : sc_det l = 0#8)
    (hf : ¬ (sc_sh l 0 8 ≠ 0#8 ∧ sc_sh l 1 8 ≠ 0#8 ∧ gf_m (sc_sh l 2 8) (sc_sh l 2 8) = gf_m (sc_sh l 1 8) (sc_sh l 3 8))) : sc_MD l l := by
  intro c hc k1 k2 he
  rcases sc_cases hc k1 k2 he with hA | hB | hC
  · exact hA
  · exfalso
    obtain ⟨p, v, _, hv, _, _, hS⟩ := hB
    obtain ⟨h0, h1, h2, h3⟩ := sc_B hS
    apply hf
    rw [h0, h1, h2, h3]
    refine ⟨hv, gf_nz hv (gf_pn0 p), ?_⟩
    generalize gf_pw p = X
    simp only [gf_xr, gf_rx, gf_a, gf_c, gf_lc, BitVec.xor_assoc, BitVec.xor_comm, gf_xl, BitVec.xor_self, gf_xs, BitVec.xor_zero, BitVec.zero_xor, gf_0m, gf_m0]
  · exact absurd hd (sc_C_det hC)
theorem sc_md_p {l c : Nat → BitVec 8} {x : BitVec 8} (h0 : sc_sh l 0 8 ≠ 0#8) (hx : gf_m x (sc_sh l 0 8) = sc_sh l 1 8) {p : Nat} {v : BitVec 8} (hS : ∀ i, i < 4 → sc_sh l i 8 = gf_m v (gf_pw (i * p))) : x = gf_pw p := by
  obtain ⟨e0, e1, _, _⟩ := sc_B hS
  rw [e1, e0, gf_c v] at hx
  rw [e0] at h0
  exact gf_cn h0 hx
theorem sc_md_2 {l : Nat → BitVec 8} {x : BitVec 8} {t : Nat} (hd : sc_det l = 0#8) (h0 : sc_sh l 0 8 ≠ 0#8) (hx : gf_m x (sc_sh l 0 8) = sc_sh l 1 8) (ht : t < 255) (e : x = gf_pw t) (h8 : 8 ≤ t) : sc_MD l l := by
  intro c hc k1 k2 he
  rcases sc_cases hc k1 k2 he with hA | hB | hC
  · exact hA
  · exfalso
    obtain ⟨p, v, hp, hv, _, _, hS⟩ := hB
    have e2 := sc_md_p (c := c) h0 hx hS
    rw [e] at e2
    have := gf_pj ht (by omega) e2
    omega
  · exact absurd hd (sc_C_det hC)
theorem sc_md_3 {l m : Nat → BitVec 8} {x : BitVec 8} {t : Nat} (hd : sc_det l = 0#8) (h0 : sc_sh l 0 8 ≠ 0#8) (hx : gf_m x (sc_sh l 0 8) = sc_sh l 1 8) (e : x = gf_pw t) (h8 : t < 8)
    (hm : ∀ k, k < 8 → k ≠ 7 - t → m k = l k) (hm2 : m (7 - t) = l (7 - t) ^^^ sc_sh l 0 8) : sc_MD l m := by
  intro c hc k1 k2 he
  rcases sc_cases hc k1 k2 he with hA | hB | hC
  · exact absurd (sc_A0 hc hA 0 (by decide)) h0
  · obtain ⟨p, v, hp, hv, hv2, hoth, hS⟩ := hB
    have e2 := sc_md_p (c := c) h0 hx hS
    rw [e] at e2
    have e3 := gf_pj (by omega) (by omega) e2
    subst e3
    intro k hk
    by_cases ek : k = 7 - t
    · rw [ek, hm2, hv2, (sc_B hS).1, BitVec.xor_assoc, BitVec.xor_self, BitVec.xor_zero]
    · rw [hm k hk ek, hoth k hk ek]
  · exact absurd hd (sc_C_det hC)
theorem sc_r_pr (v w X Y : BitVec 8) : gf_m (gf_m v (gf_m X X) ^^^ gf_m w (gf_m Y Y)) (gf_m v (gf_m X X) ^^^ gf_m w (gf_m Y Y)) ^^^ gf_m (gf_m v X ^^^ gf_m w Y) (gf_m v (gf_m X (gf_m X X)) ^^^ gf_m w (gf_m Y (gf_m Y Y))) = gf_m (gf_m X Y) (gf_m (gf_m v w) (gf_m (X ^^^ Y) (X ^^^ Y))) := by
  simp only [gf_xr, gf_rx, gf_a, gf_c, gf_lc, BitVec.xor_assoc, BitVec.xor_comm, gf_xl, BitVec.xor_self, gf_xs, BitVec.xor_zero, BitVec.zero_xor, gf_0m, gf_m0]
theorem sc_r_sm (v w X Y : BitVec 8) : gf_m (v ^^^ w) (gf_m v (gf_m X (gf_m X X)) ^^^ gf_m w (gf_m Y (gf_m Y Y))) ^^^ gf_m (gf_m v X ^^^ gf_m w Y) (gf_m v (gf_m X X) ^^^ gf_m w (gf_m Y Y)) = gf_m (X ^^^ Y) (gf_m (gf_m v w) (gf_m (X ^^^ Y) (X ^^^ Y))) := by
  simp only [gf_xr, gf_rx, gf_a, gf_c, gf_lc, BitVec.xor_assoc, BitVec.xor_comm, gf_xl, BitVec.xor_self, gf_xs, BitVec.xor_zero, BitVec.zero_xor, gf_0m, gf_m0]
theorem sc_r_z (x X Y : BitVec 8) : (gf_m x x ^^^ gf_m (X ^^^ Y) x) ^^^ gf_m X Y = gf_m (x ^^^ X) (x ^^^ Y) := by
  simp only [gf_xr, gf_rx, gf_a, gf_c, gf_lc, BitVec.xor_assoc, BitVec.xor_comm, gf_xl, BitVec.xor_self, gf_xs, BitVec.xor_zero, BitVec.zero_xor, gf_0m, gf_m0]
theorem sc_r_w (v w X Y : BitVec 8) : (gf_m v X ^^^ gf_m w Y) ^^^ gf_m (v ^^^ w) Y = gf_m v (X ^^^ Y) := by
  simp only [gf_xr, gf_rx, gf_a, gf_c, gf_lc, BitVec.xor_assoc, BitVec.xor_comm, gf_xl, BitVec.xor_self, gf_xs, BitVec.xor_zero, BitVec.zero_xor, gf_0m, gf_m0]
def sc_Z (sm pr : BitVec 8) (a : Nat) : Prop := (gf_m (gf_pw a) (gf_pw a) ^^^ gf_m sm (gf_pw a)) ^^^ pr = 0#8
theorem sc_zeros {l c : Nat → BitVec 8} {sm pr : BitVec 8} (hpr : gf_m pr (sc_det l) = gf_m (sc_sh l 2 8) (sc_sh l 2 8) ^^^ gf_m (sc_sh l 1 8) (sc_sh l 3 8)) (hsm : gf_m sm (sc_det l) = gf_m (sc_sh l 0 8) (sc_sh l 3 8) ^^^ gf_m (sc_sh l 1 8) (sc_sh l 2 8))
    {p q : Nat} {v w : BitVec 8} (hd : sc_det l ≠ 0#8) (hp : p < 8) (hq : q < 8) (hS : ∀ i, i < 4 → sc_sh l i 8 = gf_m v (gf_pw (i * p)) ^^^ gf_m w (gf_pw (i * q))) (a : Nat) (ha : a < 8) : sc_Z sm pr a ↔ a = p ∨ a = q := by
  obtain ⟨h0, h1, h2, h3⟩ := sc_C hS
  have hdet : sc_det l = gf_m (gf_m v w) (gf_m (gf_pw p ^^^ gf_pw q) (gf_pw p ^^^ gf_pw q)) := by
    unfold sc_det
    rw [h0, h1, h2, sc_dets]
  have e1 : pr = gf_m (gf_pw p) (gf_pw q) := by
    apply gf_cn hd
    rw [hpr, h1, h2, h3, hdet, sc_r_pr]
  have e2 : sm = gf_pw p ^^^ gf_pw q := by
    apply gf_cn hd
    rw [hsm, h0, h1, h2, h3, hdet, sc_r_sm]
  unfold sc_Z
  rw [e1, e2, sc_r_z]
  constructor
  · intro h
    rcases gf_zd h with h | h
    · exact Or.inl (gf_pj (by omega) (by omega) (BitVec.xor_eq_zero_iff.mp h))
    · exact Or.inr (gf_pj (by omega) (by omega) (BitVec.xor_eq_zero_iff.mp h))
  · intro h
    rcases h with h | h
    · rw [h, BitVec.xor_self, gf_0m]
    · rw [h, BitVec.xor_self, gf_m0]
theorem sc_md_4 {l : Nat → BitVec 8} {sm pr : BitVec 8} (hd : sc_det l ≠ 0#8) (hpr : gf_m pr (sc_det l) = gf_m (sc_sh l 2 8) (sc_sh l 2 8) ^^^ gf_m (sc_sh l 1 8) (sc_sh l 3 8)) (hsm : gf_m sm (sc_det l) = gf_m (sc_sh l 0 8) (sc_sh l 3 8) ^^^ gf_m (sc_sh l 1 8) (sc_sh l 2 8))
    (hz : ¬ ∃ a b, a < b ∧ b < 8 ∧ sc_Z sm pr a ∧ sc_Z sm pr b) : sc_MD l l := by
  intro c hc k1 k2 he
  rcases sc_cases hc k1 k2 he with hA | hB | hC
  · exact hA
  · exact absurd (sc_B_det hB) hd
  · exfalso
    obtain ⟨p, q, v, w, hpq, hq, hv, hw, _, _, _, hS⟩ := hC
    have hzz := sc_zeros (c := c) hpr hsm hd (by omega) hq hS
    exact hz ⟨p, q, hpq, hq, (hzz p (by omega)).mpr (Or.inl rfl), (hzz q hq).mpr (Or.inr rfl)⟩
theorem sc_md_5 {l m : Nat → BitVec 8} {sm pr wr : BitVec 8} {f g : Nat} (hd : sc_det l ≠ 0#8) (hpr : gf_m pr (sc_det l) = gf_m (sc_sh l 2 8) (sc_sh l 2 8) ^^^ gf_m (sc_sh l 1 8) (sc_sh l 3 8)) (hsm : gf_m sm (sc_det l) = gf_m (sc_sh l 0 8) (sc_sh l 3 8) ^^^ gf_m (sc_sh l 1 8) (sc_sh l 2 8))
    (hfg : f < g) (hg : g < 8) (zf : sc_Z sm pr f) (zg : sc_Z sm pr g) (hw : gf_m wr (gf_pw f ^^^ gf_pw g) = sc_sh l 1 8 ^^^ gf_m (sc_sh l 0 8) (gf_pw g))
    (hm : ∀ k, k < 8 → k ≠ 7 - f → k ≠ 7 - g → m k = l k) (hmf : m (7 - f) = l (7 - f) ^^^ wr) (hmg : m (7 - g) = l (7 - g) ^^^ (sc_sh l 0 8 ^^^ wr)) : sc_MD l m := by
  intro c hc k1 k2 he
  rcases sc_cases hc k1 k2 he with hA | hB | hC
  · exact absurd (sc_A_det hc hA) hd
  · exact absurd (sc_B_det hB) hd
  · obtain ⟨p, q, v, w, hpq, hq, hv, hw', hvp, hwq, hoth, hS⟩ := hC
    have hzz := sc_zeros (c := c) hpr hsm hd (by omega) hq hS
    have z1 := (hzz f (by omega)).mp zf
    have z2 := (hzz g hg).mp zg
    have ef : f = p := by omega
    have eg : g = q := by omega
    subst ef eg
    obtain ⟨h0, h1, _, _⟩ := sc_C hS
    rw [h0, h1, sc_r_w] at hw
    have ew : wr = v := gf_cn (sc_pne hfg hg) hw
    subst ew
    intro k hk
    by_cases ek : k = 7 - f
    · rw [ek, hmf, hvp, BitVec.xor_assoc, BitVec.xor_self, BitVec.xor_zero]
    · by_cases ek2 : k = 7 - g
      · rw [ek2, hmg, hwq, h0]
        simp only [gf_xr, gf_rx, gf_a, gf_c, gf_lc, BitVec.xor_assoc, BitVec.xor_comm, gf_xl, BitVec.xor_self, gf_xs, BitVec.xor_zero, BitVec.zero_xor, gf_0m, gf_m0]
      · rw [hm k hk ek ek2, hoth k hk ek ek2]
end
section
/-! counting, and the square -/
def sc_sum (f : Nat → Nat) : Nat → Nat
  | 0 => 0
  | n + 1 => sc_sum f n + f n
theorem sc_sum_s (f : Nat → Nat) (n : Nat) : sc_sum f (n + 1) = sc_sum f n + f n := rfl
theorem sc_sum_congr {f g : Nat → Nat} (n : Nat) (h : ∀ k, k < n → f k = g k) : sc_sum f n = sc_sum g n := by
  induction n with
  | zero => rfl
  | succ n ih => rw [sc_sum_s, sc_sum_s, ih (fun k hk => h k (by omega)), h n (by omega)]
theorem sc_sum_le {f g : Nat → Nat} (n : Nat) (h : ∀ k, k < n → f k ≤ g k) : sc_sum f n ≤ sc_sum g n := by
  induction n with
  | zero => exact Nat.le_refl _
  | succ n ih =>
    rw [sc_sum_s, sc_sum_s]
    exact Nat.add_le_add (ih (fun k hk => h k (by omega))) (h n (by omega))
theorem sc_sum_b {f : Nat → Nat} (n : Nat) (h : ∀ k, k < n → f k ≤ 1) : sc_sum f n ≤ n := by
  induction n with
  | zero => exact Nat.le_refl _
  | succ n ih =>
    rw [sc_sum_s]
    exact Nat.add_le_add (ih (fun k hk => h k (by omega))) (h n (by omega))
theorem sc_sum_0 {f : Nat → Nat} (n : Nat) (h : ∀ k, k < n → f k = 0) : sc_sum f n = 0 := by
  induction n with
  | zero => rfl
  | succ n ih => rw [sc_sum_s, ih (fun k hk => h k (by omega)), h n (by omega)]
theorem sc_sum_add (f : Nat → Nat) (n m : Nat) : sc_sum f (n + m) = sc_sum f n + sc_sum (fun k => f (n + k)) m := by
  induction m with
  | zero => rfl
  | succ m ih => rw [← Nat.add_assoc, sc_sum_s, ih, sc_sum_s, Nat.add_assoc]
theorem sc_sum_mul (f : Nat → Nat) (m : Nat) : sc_sum f (8 * m) = sc_sum (fun r => sc_sum (fun c => f (8 * r + c)) 8) m := by
  induction m with
  | zero => rfl
  | succ m ih =>
    rw [Nat.mul_succ, sc_sum_add, ih]
    rfl
theorem sc_three {f : Nat → Nat} {t : Nat} (n : Nat) : (∀ r, r < n → f r < t) ∨ (t ≤ sc_sum f n ∧ ∃ a, ∀ r, r < n → r ≠ a → f r < t) ∨ (2 * t ≤ sc_sum f n ∧ ∃ a b, ∀ r, r < n → r ≠ a → r ≠ b → f r < t) ∨ 3 * t ≤ sc_sum f n := by
  induction n with
  | zero => exact Or.inl (fun r hr => absurd hr (by omega))
  | succ n ih =>
    rw [sc_sum_s]
    by_cases h : f n < t
    · rcases ih with h1 | ⟨h1, a, h2⟩ | ⟨h1, a, b, h2⟩ | h1
      · refine Or.inl (fun r hr => ?_)
        by_cases e : r = n
        · rw [e]; exact h
        · exact h1 r (by omega)
      · refine Or.inr (Or.inl ⟨by omega, a, fun r hr ha => ?_⟩)
        by_cases e : r = n
        · rw [e]; exact h
        · exact h2 r (by omega) ha
      · refine Or.inr (Or.inr (Or.inl ⟨by omega, a, b, fun r hr ha hb => ?_⟩))
        by_cases e : r = n
        · rw [e]; exact h
        · exact h2 r (by omega) ha hb
      · exact Or.inr (Or.inr (Or.inr (by omega)))
    · rcases ih with h1 | ⟨h1, a, h2⟩ | ⟨h1, a, b, h2⟩ | h1
      · exact Or.inr (Or.inl ⟨by omega, n, fun r hr e => h1 r (by omega)⟩)
      · exact Or.inr (Or.inr (Or.inl ⟨by omega, a, n, fun r hr ha e => h2 r (by omega) ha⟩))
      · exact Or.inr (Or.inr (Or.inr (by omega)))
      · exact Or.inr (Or.inr (Or.inr (by omega)))
theorem sc_most {f : Nat → Nat} {t : Nat} (n : Nat) (h : sc_sum f n < 3 * t) : ∃ a b, ∀ r, r < n → r ≠ a → r ≠ b → f r < t := by
  rcases sc_three (f := f) (t := t) n with h1 | ⟨_, a, h2⟩ | ⟨_, a, b, h2⟩ | h1
  · exact ⟨0, 0, fun r hr _ _ => h1 r hr⟩
  · exact ⟨a, a, fun r hr ha _ => h2 r hr ha⟩
  · exact ⟨a, b, h2⟩
  · omega
def sc_ne (g c : Nat → BitVec 8) (p : Nat) : Nat := if g p = c p then 0 else 1
theorem sc_ne_0 {g c : Nat → BitVec 8} {p : Nat} (h : sc_ne g c p < 1) : g p = c p := by
  by_cases e : g p = c p
  · exact e
  · rw [sc_ne, if_neg e] at h
    omega
theorem sc_square {g g1 g2 c : Nat → BitVec 8} (hr : ∀ r, r < 8 → sc_CW (fun k => c (8 * r + k))) (hk : ∀ k, k < 8 → sc_CW (fun r => c (8 * r + k)))
    (h1 : ∀ r, r < 8 → sc_MD (fun k => g (8 * r + k)) (fun k => g1 (8 * r + k))) (h2 : ∀ k, k < 8 → sc_MD (fun r => g1 (8 * r + k)) (fun r => g2 (8 * r + k)))
    (hc : sc_sum (sc_ne g c) 64 ≤ 8) : ∀ p, p < 64 → g2 p = c p := by
  have e := sc_sum_mul (sc_ne g c) 8
  rw [show 8 * 8 = 64 from rfl] at e
  obtain ⟨a, b, hab⟩ := sc_most (f := fun r => sc_sum (fun k => sc_ne g c (8 * r + k)) 8) (t := 3) 8 (by omega)
  have hrow : ∀ r, r < 8 → r ≠ a → r ≠ b → ∀ k, k < 8 → g1 (8 * r + k) = c (8 * r + k) := by
    intro r hr8 ha hb
    obtain ⟨x, y, hxy⟩ := sc_most (f := fun k => sc_ne g c (8 * r + k)) (t := 1) 8 (hab r hr8 ha hb)
    exact h1 r hr8 (fun k => c (8 * r + k)) (hr r hr8) x y (fun k hk8 hx hy => sc_ne_0 (hxy k hk8 hx hy))
  intro p hp
  have h3 := h2 (p % 8) (Nat.mod_lt _ (by decide)) (fun r => c (8 * r + p % 8)) (hk _ (Nat.mod_lt _ (by decide))) a b (fun r hr8 ha hb => hrow r hr8 ha hb _ (Nat.mod_lt _ (by decide))) (p / 8) (by omega)
  have e2 : 8 * (p / 8) + p % 8 = p := Nat.div_add_mod p 8
  simp only [e2] at h3
  exact h3
def sc_row (b : Nat → BitVec 8) (r : Nat) : Nat → BitVec 8 := sc_cl (fun c => b (4 * r + c))
def sc_sq (b : Nat → BitVec 8) (p : Nat) : BitVec 8 := sc_cl (fun r => sc_row b r (p % 8)) (p / 8)
theorem sc_sq_at (b : Nat → BitVec 8) {r k : Nat} (hk : k < 8) : sc_sq b (8 * r + k) = sc_cl (fun q => sc_row b q k) r := by
  unfold sc_sq
  rw [show (8 * r + k) % 8 = k by omega, show (8 * r + k) / 8 = r by omega]
theorem sc_sq_col (b : Nat → BitVec 8) (k : Nat) (hk : k < 8) : sc_CW (fun r => sc_sq b (8 * r + k)) := by
  have e : (fun r => sc_sq b (8 * r + k)) = sc_cl (fun q => sc_row b q k) := by
    funext r
    exact sc_sq_at b hk
  rw [e]
  exact sc_cw_cl _
theorem sc_sq_row (b : Nat → BitVec 8) (r : Nat) (hr : r < 8) : sc_CW (fun k => sc_sq b (8 * r + k)) := by
  intro i hi
  rw [sc_sh_congr i 8 (m := fun k => sc_cl (fun q => sc_row b q k) r) (fun k hk => sc_sq_at b hk), sc_sh_cl]
  have e : (fun q => sc_sh (sc_row b q) i 8) = fun _ => 0#8 := by
    funext q
    exact sc_cw_cl _ i hi
  show sc_cl (fun q => sc_sh (sc_row b q) i 8) r = 0#8
  rw [e, sc_cl_0]
theorem sc_sq_data (b : Nat → BitVec 8) {i : Nat} (hi : i < 16) : sc_sq b (8 * (i / 4) + i % 4) = b i := by
  rw [sc_sq_at b (by omega), sc_cl_lo _ (by omega)]
  show sc_cl (fun c => b (4 * (i / 4) + c)) (i % 4) = b i
  rw [sc_cl_lo _ (by omega)]
  show b (4 * (i / 4) + i % 4) = b i
  rw [Nat.div_add_mod]
theorem sc_sq_congr {b d : Nat → BitVec 8} (h : ∀ i, i < 16 → b i = d i) (p : Nat) : sc_sq b p = sc_sq d p := by
  unfold sc_sq
  refine sc_cl_congr (fun r hr => ?_) _
  exact sc_cl_congr (fun c hc => h _ (by omega)) _
/-! the order of the cells -/
def sc_co (p : Nat) : Nat := (p * 37 + 11) % 64
def sc_oc (c : Nat) : Nat := ((c + 53) * 45) % 64
theorem sc_co_lt (p : Nat) : sc_co p < 64 := Nat.mod_lt _ (by decide)
theorem sc_oc_lt (p : Nat) : sc_oc p < 64 := Nat.mod_lt _ (by decide)
theorem sc_co_oc {c : Nat} (h : c < 64) : sc_co (sc_oc c) = c := by
  unfold sc_co sc_oc
  omega
theorem sc_oc_co {p : Nat} (h : p < 64) : sc_oc (sc_co p) = p := by
  unfold sc_co sc_oc
  omega
theorem sc_co_inj {p q : Nat} (hp : p < 64) (hq : q < 64) (h : sc_co p = sc_co q) : p = q := by
  rw [← sc_oc_co hp, h, sc_oc_co hq]
theorem sc_sum_list (f : Nat → Nat) (n : Nat) : sc_sum f n = ((List.range n).map f).sum := by
  induction n with
  | zero => rfl
  | succ n ih => rw [sc_sum_s, ih, List.range_succ, List.map_append, List.sum_append_nat]; simp
theorem sc_perm : ((List.range 64).map sc_co).Perm (List.range 64) := by decide +kernel
theorem sc_sum_co (f : Nat → Nat) : sc_sum (fun p => f (sc_co p)) 64 = sc_sum f 64 := by
  rw [sc_sum_list, sc_sum_list, ← (sc_perm.map f).sum_nat, List.map_map]
  rfl
end
section
section SCL
variable {fl fn : Int32} {aP aL aC aW aE aT aD aB aF aK aG aS aN aH : Nat → Int32}
/-! symbols as ints; products and quotients by the tables -/
def sc_e (x : BitVec 8) : Int32 := nI x.toNat
theorem sc_e_lt (x : BitVec 8) : x.toNat < 2 ^ 31 := Nat.lt_trans x.isLt (by decide)
theorem sc_e_x (x y : BitVec 8) : sc_e x ^^^ sc_e y = sc_e (x ^^^ y) := by
  unfold sc_e
  rw [nx_xor, BitVec.toNat_xor]
theorem sc_e_i {x y : BitVec 8} : sc_e x = sc_e y ↔ x = y := by
  unfold sc_e
  rw [nI_eq (sc_e_lt x) (sc_e_lt y), BitVec.toNat_inj]
theorem sc_e_0 : sc_e 0#8 = 0 := by decide
theorem sc_e_1 : sc_e 1#8 = 1 := by decide
theorem sc_e_z {x : BitVec 8} : sc_e x = 0 ↔ x = 0#8 := by
  rw [← sc_e_0, sc_e_i]
theorem sc_e_in (x : BitVec 8) : vp_in (sc_e x) 256 := vp_in_nI x.isLt (by decide)
theorem sc_e_cl (x : BitVec 8) : (sc_e x).toNatClampNeg = x.toNat := nI_clamp (sc_e_lt x)
def sc_Tb (aP aL : Nat → Int32) : Prop := (∀ n, n < 510 → aP n = sc_e (gf_pw n)) ∧ (∀ i, i < 255 → aL (gf_pw i).toNat = nI i)
theorem sc_times {post : Int32 → Prop} (T : sc_Tb aP aL) {p q : Int32} {x y : BitVec 8} (hp : p = sc_e x) (hq : q = sc_e y) (h : post (sc_e (gf_m x y))) : wpX_times post (fl, fn, aP, aL, aC, aW, aE, aT, aD, aB, aF, aK, aG, aS, aN, aH) p q := by
  subst hp hq
  refine br_c (fun e => ?_) (fun e => br_c (fun e2 => ?_) (fun e2 => ?_))
  · rw [sc_e_z.mp e, gf_0m, sc_e_0] at h
    exact h
  · rw [sc_e_z.mp e2, gf_m0, sc_e_0] at h
    exact h
  · obtain ⟨i, hi, rfl⟩ := gf_sur x (fun z => e (sc_e_z.mpr z))
    obtain ⟨j, hj, rfl⟩ := gf_sur y (fun z => e2 (sc_e_z.mpr z))
    refine And.intro (sc_e_in _) (And.intro (sc_e_in _) ?_)
    rw [sc_e_cl, sc_e_cl, T.2 i hi, T.2 j hj, nI_add, nI_clamp (by omega), T.1 _ (by omega)]
    rw [gf_pp] at h
    exact And.intro (vp_in_nI (by omega) (by decide)) h
theorem sc_over {post : Int32 → Prop} (T : sc_Tb aP aL) {p q : Int32} {x y : BitVec 8} (hp : p = sc_e x) (hq : q = sc_e y) (hy : y ≠ 0#8) (h : ∀ w, gf_m w y = x → post (sc_e w)) : wpX_over post (fl, fn, aP, aL, aC, aW, aE, aT, aD, aB, aF, aK, aG, aS, aN, aH) p q := by
  subst hp hq
  refine br_c (fun e => ?_) (fun e => ?_)
  · have h1 := h 0#8 (by rw [sc_e_z.mp e, gf_0m])
    rw [sc_e_0] at h1
    exact h1
  · obtain ⟨i, hi, rfl⟩ := gf_sur x (fun z => e (sc_e_z.mpr z))
    obtain ⟨j, hj, rfl⟩ := gf_sur y hy
    refine And.intro (sc_e_in _) (And.intro (sc_e_in _) ?_)
    have e1 : nI i + 255 - nI j = nI (i + 255 - j) := by
      rw [show (255 : Int32) = nI 255 from rfl, nI_add, pk_sub (by omega)]
    rw [sc_e_cl, sc_e_cl, T.2 i hi, T.2 j hj, e1, nI_clamp (by omega), T.1 _ (by omega)]
    refine And.intro (vp_in_nI (by omega) (by decide)) (h _ ?_)
    rw [gf_pp, show i + 255 - j + j = i + 255 by omega, gf_pa]
/-! the check symbols of a line -/
theorem sc_rm_a (l : Nat → BitVec 8) (i : Nat) : sc_rm l (i + 1) 0 = sc_rm l i 1 ^^^ gf_m (l i ^^^ sc_rm l i 0) (sc_g 3) := (sc_rm_s l i 0).trans (if_pos (by decide))
theorem sc_rm_b (l : Nat → BitVec 8) (i : Nat) : sc_rm l (i + 1) 1 = sc_rm l i 2 ^^^ gf_m (l i ^^^ sc_rm l i 0) (sc_g 2) := (sc_rm_s l i 1).trans (if_pos (by decide))
theorem sc_rm_c (l : Nat → BitVec 8) (i : Nat) : sc_rm l (i + 1) 2 = sc_rm l i 3 ^^^ gf_m (l i ^^^ sc_rm l i 0) (sc_g 1) := (sc_rm_s l i 2).trans (if_pos (by decide))
theorem sc_rm_d (l : Nat → BitVec 8) (i : Nat) : sc_rm l (i + 1) 3 = gf_m (l i ^^^ sc_rm l i 0) (sc_g 0) := by
  have e : sc_rm l (i + 1) 3 = sc_rm l i 4 ^^^ gf_m (l i ^^^ sc_rm l i 0) (sc_g 0) := (sc_rm_s l i 3).trans (if_pos (by decide))
  rw [e, sc_rm4, BitVec.zero_xor]
def sc_Ck (aC : Nat → Int32) : Prop := ∀ j, j < 4 → aC j = sc_e (sc_g j)
theorem sc_check {post : SX → Prop} (T : sc_Tb aP aL) (hC : sc_Ck aC) {l : Nat → BitVec 8} (hl : ∀ k, k < 4 → aN k = sc_e (l k)) (K : ∀ m : Nat → Int32, (∀ k, k < 8 → m k = sc_e (sc_cl l k)) → post (fl, fn, aP, aL, aC, aW, aE, aT, aD, aB, aF, aK, aG, aS, m, aH)) : wpX_checkLine post (fl, fn, aP, aL, aC, aW, aE, aT, aD, aB, aF, aK, aG, aS, aN, aH) := by
  refine loop_0 (σ := Unit) (fun n i _ => wX_checkLine_12 post fl fn aP aL aC aW aE aT aD aB aF aK aG aS aN aH n (sc_e (sc_rm l i 0)) (sc_e (sc_rm l i 1)) (sc_e (sc_rm l i 2)) (sc_e (sc_rm l i 3)) (nI i)) (fun _ _ => True) 4 () trivial ?_ ?_
  · intro n s _
    refine br_t (by decide) (nm_e (nm_e (nm_e (nm_e (K _ ?_)))))
    intro k hk
    rcases (by omega : k < 4 ∨ k = 4 ∨ k = 5 ∨ k = 6 ∨ k = 7) with h | h | h | h | h
    · rw [pk_un (by omega), pk_un (by omega), pk_un (by omega), pk_un (by omega), hl k h, sc_cl_lo l h]
    · subst h; exact rfl
    · subst h; exact rfl
    · subst h; exact rfl
    · subst h; exact rfl
  · intro n i s hi _ ih
    refine br_f (nI_ge (b := 4) hi (by decide)) (And.intro (vp_in_nI (by omega) (by decide)) ?_)
    refine nm_r (e' := sc_e (l i ^^^ sc_rm l i 0)) (by rw [nI_clamp (by omega), hl i hi, sc_e_x]) ?_
    refine sc_times T rfl (hC 3 (by decide)) (nm_r (e' := sc_e (sc_rm l (i + 1) 0)) (by rw [sc_e_x, sc_rm_a]) ?_)
    refine sc_times T rfl (hC 2 (by decide)) (nm_r (e' := sc_e (sc_rm l (i + 1) 1)) (by rw [sc_e_x, sc_rm_b]) ?_)
    refine sc_times T rfl (hC 1 (by decide)) (nm_r (e' := sc_e (sc_rm l (i + 1) 2)) (by rw [sc_e_x, sc_rm_c]) ?_)
    refine sc_times T rfl (hC 0 (by decide)) (nm_r (nI_1 i) ?_)
    have h := ih () trivial
    rw [sc_rm_d] at h
    exact h
/-! the check sums of a line -/
theorem sc_is14 {post : Int32 → SX → Prop} {J : Int32 → Int32 → (Nat → Int32) → (Nat → Int32) → (Nat → Int32) → (Nat → Int32) → (Nat → Int32) → (Nat → Int32) → (Nat → Int32) → (Nat → Int32) → (Nat → Int32) → (Nat → Int32) → (Nat → Int32) → (Nat → Int32) → (Nat → Int32) → (Nat → Int32) → Prop}
    (T : sc_Tb aP aL) {l : Nat → BitVec 8} (hl : ∀ k, k < 8 → aN k = sc_e (l k)) {i : Nat} (hi : i < 4) {x1 : Int32}
    (K : (x1 = 0 → J 0 (nI (i + 1)) aP aL aC aW aE aT aD aB aF aK aG aS aN (upd aH i (sc_e (sc_sh l i 8)))) ∧ (¬ x1 = 0 → (sc_sh l i 8 = 0#8 → J 1 (nI (i + 1)) aP aL aC aW aE aT aD aB aF aK aG aS aN (upd aH i (sc_e (sc_sh l i 8)))) ∧ (sc_sh l i 8 ≠ 0#8 → J 0 (nI (i + 1)) aP aL aC aW aE aT aD aB aF aK aG aS aN (upd aH i (sc_e (sc_sh l i 8)))))) :
    ∃ n, wX_isSound_14 post J x1 (nI i) fl fn aP aL aC aW aE aT aD aB aF aK aG aS aN aH n 0 0 := by
  refine loop_0 (σ := Unit) (fun n k _ => wX_isSound_14 post J x1 (nI i) fl fn aP aL aC aW aE aT aD aB aF aK aG aS aN aH n (sc_e (sc_sh l i k)) (nI k)) (fun _ _ => True) 8 () trivial ?_ ?_
  · intro n s _
    refine br_t (by decide) (And.intro (vp_in_nI hi (by decide)) (nm_r (e' := upd aH i (sc_e (sc_sh l i 8))) (by rw [nI_clamp (by omega)]) ?_))
    refine br_c (fun e => nm_r (nI_1 i) (K.1 e)) (fun e => br_c (fun z => nm_r (nI_1 i) ((K.2 e).1 (sc_e_z.mp z))) (fun z => nm_r (nI_1 i) ((K.2 e).2 (fun y => z (sc_e_z.mpr y)))))
  · intro n k s hk _ ih
    refine br_f (nI_ge (b := 8) hk (by decide)) (And.intro (vp_in_nI (by omega) (by decide)) ?_)
    refine sc_times T rfl (y := gf_pw i) (by rw [nI_clamp (by omega), T.1 i (by omega)]) ?_
    refine And.intro (vp_in_nI hk (by decide)) (nm_r (e' := sc_e (sc_sh l i (k + 1))) (by rw [nI_clamp (by omega), hl k hk, sc_e_x, sc_sh_s]) (nm_r (nI_1 k) (ih () trivial)))
theorem sc_sound {post : Int32 → SX → Prop} (T : sc_Tb aP aL) {l : Nat → BitVec 8} (hl : ∀ k, k < 8 → aN k = sc_e (l k))
    (K1 : (∀ i, i < 4 → sc_sh l i 8 = 0#8) → ∀ h : Nat → Int32, (∀ i, i < 4 → h i = sc_e (sc_sh l i 8)) → post 1 (fl, fn, aP, aL, aC, aW, aE, aT, aD, aB, aF, aK, aG, aS, aN, h))
    (K0 : (¬ ∀ i, i < 4 → sc_sh l i 8 = 0#8) → ∀ h : Nat → Int32, (∀ i, i < 4 → h i = sc_e (sc_sh l i 8)) → post 0 (fl, fn, aP, aL, aC, aW, aE, aT, aD, aB, aF, aK, aG, aS, aN, h)) : wpX_isSound post (fl, fn, aP, aL, aC, aW, aE, aT, aD, aB, aF, aK, aG, aS, aN, aH) := by
  refine loop_0 (σ := Int32 × (Nat → Int32)) (fun n i s => wX_isSound_4 post fl fn n s.1 (nI i) aP aL aC aW aE aT aD aB aF aK aG aS aN s.2)
    (fun i s => (∀ j, j < i → s.2 j = sc_e (sc_sh l j 8)) ∧ ((s.1 = 1 ∧ ∀ j, j < i → sc_sh l j 8 = 0#8) ∨ (s.1 = 0 ∧ ¬ ∀ j, j < i → sc_sh l j 8 = 0#8))) 4 (1, aH) ⟨fun j hj => absurd hj (by omega), Or.inl ⟨rfl, fun j hj => absurd hj (by omega)⟩⟩ ?_ ?_
  · rintro n ⟨x1, h⟩ ⟨hh, hx⟩
    dsimp only at hh hx
    rcases hx with ⟨rfl, hx⟩ | ⟨rfl, hx⟩
    · exact br_t (by decide) (And.intro narrow_b1 (K1 hx h hh))
    · exact br_t (by decide) (And.intro narrow_b0 (K0 hx h hh))
  · rintro n i ⟨x1, h⟩ hi ⟨hh, hx⟩ ih
    dsimp only at hh hx ih ⊢
    have hh' : ∀ j, j < i + 1 → upd h i (sc_e (sc_sh l i 8)) j = sc_e (sc_sh l j 8) := by
      intro j hj
      by_cases e : j = i
      · rw [e, pk_us]
      · rw [pk_un e, hh j (by omega)]
    refine br_f (nI_ge (b := 4) hi (by decide)) (sc_is14 T hl hi (And.intro (fun e => ?_) (fun e => And.intro (fun z => ?_) (fun z => ?_))))
    · refine ih (0, _) ⟨hh', Or.inr ⟨rfl, fun q => ?_⟩⟩
      rcases hx with ⟨h1, _⟩ | ⟨_, hx⟩
      · rw [h1] at e
        exact absurd e (by decide)
      · exact hx (fun j hj => q j (by omega))
    · refine ih (1, _) ⟨hh', Or.inl ⟨rfl, fun j hj => ?_⟩⟩
      rcases hx with ⟨_, hx⟩ | ⟨h0, _⟩
      · by_cases e2 : j = i
        · rw [e2, z]
        · exact hx j (by omega)
      · exact absurd h0 e
    · exact ih (0, _) ⟨hh', Or.inr ⟨rfl, fun q => z (q i (by omega))⟩⟩
/-! mending a line -/
theorem sc_mend1 {post : SX → Prop} (T : sc_Tb aP aL) {l : Nat → BitVec 8} (hl : ∀ k, k < 8 → aN k = sc_e (l k)) (hh : ∀ i, i < 4 → aH i = sc_e (sc_sh l i 8))
    (hn : ¬ ∀ i, i < 4 → sc_sh l i 8 = 0#8) (hd : sc_det l = 0#8)
    (K : ∀ (m : Nat → Int32) (l' : Nat → BitVec 8), (∀ k, k < 8 → m k = sc_e (l' k)) → sc_MD l l' → post (fl, fn, aP, aL, aC, aW, aE, aT, aD, aB, aF, aK, aG, aS, m, aH)) : wpX_mendOne post (fl, fn, aP, aL, aC, aW, aE, aT, aD, aB, aF, aK, aG, aS, aN, aH) := by
  unfold wpX_mendOne
  refine sc_times T (hh 2 (by decide)) (hh 2 (by decide)) ?_
  refine br_c (fun e => ?_) (fun e => br_c (fun e1 => ?_) (fun e1 => sc_times T (hh 1 (by decide)) (hh 3 (by decide)) (br_c (fun e2 => ?_) (fun e2 => ?_))))
  · exact br_t rfl (K aN l hl (sc_md_1 hn hd (fun q => q.1 (sc_e_z.mp ((hh 0 (by decide)).symm.trans e)))))
  · exact br_t rfl (K aN l hl (sc_md_1 hn hd (fun q => q.2.1 (sc_e_z.mp ((hh 1 (by decide)).symm.trans e1)))))
  · have h0 : sc_sh l 0 8 ≠ 0#8 := fun z => e ((hh 0 (by decide)).trans (sc_e_z.mpr z))
    have h1 : sc_sh l 1 8 ≠ 0#8 := fun z => e1 ((hh 1 (by decide)).trans (sc_e_z.mpr z))
    refine br_f (by decide) (sc_over T (hh 1 (by decide)) (hh 0 (by decide)) h0 (fun w hw => And.intro (sc_e_in w) ?_))
    obtain ⟨t, ht, ew⟩ := gf_sur w (fun z => h1 (by rw [← hw, z, gf_0m]))
    refine nm_r (e' := nI t) (by rw [sc_e_cl, ew, T.2 t ht]) (pk_le 8 t (fun h8 => ?_) (fun h8 => ?_))
    · exact K aN l hl (sc_md_2 hd h0 hw ht ew h8)
    · have e7 : (7 : Int32) - nI t = nI (7 - t) := pk_sub (a := 7) (by omega)
      refine And.intro (by rw [e7]; exact vp_in_nI (by omega) (by decide)) (And.intro (by rw [e7]; exact vp_in_nI (by omega) (by decide)) ?_)
      refine nm_r (e' := upd aN (7 - t) (sc_e (l (7 - t) ^^^ sc_sh l 0 8))) (by rw [e7, nI_clamp (by omega), hl _ (by omega), hh 0 (by decide), sc_e_x]) ?_
      refine K _ (fun k => if k = 7 - t then l (7 - t) ^^^ sc_sh l 0 8 else l k) (fun k hk => ?_) (sc_md_3 hd h0 hw ew h8 (fun k hk ek => if_neg ek) (if_pos rfl))
      by_cases ek : k = 7 - t
      · rw [if_pos ek, ek, pk_us]
      · rw [if_neg ek, pk_un ek, hl k hk]
  · refine br_t rfl (K aN l hl (sc_md_1 hn hd (fun q => e2 ?_)))
    rw [q.2.2]
theorem sc_mend2 {post : SX → Prop} (T : sc_Tb aP aL) {l : Nat → BitVec 8} (hl : ∀ k, k < 8 → aN k = sc_e (l k)) (hh : ∀ i, i < 4 → aH i = sc_e (sc_sh l i 8))
    (hd : sc_det l ≠ 0#8) {p : Int32} (hp : p = sc_e (sc_det l))
    (K : ∀ (m : Nat → Int32) (l' : Nat → BitVec 8), (∀ k, k < 8 → m k = sc_e (l' k)) → sc_MD l l' → post (fl, fn, aP, aL, aC, aW, aE, aT, aD, aB, aF, aK, aG, aS, m, aH)) : wpX_mendTwo post (fl, fn, aP, aL, aC, aW, aE, aT, aD, aB, aF, aK, aG, aS, aN, aH) p := by
  unfold wpX_mendTwo
  refine sc_times T (hh 2 (by decide)) (hh 2 (by decide)) ?_
  refine sc_times T (hh 1 (by decide)) (hh 3 (by decide)) (nm_r (sc_e_x _ _) ?_)
  refine sc_times T (hh 0 (by decide)) (hh 3 (by decide)) ?_
  refine sc_times T (hh 1 (by decide)) (hh 2 (by decide)) (nm_r (sc_e_x _ _) ?_)
  refine sc_over T rfl hp hd (fun pr hpr => ?_)
  refine sc_over T rfl hp hd (fun sm hsm => ?_)
  refine loop_0 (σ := Int32 × Int32) (fun n i s => wX_mendTwo_93 post (sc_e pr) (sc_e sm) fl fn aP aL aC aW aE aT aD aB aF aK aG aS aN aH n s.1 s.2 (nI i))
    (fun i s => (s.1 = -1 ∧ s.2 = -1 ∧ ∀ a, a < i → ¬ sc_Z sm pr a) ∨ (∃ f, f < i ∧ s.1 = nI f ∧ s.2 = -1 ∧ sc_Z sm pr f ∧ ∀ a, a < i → sc_Z sm pr a → a = f) ∨ (∃ f g, f < g ∧ g < i ∧ s.1 = nI f ∧ s.2 = nI g ∧ sc_Z sm pr f ∧ sc_Z sm pr g))
    8 (-1, -1) (Or.inl ⟨rfl, rfl, fun a ha => absurd ha (by omega)⟩) ?_ ?_
  · rintro n ⟨x6, x7⟩ hI
    dsimp only at hI ⊢
    refine br_t (by decide) ?_
    rcases hI with ⟨rfl, rfl, hz⟩ | ⟨f, hf, rfl, rfl, zf, hz⟩ | ⟨f, g, hfg, hg, rfl, rfl, zf, zg⟩
    · exact br_f (by decide) (K aN l hl (sc_md_4 hd hpr hsm (fun ⟨a, b, hab, hb, za, _⟩ => hz a (by omega) za)))
    · refine br_f (by decide) (K aN l hl (sc_md_4 hd hpr hsm (fun ⟨a, b, hab, hb, za, zb⟩ => ?_)))
      have e1 := hz a (by omega) za
      have e2 := hz b hb zb
      omega
    · refine br_t (nI_pos' (by omega)) (And.intro (vp_in_nI (by omega) (by decide)) ?_)
      refine nm_r (e' := sc_e (gf_pw f)) (by rw [nI_clamp (by omega), T.1 f (by omega)]) (And.intro (vp_in_nI (by omega) (by decide)) ?_)
      refine nm_r (e' := sc_e (gf_pw g)) (by rw [nI_clamp (by omega), T.1 g (by omega)]) ?_
      refine sc_times T (hh 0 (by decide)) rfl (nm_r (e' := sc_e (sc_sh l 1 8 ^^^ gf_m (sc_sh l 0 8) (gf_pw g))) (by rw [hh 1 (by decide), sc_e_x]) ?_)
      refine sc_over T rfl (sc_e_x _ _) (sc_pne hfg hg) (fun wr hwr => ?_)
      have ef : (7 : Int32) - nI f = nI (7 - f) := pk_sub (a := 7) (by omega)
      have eg : (7 : Int32) - nI g = nI (7 - g) := pk_sub (a := 7) (by omega)
      rw [ef, eg, nI_clamp (show 7 - f < 2 ^ 31 by omega), nI_clamp (show 7 - g < 2 ^ 31 by omega)]
      refine And.intro (vp_in_nI (by omega) (by decide)) (And.intro (vp_in_nI (by omega) (by decide)) ?_)
      refine nm_r (e' := upd aN (7 - f) (sc_e (l (7 - f) ^^^ wr))) (by rw [hl _ (by omega), sc_e_x]) ?_
      refine And.intro (vp_in_nI (by omega) (by decide)) (And.intro (vp_in_nI (by omega) (by decide)) ?_)
      refine nm_r (e' := upd (upd aN (7 - f) (sc_e (l (7 - f) ^^^ wr))) (7 - g) (sc_e (l (7 - g) ^^^ (sc_sh l 0 8 ^^^ wr)))) (by rw [pk_un (show 7 - g ≠ 7 - f by omega), hl _ (by omega), hh 0 (by decide), sc_e_x, sc_e_x]) ?_
      refine K _ (fun k => if k = 7 - g then l (7 - g) ^^^ (sc_sh l 0 8 ^^^ wr) else if k = 7 - f then l (7 - f) ^^^ wr else l k) (fun k hk => ?_) (sc_md_5 hd hpr hsm hfg hg zf zg hwr (fun k hk e1 e2 => ?_) ?_ (if_pos rfl))
      · by_cases ek : k = 7 - g
        · rw [if_pos ek, ek, pk_us]
        · rw [if_neg ek, pk_un ek]
          by_cases ek2 : k = 7 - f
          · rw [if_pos ek2, ek2, pk_us]
          · rw [if_neg ek2, pk_un ek2, hl k hk]
      · rw [if_neg e2, if_neg e1]
      · rw [if_neg (by omega), if_pos rfl]
  · rintro n i ⟨x6, x7⟩ hi hI ih
    dsimp only at hI ih ⊢
    refine br_f (nI_ge (b := 8) hi (by decide)) (And.intro (vp_in_nI (by omega) (by decide)) ?_)
    refine nm_r (e' := sc_e (gf_pw i)) (by rw [nI_clamp (by omega), T.1 i (by omega)]) ?_
    refine sc_times T rfl rfl (sc_times T rfl rfl (nm_r (e' := sc_e ((gf_m (gf_pw i) (gf_pw i) ^^^ gf_m sm (gf_pw i)) ^^^ pr)) (by rw [sc_e_x, sc_e_x]) ?_))
    refine br_c (fun z => ?_) (fun z => ?_)
    · have hz : sc_Z sm pr i := sc_e_z.mp z
      rcases hI with ⟨rfl, rfl, hI⟩ | ⟨f, hf, rfl, rfl, zf, hI⟩ | ⟨f, g, hfg, hg, rfl, rfl, zf, zg⟩
      · refine br_f (by decide) (br_f (by decide) (nm_r (nI_1 i) (ih (nI i, -1) (Or.inr (Or.inl ⟨i, by omega, rfl, rfl, hz, fun a ha za => ?_⟩)))))
        rcases Nat.lt_or_ge a i with h | h
        · exact absurd za (hI a h)
        · omega
      · exact br_t (nI_pos' (by omega)) (br_t (nI_pos' (by omega)) (nm_r (nI_1 i) (ih (nI f, nI i) (Or.inr (Or.inr ⟨f, i, hf, by omega, rfl, rfl, zf, hz⟩)))))
      · exact br_t (nI_pos' (by omega)) (br_t (nI_pos' (by omega)) (nm_r (nI_1 i) (ih (nI f, nI i) (Or.inr (Or.inr ⟨f, i, by omega, by omega, rfl, rfl, zf, hz⟩)))))
    · have hz : ¬ sc_Z sm pr i := fun y => z (sc_e_z.mpr y)
      refine nm_r (nI_1 i) (ih (x6, x7) ?_)
      rcases hI with ⟨h1, h2, hI⟩ | ⟨f, hf, h1, h2, zf, hI⟩ | ⟨f, g, hfg, hg, h1, h2, zf, zg⟩
      · refine Or.inl ⟨h1, h2, fun a ha => ?_⟩
        by_cases e : a = i
        · rw [e]; exact hz
        · exact hI a (by omega)
      · refine Or.inr (Or.inl ⟨f, by omega, h1, h2, zf, fun a ha za => ?_⟩)
        by_cases e : a = i
        · rw [e] at za; exact absurd za hz
        · exact hI a (by omega) za
      · exact Or.inr (Or.inr ⟨f, g, hfg, by omega, h1, h2, zf, zg⟩)
theorem sc_mendl {post : SX → Prop} (T : sc_Tb aP aL) {l : Nat → BitVec 8} (hl : ∀ k, k < 8 → aN k = sc_e (l k))
    (K : ∀ (m h : Nat → Int32) (l' : Nat → BitVec 8), (∀ k, k < 8 → m k = sc_e (l' k)) → sc_MD l l' → post (fl, fn, aP, aL, aC, aW, aE, aT, aD, aB, aF, aK, aG, aS, m, h)) : wpX_mendLine post (fl, fn, aP, aL, aC, aW, aE, aT, aD, aB, aF, aK, aG, aS, aN, aH) := by
  refine sc_sound T hl (fun hz h hh => ?_) (fun hn h hh => ?_)
  · exact br_f (by decide) (K aN h l hl (sc_md_0 hz))
  · refine br_t rfl (sc_times T (hh 1 (by decide)) (hh 1 (by decide)) (sc_times T (hh 0 (by decide)) (hh 2 (by decide)) (nm_r (e' := sc_e (sc_det l)) (by rw [sc_e_x]; rfl) (br_c (fun e => ?_) (fun e => ?_)))))
    · exact sc_mend1 T hl hh hn (sc_e_z.mp e) (fun m l' hm hM => K m h l' hm hM)
    · exact sc_mend2 T hl hh (fun z => e (sc_e_z.mpr z)) rfl (fun m l' hm hM => K m h l' hm hM)
end SCL
end
section
section SCS
variable {fl fn : Int32} {aP aL aC aW aE aT aD aB aF aK aG aS aN aH : Nat → Int32}
/-! a loop that fills an array; lines taken out of the square and given back -/
theorem sc_fill {N : Nat} (W : Nat → Int32 → (Nat → Int32) → Prop) (g a : Nat → Int32) (hx : ∀ n s, (∀ k, k < N → s k = g k) → W (n + 1) (nI N) s)
    (hs : ∀ n i s, i < N → (∀ k, i ≤ k → s k = a k) → W n (nI (i + 1)) (upd s i (g i)) → W (n + 1) (nI i) s) : ∃ n, W n 0 a := by
  have h := loop_0 (fun n i s => W n (nI i) s) (fun i s => (∀ k, k < i → s k = g k) ∧ ∀ k, i ≤ k → s k = a k) N a ⟨fun k hk => absurd hk (by omega), fun k _ => rfl⟩ (fun n s h => hx n s h.1) (fun n i s hi h ih => hs n i s hi h.2 (ih _ ⟨fun k hk => ?_, fun k hk => ?_⟩))
  · rw [nI_0] at h
    exact h
  · by_cases e : k = i
    · rw [e, pk_us]
    · rw [pk_un e, h.1 k (by omega)]
  · rw [pk_un (by omega), h.2 k (by omega)]
theorem sc_ix (f i st : Nat) : nI f + nI i * nI st = nI (f + i * st) := by rw [pk_mul, nI_add]
theorem sc_ixb {f i st : Nat} (h : f + 7 * st < 64) (hi : i < 8) : f + i * st < 64 := by
  have := Nat.mul_le_mul_right st (show i ≤ 7 by omega)
  omega
theorem sc_take {post : SX → Prop} {p q : Int32} {f st : Nat} (hp : p = nI f) (hq : q = nI st) (h : f + 7 * st < 64) (K : ∀ m : Nat → Int32, (∀ k, k < 8 → m k = aS (f + k * st)) → post (fl, fn, aP, aL, aC, aW, aE, aT, aD, aB, aF, aK, aG, aS, m, aH)) : wpX_takeLine post (fl, fn, aP, aL, aC, aW, aE, aT, aD, aB, aF, aK, aG, aS, aN, aH) p q := by
  subst hp hq
  refine sc_fill (N := 8) (fun n i s => wX_takeLine_2 post (nI f) (nI st) fl fn n i aP aL aC aW aE aT aD aB aF aK aG aS s aH) (fun k => aS (f + k * st)) aN (fun n s hs => br_t (by decide) (K s hs)) (fun n i s hi _ ih => br_f (nI_ge (b := 8) hi (by decide)) ?_)
  have hb := sc_ixb h hi
  rw [sc_ix, nI_clamp (show f + i * st < 2 ^ 31 by omega), nI_clamp (show i < 2 ^ 31 by omega)]
  exact And.intro (vp_in_nI hb (by decide)) (And.intro (vp_in_nI hi (by decide)) (nm_e (nm_r (nI_1 i) ih)))
theorem sc_give {post : SX → Prop} {p q : Int32} {f st : Nat} (hp : p = nI f) (hq : q = nI st) (h0 : 0 < st) (h : f + 7 * st < 64) (K : ∀ s : Nat → Int32, (∀ k, k < 8 → s (f + k * st) = aN k) → (∀ j, (∀ k, k < 8 → j ≠ f + k * st) → s j = aS j) → post (fl, fn, aP, aL, aC, aW, aE, aT, aD, aB, aF, aK, aG, s, aN, aH)) : wpX_giveLine post (fl, fn, aP, aL, aC, aW, aE, aT, aD, aB, aF, aK, aG, aS, aN, aH) p q := by
  subst hp hq
  refine loop_0 (fun n i s => wX_giveLine_2 post (nI f) (nI st) fl fn n (nI i) aP aL aC aW aE aT aD aB aF aK aG s aN aH) (fun i s => (∀ k, k < i → s (f + k * st) = aN k) ∧ (∀ j, (∀ k, k < i → j ≠ f + k * st) → s j = aS j)) 8 aS ⟨fun k hk => absurd hk (by omega), fun j _ => rfl⟩ (fun n s hs => br_t (by decide) (K s hs.1 hs.2)) (fun n i s hi hs ih => br_f (nI_ge (b := 8) hi (by decide)) ?_)
  have hb := sc_ixb h hi
  rw [sc_ix, nI_clamp (show f + i * st < 2 ^ 31 by omega), nI_clamp (show i < 2 ^ 31 by omega)]
  refine And.intro (vp_in_nI hi (by decide)) (And.intro (vp_in_nI hb (by decide)) (nm_e (nm_r (nI_1 i) (ih _ ⟨fun k hk => ?_, fun j hj => ?_⟩))))
  · by_cases e : k = i
    · rw [e, pk_us]
    · have hne : f + k * st ≠ f + i * st := by
        intro e2
        exact e (Nat.eq_of_mul_eq_mul_right h0 (by omega))
      rw [pk_un hne, hs.1 k (by omega)]
  · rw [pk_un (hj i (by omega)), hs.2 j (fun k hk => hj k (by omega))]
theorem sc_m8 (i : Nat) : nI i * 8 = nI (8 * i) := by
  rw [show (8 : Int32) = nI 8 from rfl, pk_mul, Nat.mul_comm]
/-! coding the square -/
theorem sc_i4 {i : Nat} (hi : i < 16) : nI i / 4 * 8 + (nI i - nI i / 4 * 4) = nI (8 * (i / 4) + i % 4) := by
  have e1 : nI i / 4 = nI (i / 4) := pk_div (d := 4) (by omega) (by decide) (by decide)
  have e2 : nI i - nI i / 4 * 4 = nI (i % 4) := pk_rem (d := 4) (by omega) (by decide) (by decide)
  rw [e2, e1, sc_m8, nI_add]
theorem sc_code72 {post : SX → Prop} (T : sc_Tb aP aL) (hC : sc_Ck aC) {b : Nat → BitVec 8} (h : ∀ r, r < 4 → ∀ k, k < 8 → aS (8 * r + k) = sc_e (sc_row b r k))
    (K : ∀ s m : Nat → Int32, (∀ p, p < 64 → s p = sc_e (sc_sq b p)) → post (fl, fn, aP, aL, aC, aW, aE, aT, aD, aB, aF, aK, aG, s, m, aH)) : ∃ n, wX_codeSquare_72 post n 0 fl fn aP aL aC aW aE aT aD aB aF aK aG aS aN aH := by
  refine loop_0 (σ := (Nat → Int32) × (Nat → Int32)) (fun n i s => wX_codeSquare_72 post n (nI i) fl fn aP aL aC aW aE aT aD aB aF aK aG s.1 s.2 aH)
    (fun i s => (∀ k, k < i → ∀ r, r < 8 → s.1 (8 * r + k) = sc_e (sc_sq b (8 * r + k))) ∧ (∀ k, i ≤ k → k < 8 → ∀ r, r < 4 → s.1 (8 * r + k) = sc_e (sc_row b r k))) 8 (aS, aN) ⟨fun k hk => absurd hk (by omega), fun k _ hk r hr => h r hr k hk⟩ ?_ ?_
  · rintro n ⟨s, m⟩ ⟨h1, _⟩
    dsimp only at h1 ⊢
    refine br_t (by decide) (K s m (fun p hp => ?_))
    have e := h1 (p % 8) (by omega) (p / 8) (by omega)
    rwa [Nat.div_add_mod] at e
  · rintro n i ⟨s, m⟩ hi ⟨h1, h2⟩ ih
    dsimp only at h1 h2 ih ⊢
    refine br_f (nI_ge (b := 8) hi (by decide)) (sc_take rfl (st := 8) rfl (by omega) (fun m1 hm1 => ?_))
    refine sc_check T hC (l := fun r => sc_row b r i) (fun k hk => ?_) (fun m2 hm2 => ?_)
    · rw [hm1 k (by omega), show i + k * 8 = 8 * k + i by omega, h2 i (Nat.le_refl _) hi k hk]
    · refine sc_give rfl (st := 8) rfl (by decide) (by omega) (fun s' hs1 hs2 => nm_r (nI_1 i) (ih (s', m2) ⟨fun k hk r hr => ?_, fun k hk hk8 r hr => ?_⟩))
      · dsimp only
        by_cases e : k = i
        · rw [e, show 8 * r + i = i + r * 8 by omega, hs1 r hr, hm2 r hr, show i + r * 8 = 8 * r + i by omega, sc_sq_at b hi]
        · rw [hs2 _ (fun q hq => by omega), h1 k (by omega) r hr]
      · dsimp only
        rw [hs2 _ (fun q hq => by omega), h2 k (by omega) hk8 r hr]
theorem sc_code37 {post : SX → Prop} (T : sc_Tb aP aL) (hC : sc_Ck aC) {b : Nat → BitVec 8} (h : ∀ r, r < 4 → ∀ k, k < 4 → aS (8 * r + k) = sc_e (b (4 * r + k)))
    (K : ∀ s m : Nat → Int32, (∀ p, p < 64 → s p = sc_e (sc_sq b p)) → post (fl, fn, aP, aL, aC, aW, aE, aT, aD, aB, aF, aK, aG, s, m, aH)) : ∃ n, wX_codeSquare_37 post n 0 fl fn aP aL aC aW aE aT aD aB aF aK aG aS aN aH := by
  refine loop_0 (σ := (Nat → Int32) × (Nat → Int32)) (fun n i s => wX_codeSquare_37 post n (nI i) fl fn aP aL aC aW aE aT aD aB aF aK aG s.1 s.2 aH)
    (fun i s => (∀ r, r < i → ∀ k, k < 8 → s.1 (8 * r + k) = sc_e (sc_row b r k)) ∧ (∀ r, i ≤ r → r < 4 → ∀ k, k < 4 → s.1 (8 * r + k) = sc_e (b (4 * r + k)))) 4 (aS, aN) ⟨fun k hk => absurd hk (by omega), fun r _ hr k hk => h r hr k hk⟩ ?_ ?_
  · rintro n ⟨s, m⟩ ⟨h1, _⟩
    dsimp only at h1 ⊢
    exact br_t (by decide) (sc_code72 T hC h1 K)
  · rintro n i ⟨s, m⟩ hi ⟨h1, h2⟩ ih
    dsimp only at h1 h2 ih ⊢
    refine br_f (nI_ge (b := 4) hi (by decide)) (sc_take (sc_m8 i) (st := 1) rfl (by omega) (fun m1 hm1 => ?_))
    refine sc_check T hC (l := fun k => b (4 * i + k)) (fun k hk => ?_) (fun m2 hm2 => ?_)
    · rw [hm1 k (by omega), Nat.mul_one, h2 i (Nat.le_refl _) hi k hk]
    · refine sc_give (sc_m8 i) (st := 1) rfl (by decide) (by omega) (fun s' hs1 hs2 => nm_r (nI_1 i) (ih (s', m2) ⟨fun r hr k hk => ?_, fun r hr hr4 k hk => ?_⟩))
      · dsimp only
        by_cases e : r = i
        · have e1 := hs1 k hk
          rw [Nat.mul_one] at e1
          rw [e, e1, hm2 k hk]
          rfl
        · rw [hs2 _ (fun q hq => by omega), h1 r (by omega) k hk]
      · dsimp only
        rw [hs2 _ (fun q hq => by omega), h2 r (by omega) hr4 k hk]
theorem sc_code {post : SX → Prop} (T : sc_Tb aP aL) (hC : sc_Ck aC) {b : Nat → BitVec 8} (hb : ∀ i, i < 16 → aB i = sc_e (b i))
    (K : ∀ s m : Nat → Int32, (∀ p, p < 64 → s p = sc_e (sc_sq b p)) → post (fl, fn, aP, aL, aC, aW, aE, aT, aD, aB, aF, aK, aG, s, m, aH)) : wpX_codeSquare post (fl, fn, aP, aL, aC, aW, aE, aT, aD, aB, aF, aK, aG, aS, aN, aH) := by
  refine loop_0 (fun n i s => wX_codeSquare_2 post fl fn n (nI i) aP aL aC aW aE aT aD aB aF aK aG s aN aH) (fun i s => ∀ k, k < i → s (8 * (k / 4) + k % 4) = sc_e (b k)) 16 aS (fun k hk => absurd hk (by omega)) ?_ ?_
  · intro n s hs
    refine br_t (by decide) (sc_code37 T hC (b := b) (fun r hr k hk => ?_) K)
    have e := hs (4 * r + k) (by omega)
    rwa [show (4 * r + k) / 4 = r by omega, show (4 * r + k) % 4 = k by omega] at e
  · intro n i s hi hs ih
    refine br_f (nI_ge (b := 16) hi (by decide)) ?_
    rw [sc_i4 hi, nI_clamp (show 8 * (i / 4) + i % 4 < 2 ^ 31 by omega), nI_clamp (show i < 2 ^ 31 by omega)]
    refine And.intro (by decide) (And.intro (by decide) (And.intro (vp_in_nI hi (by decide)) (And.intro (vp_in_nI (by omega) (by decide)) (nm_e (nm_r (nI_1 i) (ih _ (fun k hk => ?_)))))))
    by_cases e : k = i
    · rw [e, pk_us, hb i hi]
    · rw [pk_un (by omega), hs k (by omega)]
/-! mending the square -/
theorem sc_mend70 {post : SX → Prop} {g : Nat → BitVec 8} (hg : ∀ p, p < 64 → aS p = sc_e (g p))
    (K : ∀ x : Nat → Int32, (∀ i, i < 16 → x i = sc_e (g (8 * (i / 4) + i % 4))) → post (fl, fn, aP, aL, aC, aW, aE, aT, aD, x, aF, aK, aG, aS, aN, aH)) : ∃ n, wX_mendSquare_70 post fl fn n 0 aP aL aC aW aE aT aD aB aF aK aG aS aN aH := by
  refine sc_fill (N := 16) (fun n i s => wX_mendSquare_70 post fl fn n i aP aL aC aW aE aT aD s aF aK aG aS aN aH) (fun i => sc_e (g (8 * (i / 4) + i % 4))) aB (fun n s hs => br_t (by decide) (K s hs)) (fun n i s hi _ ih => br_f (nI_ge (b := 16) hi (by decide)) ?_)
  rw [sc_i4 hi, nI_clamp (show 8 * (i / 4) + i % 4 < 2 ^ 31 by omega), nI_clamp (show i < 2 ^ 31 by omega)]
  exact And.intro (by decide) (And.intro (by decide) (And.intro (vp_in_nI (by omega) (by decide)) (And.intro (vp_in_nI hi (by decide)) (nm_r (e' := upd s i (sc_e (g (8 * (i / 4) + i % 4)))) (by rw [hg _ (by omega)]) (nm_r (nI_1 i) ih)))))
theorem sc_mend38 {post : SX → Prop} (T : sc_Tb aP aL) {g : Nat → BitVec 8} (hg : ∀ p, p < 64 → aS p = sc_e (g p))
    (K : ∀ (x s m h : Nat → Int32) (g2 : Nat → BitVec 8), (∀ k, k < 8 → sc_MD (fun r => g (8 * r + k)) (fun r => g2 (8 * r + k))) → (∀ i, i < 16 → x i = sc_e (g2 (8 * (i / 4) + i % 4))) → post (fl, fn, aP, aL, aC, aW, aE, aT, aD, x, aF, aK, aG, s, m, h)) : ∃ n, wX_mendSquare_38 post n 0 fl fn aP aL aC aW aE aT aD aB aF aK aG aS aN aH := by
  refine loop_0 (σ := (Nat → Int32) × (Nat → Int32) × (Nat → Int32)) (fun n i s => wX_mendSquare_38 post n (nI i) fl fn aP aL aC aW aE aT aD aB aF aK aG s.1 s.2.1 s.2.2)
    (fun i s => ∃ g2 : Nat → BitVec 8, (∀ p, p < 64 → s.1 p = sc_e (g2 p)) ∧ (∀ k, k < i → sc_MD (fun r => g (8 * r + k)) (fun r => g2 (8 * r + k))) ∧ (∀ k, i ≤ k → k < 8 → ∀ r, r < 8 → g2 (8 * r + k) = g (8 * r + k))) 8 (aS, aN, aH) ⟨g, hg, fun k hk => absurd hk (by omega), fun k _ _ r _ => rfl⟩ ?_ ?_
  · rintro n ⟨s, m, h⟩ ⟨g2, h1, h2, _⟩
    dsimp only at h1 ⊢
    exact br_t (by decide) (sc_mend70 h1 (fun x hx => K x s m h g2 h2 hx))
  · rintro n i ⟨s, m, h⟩ hi ⟨g2, h1, h2, h3⟩ ih
    dsimp only at h1 ih ⊢
    refine br_f (nI_ge (b := 8) hi (by decide)) (sc_take rfl (st := 8) rfl (by omega) (fun m1 hm1 => ?_))
    refine sc_mendl T (l := fun r => g2 (8 * r + i)) (fun k hk => ?_) (fun m2 h' l' hm2 hM => ?_)
    · rw [hm1 k hk, show i + k * 8 = 8 * k + i by omega, h1 _ (by omega)]
    · refine sc_give rfl (st := 8) rfl (by decide) (by omega) (fun s' hs1 hs2 => nm_r (nI_1 i) (ih (s', m2, h') ⟨fun p => if p % 8 = i then l' (p / 8) else g2 p, fun p hp => ?_, fun k hk => ?_, fun k hk hk8 r hr => ?_⟩))
      · dsimp only
        by_cases e : p % 8 = i
        · have e1 := hs1 (p / 8) (by omega)
          rw [show i + p / 8 * 8 = p by omega] at e1
          rw [if_pos e, e1, hm2 _ (by omega)]
        · rw [if_neg e, hs2 p (fun q hq => by omega), h1 p hp]
      · intro c hc k1 k2 he r hr
        by_cases e : k = i
        · subst e
          dsimp only
          rw [if_pos (by omega), show (8 * r + k) / 8 = r by omega]
          refine hM c hc k1 k2 (fun q hq e1 e2 => ?_) r hr
          dsimp only
          rw [h3 k (Nat.le_refl _) hi q hq]
          exact he q hq e1 e2
        · dsimp only
          rw [if_neg (by omega)]
          exact h2 k (by omega) c hc k1 k2 he r hr
      · dsimp only
        rw [if_neg (by omega), h3 k (by omega) hk8 r hr]
theorem sc_mend2r {post : SX → Prop} (T : sc_Tb aP aL) {g : Nat → BitVec 8} (hg : ∀ p, p < 64 → aS p = sc_e (g p))
    (K : ∀ (x s m h : Nat → Int32) (g1 g2 : Nat → BitVec 8), (∀ r, r < 8 → sc_MD (fun k => g (8 * r + k)) (fun k => g1 (8 * r + k))) → (∀ k, k < 8 → sc_MD (fun r => g1 (8 * r + k)) (fun r => g2 (8 * r + k))) → (∀ i, i < 16 → x i = sc_e (g2 (8 * (i / 4) + i % 4))) → post (fl, fn, aP, aL, aC, aW, aE, aT, aD, x, aF, aK, aG, s, m, h)) : wpX_mendSquare post (fl, fn, aP, aL, aC, aW, aE, aT, aD, aB, aF, aK, aG, aS, aN, aH) := by
  refine loop_0 (σ := (Nat → Int32) × (Nat → Int32) × (Nat → Int32)) (fun n i s => wX_mendSquare_2 post n (nI i) fl fn aP aL aC aW aE aT aD aB aF aK aG s.1 s.2.1 s.2.2)
    (fun i s => ∃ g1 : Nat → BitVec 8, (∀ p, p < 64 → s.1 p = sc_e (g1 p)) ∧ (∀ r, r < i → sc_MD (fun k => g (8 * r + k)) (fun k => g1 (8 * r + k))) ∧ (∀ r, i ≤ r → r < 8 → ∀ k, k < 8 → g1 (8 * r + k) = g (8 * r + k))) 8 (aS, aN, aH) ⟨g, hg, fun k hk => absurd hk (by omega), fun k _ _ r _ => rfl⟩ ?_ ?_
  · rintro n ⟨s, m, h⟩ ⟨g1, h1, h2, _⟩
    dsimp only at h1 ⊢
    exact br_t (by decide) (sc_mend38 T h1 (fun x s m h g2 h3 hx => K x s m h g1 g2 h2 h3 hx))
  · rintro n i ⟨s, m, h⟩ hi ⟨g1, h1, h2, h3⟩ ih
    dsimp only at h1 ih ⊢
    refine br_f (nI_ge (b := 8) hi (by decide)) (sc_take (sc_m8 i) (st := 1) rfl (by omega) (fun m1 hm1 => ?_))
    refine sc_mendl T (l := fun k => g1 (8 * i + k)) (fun k hk => ?_) (fun m2 h' l' hm2 hM => ?_)
    · rw [hm1 k hk, Nat.mul_one, h1 _ (by omega)]
    · refine sc_give (sc_m8 i) (st := 1) rfl (by decide) (by omega) (fun s' hs1 hs2 => nm_r (nI_1 i) (ih (s', m2, h') ⟨fun p => if p / 8 = i then l' (p % 8) else g1 p, fun p hp => ?_, fun r hr => ?_, fun r hr hr8 k hk => ?_⟩))
      · dsimp only
        by_cases e : p / 8 = i
        · have e1 := hs1 (p % 8) (by omega)
          rw [show 8 * i + p % 8 * 1 = p by omega] at e1
          rw [if_pos e, e1, hm2 _ (by omega)]
        · rw [if_neg e, hs2 p (fun q hq => by omega), h1 p hp]
      · intro c hc k1 k2 he k hk
        by_cases e : r = i
        · subst e
          dsimp only
          rw [if_pos (by omega), show (8 * r + k) % 8 = k by omega]
          refine hM c hc k1 k2 (fun q hq e1 e2 => ?_) k hk
          dsimp only
          rw [h3 r (Nat.le_refl _) hi q hq]
          exact he q hq e1 e2
        · dsimp only
          rw [if_neg (by omega)]
          exact h2 r (by omega) c hc k1 k2 he k hk
      · dsimp only
        rw [if_neg (by omega), h3 r (by omega) hr8 k hk]
/-- mending: at most eight wrong symbols give the bytes back; the bytes are bytes in any case -/
theorem sc_mends {post : SX → Prop} (T : sc_Tb aP aL) {g : Nat → BitVec 8} (hg : ∀ p, p < 64 → aS p = sc_e (g p)) {b : Nat → BitVec 8} (hc : sc_sum (sc_ne g (sc_sq b)) 64 ≤ 8)
    (K : ∀ x s m h : Nat → Int32, (∀ i, i < 16 → x i = sc_e (b i)) → post (fl, fn, aP, aL, aC, aW, aE, aT, aD, x, aF, aK, aG, s, m, h)) : wpX_mendSquare post (fl, fn, aP, aL, aC, aW, aE, aT, aD, aB, aF, aK, aG, aS, aN, aH) := by
  refine sc_mend2r T hg (fun x s m h g1 g2 h1 h2 hx => K x s m h (fun i hi => ?_))
  rw [hx i hi, sc_square (sc_sq_row b) (sc_sq_col b) h1 h2 hc _ (by omega), sc_sq_data b hi]
end SCS
end
section
section SCT
variable {fl fn : Int32} {aP aL aC aW aE aT aD aB aF aK aG aS aN aH : Nat → Int32}
/-! the tables: powers, logarithms -/
theorem sc_nar {n : Nat} (h : n < 32768) : (nI n).toInt16.toInt32 = nI n := by
  apply lg_i2s_small
  · rw [nI_toInt (by omega)]; omega
  · rw [nI_toInt (by omega)]; omega
theorem sc_narv {n : Nat} (h : n < 32768) : vp_nar .short (nI n) = nI n := by
  rw [vp_nar_short, sc_nar h]
theorem sc_nare (a : BitVec 8) : vp_nar .short (sc_e a).toInt16.toInt32 = sc_e a := by
  unfold sc_e
  rw [sc_nar (Nat.lt_trans a.isLt (by decide)), sc_narv (Nat.lt_trans a.isLt (by decide))]
theorem sc_dbl (a : BitVec 8) : (sc_e a * 2 < 256 → sc_e a * 2 = sc_e (gf_x2 a)) ∧ (¬ sc_e a * 2 < 256 → sc_e a * 2 ^^^ 285 = sc_e (gf_x2 a)) := by
  revert a
  exact gf_all (P := fun a => (sc_e a * 2 < 256 → sc_e a * 2 = sc_e (gf_x2 a)) ∧ (¬ sc_e a * 2 < 256 → sc_e a * 2 ^^^ 285 = sc_e (gf_x2 a))) (by decide +kernel)
theorem sc_field {post : SX → Prop} (K : ∀ P L : Nat → Int32, sc_Tb P L → post (fl, fn, P, L, aC, aW, aE, aT, aD, aB, aF, aK, aG, aS, aN, aH)) : wpX_layField post (fl, fn, aP, aL, aC, aW, aE, aT, aD, aB, aF, aK, aG, aS, aN, aH) := by
  refine loop_0 (σ := (Nat → Int32) × (Nat → Int32)) (fun n i s => wX_layField_4 post fl fn n (sc_e (gf_pw i)) (nI i) s.1 s.2 aC aW aE aT aD aB aF aK aG aS aN aH)
    (fun i s => (∀ n, n < i → s.1 n = sc_e (gf_pw n) ∧ s.1 (n + 255) = sc_e (gf_pw n)) ∧ (∀ j, j < i → s.2 (gf_pw j).toNat = nI j)) 255 (aP, aL) ⟨fun k hk => absurd hk (by omega), fun k hk => absurd hk (by omega)⟩ ?_ ?_
  · rintro n ⟨P, L⟩ ⟨h1, h2⟩
    dsimp only at h1 h2 ⊢
    refine br_t (by decide) (K P L ⟨fun m hm => ?_, h2⟩)
    rcases Nat.lt_or_ge m 255 with h | h
    · exact (h1 m h).1
    · have e := (h1 (m - 255) (by omega)).2
      rw [← gf_pa, show m - 255 + 255 = m by omega] at e
      exact e
  · rintro n i ⟨P, L⟩ hi ⟨h1, h2⟩ ih
    dsimp only at h1 h2 ih ⊢
    have e255 : nI i + 255 = nI (i + 255) := nI_add i 255
    have hP : ∀ m, m < i + 1 → upd (upd P i (sc_e (gf_pw i))) (i + 255) (sc_e (gf_pw i)) m = sc_e (gf_pw m) ∧ upd (upd P i (sc_e (gf_pw i))) (i + 255) (sc_e (gf_pw i)) (m + 255) = sc_e (gf_pw m) := by
      intro m hm
      by_cases e : m = i
      · subst e
        rw [pk_us, pk_un (by omega), pk_us]
        exact ⟨rfl, rfl⟩
      · rw [pk_un (by omega), pk_un e, pk_un (by omega), pk_un (by omega)]
        exact h1 m (by omega)
    have hL : ∀ j, j < i + 1 → upd L (gf_pw i).toNat (nI i) (gf_pw j).toNat = nI j := by
      intro j hj
      by_cases e : j = i
      · rw [e, pk_us]
      · have hne : (gf_pw j).toNat ≠ (gf_pw i).toNat := by
          intro q
          exact e (gf_pj (by omega) hi (BitVec.toNat_inj.mp q))
        rw [pk_un hne, h2 j (by omega)]
    refine br_f (nI_ge (b := 255) hi (by decide)) ?_
    refine And.intro (vp_in_nI (by omega) (by decide)) (nm_r (e' := upd P i (sc_e (gf_pw i))) (by rw [nI_clamp (by omega), sc_nare]) ?_)
    refine And.intro (by rw [e255]; exact vp_in_nI (by omega) (by decide)) (nm_r (e' := upd (upd P i (sc_e (gf_pw i))) (i + 255) (sc_e (gf_pw i))) (by rw [e255, nI_clamp (by omega), sc_nare]) ?_)
    refine And.intro (sc_e_in _) (nm_r (e' := upd L (gf_pw i).toNat (nI i)) (by rw [sc_e_cl, sc_nar (by omega), sc_narv (by omega)]) ?_)
    refine nm_e (br_c (fun z => ?_) (fun z => ?_))
    · refine nm_r (nI_1 i) ?_
      rw [(sc_dbl _).1 z]
      exact ih (_, _) ⟨hP, hL⟩
    · refine nm_r ((sc_dbl _).2 z) (nm_r (nI_1 i) ?_)
      exact ih (_, _) ⟨hP, hL⟩
/-! the code's polynomial -/
def sc_ow (c : Nat → BitVec 8) (f i : Nat) : BitVec 8 := if i = f then 1#8 else c i
def sc_cy (c : Nat → BitVec 8) (f : Nat) : Nat → BitVec 8
  | 0 => 0#8
  | i + 1 => sc_ow c f i
def sc_ck : Nat → Nat → BitVec 8
  | 0, _ => 0#8
  | f + 1, i => gf_m (sc_ow (sc_ck f) f i) (gf_pw f) ^^^ sc_cy (sc_ck f) f i
theorem sc_ck_s (f i : Nat) : sc_ck (f + 1) i = gf_m (sc_ow (sc_ck f) f i) (gf_pw f) ^^^ sc_cy (sc_ck f) f i := rfl
theorem sc_ck4 : ∀ k, k < 4 → sc_ck 4 k = sc_g k := by decide +kernel
theorem sc_lc42 {post : SX → Prop} {J2 : Int32 → (Nat → Int32) → (Nat → Int32) → (Nat → Int32) → (Nat → Int32) → (Nat → Int32) → (Nat → Int32) → (Nat → Int32) → (Nat → Int32) → (Nat → Int32) → (Nat → Int32) → (Nat → Int32) → (Nat → Int32) → (Nat → Int32) → (Nat → Int32) → Prop}
    {J : Int32 → Int32 → (Nat → Int32) → (Nat → Int32) → (Nat → Int32) → (Nat → Int32) → (Nat → Int32) → (Nat → Int32) → (Nat → Int32) → (Nat → Int32) → (Nat → Int32) → (Nat → Int32) → (Nat → Int32) → (Nat → Int32) → (Nat → Int32) → (Nat → Int32) → Prop}
    (T : sc_Tb aP aL) {f i : Nat} (hi : i < 4) {z : Int32} (hz : z = sc_e (sc_ow (sc_ck f) f i)) (K : J (sc_e (sc_ow (sc_ck f) f i)) (nI (i + 1)) aP aL (upd aC i (sc_e (sc_ck (f + 1) i))) aW aE aT aD aB aF aK aG aS aN aH) :
    wX_layChecker_42 post J2 J (nI f) (sc_e (gf_pw f)) (sc_e (sc_cy (sc_ck f) f i)) (nI i) z fl fn aP aL aC aW aE aT aD aB aF aK aG aS aN aH := by
  subst hz
  refine sc_times T rfl rfl (And.intro (vp_in_nI hi (by decide)) (nm_r (e' := upd aC i (sc_e (sc_ck (f + 1) i))) (by rw [nI_clamp (by omega), sc_e_x, sc_nare, sc_ck_s]) (nm_r (nI_1 i) K)))
theorem sc_lc19 {post : SX → Prop} {J2 : Int32 → (Nat → Int32) → (Nat → Int32) → (Nat → Int32) → (Nat → Int32) → (Nat → Int32) → (Nat → Int32) → (Nat → Int32) → (Nat → Int32) → (Nat → Int32) → (Nat → Int32) → (Nat → Int32) → (Nat → Int32) → (Nat → Int32) → (Nat → Int32) → Prop}
    (T : sc_Tb aP aL) {f : Nat} (hf : f < 4) (hc : ∀ k, k < f → aC k = sc_e (sc_ck f k)) (K : ∀ s : Nat → Int32, (∀ k, k < f + 1 → s k = sc_e (sc_ck (f + 1) k)) → J2 (nI (f + 1)) aP aL s aW aE aT aD aB aF aK aG aS aN aH) :
    ∃ n, wX_layChecker_19 post J2 (nI f) (sc_e (gf_pw f)) fl fn n 0 0 aP aL aC aW aE aT aD aB aF aK aG aS aN aH := by
  refine loop_0 (fun n i s => wX_layChecker_19 post J2 (nI f) (sc_e (gf_pw f)) fl fn n (sc_e (sc_cy (sc_ck f) f i)) (nI i) aP aL s aW aE aT aD aB aF aK aG aS aN aH)
    (fun i s => (∀ k, k < i → s k = sc_e (sc_ck (f + 1) k)) ∧ (∀ k, i ≤ k → k < f → s k = sc_e (sc_ck f k))) (f + 1) aC ⟨fun k hk => absurd hk (by omega), fun k _ hk => hc k hk⟩ ?_ ?_
  · intro n s hs
    exact br_t (nI_lt (by omega) (by omega)) (nm_r (nI_1 f) (K s hs.1))
  · intro n i s hi hs ih
    have hn : (∀ k, k < i + 1 → upd s i (sc_e (sc_ck (f + 1) i)) k = sc_e (sc_ck (f + 1) k)) ∧ (∀ k, i + 1 ≤ k → k < f → upd s i (sc_e (sc_ck (f + 1) i)) k = sc_e (sc_ck f k)) := by
      refine ⟨fun k hk => ?_, fun k hk hk2 => ?_⟩
      · by_cases e : k = i
        · rw [e, pk_us]
        · rw [pk_un e, hs.1 k (by omega)]
      · rw [pk_un (by omega), hs.2 k (by omega) hk2]
    refine br_f (nI_nlt (by omega) (by omega)) (br_c (fun e => ?_) (fun e => ?_))
    · have e2 : i = f := (nI_eq (by omega) (by omega)).mp e
      exact sc_lc42 T (by omega) (by rw [sc_ow, if_pos e2, sc_e_1]) (ih _ hn)
    · have e2 : i ≠ f := fun q => e (by rw [q])
      refine And.intro (vp_in_nI (by omega) (by decide)) (sc_lc42 T (by omega) ?_ (ih _ hn))
      rw [nI_clamp (by omega), sc_ow, if_neg e2, hs.2 i (Nat.le_refl _) (by omega)]
theorem sc_laych {post : SX → Prop} (T : sc_Tb aP aL) (K : ∀ s : Nat → Int32, sc_Ck s → post (fl, fn, aP, aL, s, aW, aE, aT, aD, aB, aF, aK, aG, aS, aN, aH)) : wpX_layChecker post (fl, fn, aP, aL, aC, aW, aE, aT, aD, aB, aF, aK, aG, aS, aN, aH) := by
  refine loop_0 (fun n i s => wX_layChecker_2 post fl fn n (nI i) aP aL s aW aE aT aD aB aF aK aG aS aN aH) (fun i s => ∀ k, k < i → s k = sc_e (sc_ck i k)) 4 aC (fun k hk => absurd hk (by omega)) ?_ ?_
  · intro n s hs
    exact br_t (by decide) (K s (fun j hj => by rw [hs j hj, sc_ck4 j hj]))
  · intro n i s hi hs ih
    refine br_f (nI_ge (b := 4) hi (by decide)) (And.intro (vp_in_nI (by omega) (by decide)) (nm_r (e' := sc_e (gf_pw i)) (by rw [nI_clamp (by omega), T.1 i (by omega)]) ?_))
    exact sc_lc19 T hi hs (fun s' hs' => ih s' hs')
/-! the words -/
def sc_sp (w : Nat) : Nat → Nat → Nat → Nat → Bool
  | 0, _, _, _ => true
  | f + 1, z, r, i => if w / 2 ^ i % 2 = 0 then (if r + 1 ≤ 10 then sc_sp w f (z + 1) (r + 1) (i + 1) else false) else (if 2 ≤ z then sc_sp w f 0 0 (i + 1) else false)
theorem sc_sp_s (w f z r i : Nat) : sc_sp w (f + 1) z r i = if w / 2 ^ i % 2 = 0 then (if r + 1 ≤ 10 then sc_sp w f (z + 1) (r + 1) (i + 1) else false) else (if 2 ≤ z then sc_sp w f 0 0 (i + 1) else false) := rfl
def sc_spn (w : Nat) : Nat := if sc_sp w 14 2 0 0 = true then 1 else 0
def sc_cB : Nat → Nat → Nat
  | 0, lo => sc_spn lo
  | k + 1, lo => sc_cB k lo + sc_cB k (lo + 2 ^ k)
theorem sc_cB_ok (k : Nat) : ∀ lo, sc_sum sc_spn (lo + 2 ^ k) = sc_sum sc_spn lo + sc_cB k lo := by
  induction k with
  | zero => intro lo; rfl
  | succ k ih =>
    intro lo
    rw [Nat.pow_succ, Nat.mul_two, ← Nat.add_assoc, ih, ih, sc_cB, Nat.add_assoc]
theorem sc_cB_14 : 256 ≤ sc_cB 14 0 := by decide +kernel
theorem sc_all : 256 ≤ sc_sum sc_spn 16384 := by
  have h := sc_cB_ok 14 0
  rw [Nat.zero_add] at h
  have h2 := sc_cB_14
  rw [show 16384 = 2 ^ 14 from rfl, h]
  omega
theorem sc_sl : ∀ n, n < 32 → ((nI n &&& 31).toBitVec.smod 32).toNat = n := by decide +kernel
theorem sc_bit {w i : Nat} (hw : w < 16384) (hi : i < 14) : (nI w >>> (nI i &&& 31)) &&& 1 = nI (w / 2 ^ i % 2) := by
  have h1 : w / 2 ^ i ≤ w := Nat.div_le_self _ _
  rw [pk_shrN (by omega) _ i (sc_sl i (by omega))]
  exact pk_andN (by omega) 1 (by decide)
theorem sc_sparl {post : Int32 → Prop} {w : Nat} (hw : w < 16384) : ∀ f z r i, i + f = 14 → z ≤ i + 2 → r ≤ i → post (nI (if sc_sp w f z r i = true then 1 else 0)) → wX_isSparse_6 post (nI w) (f + 1) (nI z) (nI r) (nI i) := by
  intro f
  induction f with
  | zero =>
    intro z r i hi _ _ h
    refine br_t ?_ h
    rw [show i = 14 by omega]
    decide
  | succ f ih =>
    intro z r i hi hz hr h
    refine br_f (nI_ge (b := 14) (by omega) (by decide)) ?_
    rw [sc_bit hw (by omega)]
    rw [sc_sp_s] at h
    have h2 : w / 2 ^ i % 2 < 2 := Nat.mod_lt _ (by decide)
    refine br_c (fun e => ?_) (fun e => ?_)
    · have e0 : w / 2 ^ i % 2 = 0 := (nI_eq (b := 0) (by omega) (by decide)).mp e
      rw [if_pos e0] at h
      refine nm_r (nI_1 z) (nm_r (nI_1 r) (pk_le (r + 1) 10 (fun h10 => ?_) (fun h10 => ?_)))
      · rw [if_pos h10] at h
        exact nm_r (nI_1 i) (ih _ _ _ (by omega) (by omega) (by omega) h)
      · rw [if_neg (show ¬ r + 1 ≤ 10 by omega)] at h
        exact h
    · have e0 : ¬ w / 2 ^ i % 2 = 0 := fun q => e (by rw [q]; rfl)
      rw [if_neg e0] at h
      refine pk_le 2 z (fun h10 => ?_) (fun h10 => ?_)
      · rw [if_pos h10] at h
        exact nm_r (nI_1 i) (ih 0 0 _ (by omega) (by omega) (by omega) h)
      · rw [if_neg (show ¬ 2 ≤ z by omega)] at h
        exact h
theorem sc_spar {post : Int32 → Prop} {w : Nat} (hw : w < 16384) (h : post (nI (sc_spn w))) : wpX_isSparse post (nI w) :=
  ⟨15, sc_sparl hw 14 2 0 0 rfl (by decide) (by decide) h⟩
def sc_Wd (f : Nat → Nat) (aW : Nat → Int32) : Prop := (∀ j, j < 256 → aW j = nI (f j)) ∧ (∀ j, j < 256 → f j < 16384) ∧ (∀ i j, i < j → j < 256 → f i < f j)
theorem sc_wordl {post : SX → Prop} (K : ∀ (s : Nat → Int32) (f : Nat → Nat), sc_Wd f s → post (fl, fn, aP, aL, aC, s, aE, aT, aD, aB, aF, aK, aG, aS, aN, aH)) : ∀ (d w : Nat) (s : Nat → Int32) (f : Nat → Nat), w + d = 16384 → sc_sum sc_spn w ≤ 256 →
    (∀ j, j < sc_sum sc_spn w → s j = nI (f j)) → (∀ j, j < sc_sum sc_spn w → f j < w) → (∀ i j, i < j → j < sc_sum sc_spn w → f i < f j) →
    wX_layWords_4 post fl fn (d + 1) (nI (sc_sum sc_spn w)) (nI w) aP aL aC s aE aT aD aB aF aK aG aS aN aH := by
  intro d
  induction d with
  | zero =>
    intro w s f hw hc h1 h2 h3
    have hw' : w = 16384 := by omega
    subst hw'
    have ha := sc_all
    refine br_t (by decide) (K s f ⟨fun j hj => h1 j (by omega), fun j hj => h2 j (by omega), fun i j hij hj => h3 i j hij (by omega)⟩)
  | succ d ih =>
    intro w s f hw hc h1 h2 h3
    refine br_f (nI_ge (b := 16384) (by omega) (by decide)) (pk_le 256 (sc_sum sc_spn w) (fun h => ?_) (fun h => ?_))
    · exact K s f ⟨fun j hj => h1 j (by omega), fun j hj => by have := h2 j (by omega); omega, fun i j hij hj => h3 i j hij (by omega)⟩
    · refine sc_spar (by omega) (pk_eq (sc_spn w) 0 (fun h0 => ?_) (fun h0 => ?_) rfl rfl (by unfold sc_spn; split <;> decide) (by decide))
      · have e : sc_sum sc_spn (w + 1) = sc_sum sc_spn w := by rw [sc_sum_s, h0, Nat.add_zero]
        have := ih (w + 1) s f (by omega) (by omega) (fun j hj => h1 j (by omega)) (fun j hj => by have := h2 j (by omega); omega) (fun i j hij hj => h3 i j hij (by omega))
        rw [e] at this
        exact nm_r (nI_1 w) this
      · have e1 : sc_spn w = 1 := by
          unfold sc_spn at h0 ⊢
          split
          · rfl
          · rename_i hq
            rw [if_neg hq] at h0
            exact absurd rfl h0
        have e : sc_sum sc_spn (w + 1) = sc_sum sc_spn w + 1 := by rw [sc_sum_s, e1]
        refine And.intro (vp_in_nI h (by decide)) (nm_r (e' := upd s (sc_sum sc_spn w) (nI w)) (by rw [nI_clamp (by omega), sc_nar (by omega), sc_narv (by omega)]) (nm_r (nI_1 _) (nm_r (nI_1 w) ?_)))
        rw [← e]
        refine ih (w + 1) (upd s (sc_sum sc_spn w) (nI w)) (fun j => if j = sc_sum sc_spn w then w else f j) (by omega) (by omega) (fun j hj => ?_) (fun j hj => ?_) (fun i j hij hj => ?_)
        · by_cases ej : j = sc_sum sc_spn w
          · rw [if_pos ej, ej, pk_us]
          · rw [if_neg ej, pk_un ej, h1 j (by omega)]
        · by_cases ej : j = sc_sum sc_spn w
          · rw [if_pos ej]; omega
          · rw [if_neg ej]
            have := h2 j (by omega)
            omega
        · rw [if_neg (show ¬ i = sc_sum sc_spn w by omega)]
          by_cases ej : j = sc_sum sc_spn w
          · rw [if_pos ej]
            exact h2 i (by omega)
          · rw [if_neg ej]
            exact h3 i j hij (by omega)
theorem sc_words {post : SX → Prop} (K : ∀ (s : Nat → Int32) (f : Nat → Nat), sc_Wd f s → post (fl, fn, aP, aL, aC, s, aE, aT, aD, aB, aF, aK, aG, aS, aN, aH)) : wpX_layWords post (fl, fn, aP, aL, aC, aW, aE, aT, aD, aB, aF, aK, aG, aS, aN, aH) :=
  ⟨16385, sc_wordl K 16384 0 aW (fun _ => 0) rfl (by decide) (fun j hj => absurd hj (Nat.not_lt_zero j)) (fun j hj => absurd hj (Nat.not_lt_zero j)) (fun i j _ hj => absurd hj (Nat.not_lt_zero j))⟩
theorem sc_Wd_i {f : Nat → Nat} (h : sc_Wd f aW) {i j : Nat} (hi : i < 256) (hj : j < 256) (e : f i = f j) : i = j := by
  rcases Nat.lt_trichotomy i j with q | q | q
  · have := h.2.2 i j q hj
    omega
  · exact q
  · have := h.2.2 j i q hi
    omega
theorem sc_symbl {post : Int32 → Prop} {f : Nat → Nat} (h : sc_Wd f aW) {v : Nat} (hv : v < 2 ^ 31) (K1 : ∀ y, y < 256 → f y = v → post (nI y)) (K0 : (∀ y, y < 256 → f y ≠ v) → post (-1)) :
    ∀ k lo hi r, r + k = 9 → lo ≤ 256 → hi ≤ 256 → hi < lo + 2 ^ k → (∀ y, y < 256 → f y = v → lo ≤ y ∧ y < hi) → wX_symbolOf_9 post (nI v) fl fn aP aL aC aW aE aT aD aB aF aK aG aS aN aH (k + 1) (nI lo) (nI hi - 1) (nI r) := by
  intro k
  induction k with
  | zero =>
    intro lo hi r hr _ _ hs hy
    refine br_t (by rw [show r = 9 by omega]; decide) (K0 (fun y hy2 e => ?_))
    have := hy y hy2 e
    have e1 : 2 ^ 0 = 1 := rfl
    omega
  | succ k ih =>
    intro lo hi r hr hlo hhi hs hy
    refine br_f (nI_ge (b := 9) (by omega) (by decide)) ?_
    rcases Nat.lt_or_ge lo hi with hl | hl
    · obtain ⟨t, rfl⟩ : ∃ t, hi = t + 1 := ⟨hi - 1, by omega⟩
      rw [nI_pred]
      have em : (nI lo + nI t) / 2 = nI ((lo + t) / 2) := by
        rw [nI_add]
        exact pk_div (d := 2) (by omega) (by decide) (by decide)
      rw [em]
      have hm1 : lo ≤ (lo + t) / 2 := by omega
      have hm2 : (lo + t) / 2 ≤ t := by omega
      have hm3 : 2 * ((lo + t) / 2) ≤ lo + t := by omega
      have hm4 : lo + t ≤ 2 * ((lo + t) / 2) + 1 := by omega
      generalize (lo + t) / 2 = m at hm1 hm2 hm3 hm4
      have hp : 2 ^ (k + 1) = 2 * 2 ^ k := by rw [Nat.pow_succ, Nat.mul_comm]
      rw [hp] at hs
      have hfm : f m < 16384 := h.2.1 m (by omega)
      refine br_f (nI_nlt (by omega) (by omega)) (And.intro (by decide) (nm_e (And.intro (vp_in_nI (by omega) (by decide)) ?_)))
      rw [nI_clamp (show m < 2 ^ 31 by omega), h.1 m (by omega)]
      refine pk_eq (f m) v (fun e => K1 m (by omega) e) (fun e => And.intro (vp_in_nI (by omega) (by decide)) ?_) rfl rfl (by omega) hv
      refine pk_le v (f m) (fun q => ?_) (fun q => ?_) rfl rfl hv (by omega)
      · refine nm_e (nm_r (nI_1 r) (ih lo m (r + 1) (by omega) hlo (by omega) (by omega) (fun y hy2 e2 => ?_)))
        have h1 := hy y hy2 e2
        refine ⟨h1.1, ?_⟩
        rcases Nat.lt_trichotomy y m with z | z | z
        · exact z
        · rw [z] at e2
          exact absurd e2 e
        · have := h.2.2 m y z hy2
          omega
      · have h3 := ih (m + 1) (t + 1) (r + 1) (by omega) (by omega) hhi (by omega) (fun y hy2 e2 => by
          have h1 := hy y hy2 e2
          refine ⟨?_, h1.2⟩
          rcases Nat.lt_trichotomy y m with z | z | z
          · have := h.2.2 y m z (by omega)
            omega
          · rw [z] at e2
            exact absurd e2 e
          · exact z)
        rw [nI_pred] at h3
        exact nm_r (nI_1 m) (nm_r (nI_1 r) h3)
    · have hlt : nI hi - 1 < nI lo := by
        have e1 : (nI hi - 1).toInt = (hi : Int) - 1 := pk_sub_toInt (b := 1) (by omega) (by decide)
        rw [Int32.lt_iff_toInt_lt, e1, nI_toInt (by omega)]
        omega
      refine br_t hlt (K0 (fun y hy2 e => ?_))
      have := hy y hy2 e
      omega
theorem sc_symb {post : Int32 → Prop} {f : Nat → Nat} (h : sc_Wd f aW) {v : Nat} (hv : v < 2 ^ 31) {p : Int32} (hp : p = nI v) (K1 : ∀ y, y < 256 → f y = v → post (nI y)) (K0 : (∀ y, y < 256 → f y ≠ v) → post (-1)) : wpX_symbolOf post (fl, fn, aP, aL, aC, aW, aE, aT, aD, aB, aF, aK, aG, aS, aN, aH) p := by
  subst hp
  refine ⟨10, ?_⟩
  exact sc_symbl h hv K1 K0 9 0 256 0 rfl (by decide) (by decide) (by decide) (fun y hy _ => ⟨Nat.zero_le _, hy⟩)
end SCT
end
section
section SCC
variable {fl fn : Int32} {aP aL aC aW aE aT aD aB aF aK aG aS aN aH : Nat → Int32}
/-! noise -/
def sc_n1 (x : Int32) : Int32 := (x >>> ((1 : Int32) &&& 31)) ||| (((((x ^^^ (x >>> ((2 : Int32) &&& 31))) ^^^ (x >>> ((3 : Int32) &&& 31))) ^^^ (x >>> ((5 : Int32) &&& 31))) &&& 1) <<< ((15 : Int32) &&& 31))
def sc_nn : Nat → Int32 → Int32
  | 0, x => x
  | k + 1, x => sc_n1 (sc_nn k x)
theorem sc_noise {post : Int32 → SX → Prop} (h : post (sc_nn 8 fn &&& 255) (fl, sc_nn 8 fn, aP, aL, aC, aW, aE, aT, aD, aB, aF, aK, aG, aS, aN, aH)) : wpX_nextNoise post (fl, fn, aP, aL, aC, aW, aE, aT, aD, aB, aF, aK, aG, aS, aN, aH) := by
  refine loop_0 (σ := Unit) (fun n i _ => wX_nextNoise_2 post fl aP aL aC aW aE aT aD aB aF aK aG aS aN aH n (nI i) (sc_nn i fn)) (fun _ _ => True) 8 () trivial (fun n s _ => br_t (by decide) h) (fun n i s hi _ ih => br_f (nI_ge (b := 8) hi (by decide)) (nm_e (nm_r (e' := sc_nn (i + 1) fn) rfl (nm_r (nI_1 i) (ih () trivial)))))
def sc_q (s : Nat) : Nat → Int32
  | 0 => 2 * nI s + 1
  | p + 1 => sc_nn 8 (sc_q s p)
def sc_z (s p : Nat) : BitVec 8 := (sc_q s (p + 1)).toBitVec.setWidth 8
theorem sc_q_z (s p : Nat) : sc_nn 8 (sc_q s p) &&& 255 = sc_e (sc_z s p) := by
  rw [pk_and _ (m := 255) 8 (by decide)]
  unfold sc_e sc_z
  rw [BitVec.toNat_setWidth]
  rfl
theorem sc_cell {post : Int32 → Prop} {p : Nat} (hp : p < 64) (h : post (nI (sc_co p))) : wpX_cellOf post (nI p) := by
  have e : nI p * 37 + 11 = nI (p * 37 + 11) := by
    rw [show (37 : Int32) = nI 37 from rfl, show (11 : Int32) = nI 11 from rfl, pk_mul, nI_add]
  have e2 : nI (p * 37 + 11) - nI (p * 37 + 11) / 64 * 64 = nI (sc_co p) := pk_rem (d := 64) (by omega) (by decide) (by decide)
  refine And.intro (by decide) ?_
  rw [e, e2]
  exact h
def sc_w (f : Nat → Nat) (b : Nat → BitVec 8) (s p : Nat) : Nat := f (sc_sq b p ^^^ sc_z s p).toNat
theorem sc_w_lt {f : Nat → Nat} (h : sc_Wd f aW) (b : Nat → BitVec 8) (s p : Nat) : sc_w f b s p < 16384 := h.2.1 _ (BitVec.isLt _)
theorem sc_w_congr {f : Nat → Nat} {b d : Nat → BitVec 8} (h : ∀ i, i < 16 → b i = d i) (s p : Nat) : sc_w f b s p = sc_w f d s p := by
  unfold sc_w
  rw [sc_sq_congr h]
theorem sc_64 (s c : Nat) : nI s * 64 + nI c = nI (64 * s + c) := by
  rw [show (64 : Int32) = nI 64 from rfl, pk_mul, nI_add, Nat.mul_comm]
theorem sc_vb0 : vp_nar .boolean 0 = 0 := by decide
theorem sc_vb1 : vp_nar .boolean 1 = 1 := by decide
def sc_out (s j : Nat) : Prop := j < 64 * s ∨ 64 * s + 64 ≤ j
theorem sc_out_ne {s j p : Nat} (h : sc_out s j) : j ≠ 64 * s + sc_co p := by
  have := sc_co_lt p
  unfold sc_out at h
  omega
/-! writing a sector -/
theorem sc_store {post : SX → Prop} (T : sc_Tb aP aL) (hC : sc_Ck aC) {f : Nat → Nat} (hW : sc_Wd f aW) {s : Nat} (hs : s < 5) {b : Nat → BitVec 8} (hb : ∀ i, i < 16 → aB i = sc_e (b i)) {q : Int32} (hq : q = nI s)
    (K : ∀ (fl' n' : Int32) (e t sy ln : Nat → Int32), (fl = nI s → fl' = -1) → (¬ fl = nI s → fl' = fl) → (∀ p, p < 64 → e (64 * s + sc_co p) = nI (sc_w f b s p)) → (∀ j, sc_out s j → e j = aE j) → (s < 4 → ∀ c, c < 64 → t (64 * s + c) = 0) → (∀ j, sc_out s j → t j = aT j) →
      post (fl', n', aP, aL, aC, aW, e, t, aD, aB, aF, aK, aG, sy, ln, aH)) : wpX_store post (fl, fn, aP, aL, aC, aW, aE, aT, aD, aB, aF, aK, aG, aS, aN, aH) q := by
  subst hq
  refine sc_code T hC hb (fun sy ln hsy => nm_r (e' := sc_q s 0) rfl ?_)
  refine loop_0 (σ := (Nat → Int32) × (Nat → Int32)) (fun n p st => wX_store_11 post (nI s) n (nI p) fl (sc_q s p) aP aL aC aW st.1 st.2 aD aB aF aK aG sy ln aH)
    (fun p st => (∀ k, k < p → st.1 (64 * s + sc_co k) = nI (sc_w f b s k)) ∧ (∀ j, sc_out s j → st.1 j = aE j) ∧ (s < 4 → ∀ k, k < p → st.2 (64 * s + sc_co k) = 0) ∧ (∀ j, sc_out s j → st.2 j = aT j)) 64 (aE, aT)
    ⟨fun k hk => absurd hk (by omega), fun j _ => rfl, fun _ k hk => absurd hk (by omega), fun j _ => rfl⟩ ?_ ?_
  · rintro n ⟨e, t⟩ ⟨h1, h2, h3, h4⟩
    dsimp only at h1 h2 h3 h4 ⊢
    have h5 : s < 4 → ∀ c, c < 64 → t (64 * s + c) = 0 := by
      intro h c hc
      have := h3 h (sc_oc c) (sc_oc_lt c)
      rwa [sc_co_oc hc] at this
    refine br_t (by decide) (br_c (fun e1 => ?_) (fun e1 => ?_))
    · exact K (-1) _ e t sy ln (fun _ => rfl) (fun z => absurd e1 z) h1 h2 h5 h4
    · exact K fl _ e t sy ln (fun z => absurd z e1) (fun _ => rfl) h1 h2 h5 h4
  · rintro n p ⟨e, t⟩ hp ⟨h1, h2, h3, h4⟩ ih
    dsimp only at h1 h2 h3 h4 ih ⊢
    have hco := sc_co_lt p
    have hw := sc_w_lt hW b s p
    have g1 : ∀ k, k < p + 1 → upd e (64 * s + sc_co p) (nI (sc_w f b s p)) (64 * s + sc_co k) = nI (sc_w f b s k) := by
      intro k hk
      by_cases ek : k = p
      · rw [ek, pk_us]
      · rw [pk_un (fun z => ek (sc_co_inj (by omega) hp (by omega))), h1 k (by omega)]
    have g2 : ∀ j, sc_out s j → upd e (64 * s + sc_co p) (nI (sc_w f b s p)) j = aE j := by
      intro j hj
      rw [pk_un (sc_out_ne hj), h2 j hj]
    refine br_f (nI_ge (b := 64) hp (by decide)) (And.intro (vp_in_nI hp (by decide)) (sc_noise ?_))
    refine nm_r (e' := sc_e (sc_sq b p ^^^ sc_z s p)) (by rw [nI_clamp (by omega), hsy p hp, sc_q_z, sc_e_x]) (sc_cell hp (nm_r (sc_64 s (sc_co p)) ?_))
    refine And.intro (sc_e_in _) (And.intro (vp_in_nI (by omega) (by decide)) (nm_r (e' := upd e (64 * s + sc_co p) (nI (sc_w f b s p))) (by rw [nI_clamp (by omega), sc_e_cl, hW.1 _ (BitVec.isLt _)]; exact congrArg _ (sc_narv (n := sc_w f b s p) (by omega))) ?_))
    refine pk_le 4 s (fun h => nm_r (nI_1 p) (ih (upd e (64 * s + sc_co p) (nI (sc_w f b s p)), t) ⟨g1, g2, fun z => absurd z (by omega), h4⟩)) (fun h => ?_)
    refine And.intro (vp_in_nI (by omega) (by decide)) (nm_r (e' := upd t (64 * s + sc_co p) 0) (by rw [nI_clamp (by omega), sc_vb0]) (nm_r (nI_1 p) (ih (upd e (64 * s + sc_co p) (nI (sc_w f b s p)), upd t (64 * s + sc_co p) 0) ⟨g1, g2, fun z k hk => ?_, fun j hj => ?_⟩)))
    · dsimp only
      by_cases ek : k = p
      · rw [ek, pk_us]
      · rw [pk_un (fun z => ek (sc_co_inj (by omega) hp (by omega))), h3 z k (by omega)]
    · dsimp only
      rw [pk_un (sc_out_ne hj), h4 j hj]
/-! reading a sector -/
def sc_df (f : Nat → Nat) (b : Nat → BitVec 8) (s : Nat) (v : Nat → Nat) (p : Nat) : Nat := if v (sc_co p) = sc_w f b s p then 0 else 1
theorem sc_fetch {post : SX → Prop} (T : sc_Tb aP aL) {f : Nat → Nat} (hW : sc_Wd f aW) {s : Nat} (hs : s < 5) {q : Int32} (hq : q = nI s) {v : Nat → Nat} (hv : ∀ c, c < 64 → aE (64 * s + c) = nI (v c)) (hv2 : ∀ c, c < 64 → v c < 2 ^ 31)
    {b : Nat → BitVec 8} (hc : sc_sum (sc_df f b s v) 64 ≤ 8)
    (K : ∀ (n' : Int32) (x sy m h : Nat → Int32), (∀ i, i < 16 → x i = sc_e (b i)) → post (fl, n', aP, aL, aC, aW, aE, aT, aD, x, aF, aK, aG, sy, m, h)) : wpX_fetch post (fl, fn, aP, aL, aC, aW, aE, aT, aD, aB, aF, aK, aG, aS, aN, aH) q := by
  subst hq
  refine nm_r (e' := sc_q s 0) rfl ?_
  refine loop_0 (fun n p st => wX_fetch_7 post (nI s) n (nI p) fl (sc_q s p) aP aL aC aW aE aT aD aB aF aK aG st aN aH) (fun p st => ∃ g : Nat → BitVec 8, ∀ k, k < p → st k = sc_e (g k) ∧ (v (sc_co k) = sc_w f b s k → g k = sc_sq b k)) 64 aS ⟨fun _ => 0#8, fun k hk => absurd hk (by omega)⟩ ?_ ?_
  · rintro n st ⟨g, hg⟩
    have hc2 : sc_sum (sc_ne g (sc_sq b)) 64 ≤ 8 := by
      refine Nat.le_trans (sc_sum_le 64 (fun p hp => ?_)) hc
      unfold sc_ne sc_df
      by_cases e : v (sc_co p) = sc_w f b s p
      · rw [if_pos e, if_pos ((hg p hp).2 e)]
        exact Nat.le_refl _
      · rw [if_neg e]
        split <;> omega
    exact br_t (by decide) (sc_mends T (fun p hp => (hg p hp).1) hc2 (fun x sy m h hx => K _ x sy m h hx))
  · rintro n p st hp ⟨g, hg⟩ ih
    have hco := sc_co_lt p
    refine br_f (nI_ge (b := 64) hp (by decide)) (sc_cell hp (nm_r (sc_64 s (sc_co p)) (And.intro (vp_in_nI (by omega) (by decide)) ?_)))
    refine sc_symb hW (hv2 _ hco) (by rw [nI_clamp (by omega), hv _ hco]) (fun y hy ey => sc_noise ?_) (fun hy => sc_noise ?_)
    · refine br_t (nI_pos' (by omega)) (And.intro (vp_in_nI hp (by decide)) (nm_r (e' := upd st p (sc_e (BitVec.ofNat 8 y ^^^ sc_z s p))) ?_ (nm_r (nI_1 p) (ih (upd st p (sc_e (BitVec.ofNat 8 y ^^^ sc_z s p))) ⟨fun k => if k = p then BitVec.ofNat 8 y ^^^ sc_z s p else g k, fun k hk => ?_⟩))))
      · have e1 : nI y = sc_e (BitVec.ofNat 8 y) := by
          unfold sc_e
          rw [BitVec.toNat_ofNat, Nat.mod_eq_of_lt hy]
        rw [nI_clamp (by omega), sc_q_z, e1, sc_e_x]
      · dsimp only
        by_cases ek : k = p
        · subst ek
          refine ⟨by rw [if_pos rfl, pk_us], fun ev => ?_⟩
          rw [if_pos rfl]
          have e2 : y = (sc_sq b k ^^^ sc_z s k).toNat := sc_Wd_i hW hy (BitVec.isLt _) (ey.trans ev)
          have e3 : BitVec.ofNat 8 y = sc_sq b k ^^^ sc_z s k := by
            apply BitVec.eq_of_toNat_eq
            rw [BitVec.toNat_ofNat, Nat.mod_eq_of_lt hy, e2]
          rw [e3, BitVec.xor_assoc, BitVec.xor_self, BitVec.xor_zero]
        · rw [if_neg ek, pk_un ek]
          exact hg k (by omega)
    · refine br_f (by decide) (And.intro (vp_in_nI hp (by decide)) (nm_r (e' := upd st p (sc_e 0#8)) (by rw [nI_clamp (by omega), sc_e_0]) (nm_r (nI_1 p) (ih (upd st p (sc_e 0#8)) ⟨fun k => if k = p then 0#8 else g k, fun k hk => ?_⟩))))
      dsimp only
      by_cases ek : k = p
      · subst ek
        refine ⟨by rw [if_pos rfl, pk_us], fun ev => ?_⟩
        exact absurd ev.symm (hy _ (BitVec.isLt _))
      · rw [if_neg ek, pk_un ek]
        exact hg k (by omega)
theorem sc_comp {post : Int32 → SX → Prop} (T : sc_Tb aP aL) (hC : sc_Ck aC) {f : Nat → Nat} (hW : sc_Wd f aW) {s : Nat} (hs : s < 5) {q : Int32} (hq : q = nI s) {v : Nat → Nat} (hv : ∀ c, c < 64 → aE (64 * s + c) = nI (v c)) (hv2 : ∀ c, c < 64 → v c < 2 ^ 31)
    {b : Nat → BitVec 8} (hb : ∀ i, i < 16 → aB i = sc_e (b i))
    (K : ∀ (n' : Int32) (sy m : Nat → Int32), post (nI (sc_sum (sc_df f b s v) 64)) (fl, n', aP, aL, aC, aW, aE, aT, aD, aB, aF, aK, aG, sy, m, aH)) : wpX_compare post (fl, fn, aP, aL, aC, aW, aE, aT, aD, aB, aF, aK, aG, aS, aN, aH) q := by
  subst hq
  refine sc_code T hC hb (fun sy ln hsy => nm_r (e' := sc_q s 0) rfl ?_)
  refine loop_0 (σ := Unit) (fun n p _ => wX_compare_13 post (nI s) n (nI (sc_sum (sc_df f b s v) p)) (nI p) fl (sc_q s p) aP aL aC aW aE aT aD aB aF aK aG sy ln aH) (fun _ _ => True) 64 () trivial (fun n _ _ => br_t (by decide) (K _ sy ln)) ?_
  intro n p _ hp _ ih
  have hco := sc_co_lt p
  have hw := sc_w_lt hW b s p
  refine br_f (nI_ge (b := 64) hp (by decide)) (And.intro (vp_in_nI hp (by decide)) (sc_noise ?_))
  refine nm_r (e' := sc_e (sc_sq b p ^^^ sc_z s p)) (by rw [nI_clamp (by omega), hsy p hp, sc_q_z, sc_e_x]) (sc_cell hp (nm_r (sc_64 s (sc_co p)) ?_))
  refine And.intro (vp_in_nI (by omega) (by decide)) (And.intro (sc_e_in _) ?_)
  have e1 : aW (sc_e (sc_sq b p ^^^ sc_z s p)).toNatClampNeg = nI (sc_w f b s p) := by
    rw [sc_e_cl, hW.1 _ (BitVec.isLt _)]
    rfl
  have e2 : aE (nI (64 * s + sc_co p)).toNatClampNeg = nI (v (sc_co p)) := by
    rw [nI_clamp (by omega), hv _ hco]
  rw [e1, e2]
  refine pk_eq (v (sc_co p)) (sc_w f b s p) (fun e => ?_) (fun e => ?_) rfl rfl (hv2 _ hco) (by omega)
  · have h := ih () trivial
    rw [sc_sum_s, show sc_df f b s v p = 0 from if_pos e, Nat.add_zero] at h
    exact nm_r (by rw [Int32.add_zero]) (nm_r (nI_1 p) h)
  · have h := ih () trivial
    rw [sc_sum_s, show sc_df f b s v p = 1 from if_neg e] at h
    exact nm_r (nI_1 _) (nm_r (nI_1 p) h)
end SCC
end
section
section SCX
variable {fl fn : Int32} {aP aL aC aW aE aT aD aB aF aK aG aS aN aH : Nat → Int32}
/-! what the cells hold -/
def sc_xs (b : Nat → Nat → BitVec 8) (i : Nat) : BitVec 8 := b 0 i ^^^ (b 1 i ^^^ (b 2 i ^^^ b 3 i))
def sc_bq (b : Nat → Nat → BitVec 8) (s : Nat) : Nat → BitVec 8 := if s = 4 then sc_xs b else b s
def sc_hits (aT : Nat → Int32) (s : Nat) (c : Nat) : Nat := if aT (64 * s + c) = 0 then 0 else 1
def sc_XR (f : Nat → Nat) (b : Nat → Nat → BitVec 8) (t : Nat → Nat) (fl : Int32) (aE aT : Nat → Int32) : Prop :=
  (fl = -1 ∨ ∃ s, s < 4 ∧ fl = nI s) ∧ (∀ j, j < 256 → t j < 16384) ∧ (∀ j, j < 256 → t j ≠ 0 → aT j ≠ 0) ∧ (∀ s, s < 4 → sc_sum (sc_hits aT s) 64 ≤ 8) ∧
  (∀ s, s < 4 → ¬ fl = nI s → ∀ p, p < 64 → aE (64 * s + sc_co p) = nI (sc_w f (b s) s p ^^^ t (64 * s + sc_co p))) ∧ (∀ p, p < 64 → aE (64 * 4 + sc_co p) = nI (sc_w f (sc_xs b) 4 p))
def sc_tt (t : Nat → Nat) (s c : Nat) : Nat := if s = 4 then 0 else t (64 * s + c)
def sc_v (f : Nat → Nat) (b : Nat → Nat → BitVec 8) (t : Nat → Nat) (s c : Nat) : Nat := sc_w f (sc_bq b s) s (sc_oc c) ^^^ sc_tt t s c
theorem sc_bq4 (b : Nat → Nat → BitVec 8) : sc_bq b 4 = sc_xs b := if_pos rfl
theorem sc_bqs (b : Nat → Nat → BitVec 8) {s : Nat} (h : s < 4) : sc_bq b s = b s := if_neg (by omega)
theorem sc_fl4 {f : Nat → Nat} {b : Nat → Nat → BitVec 8} {t : Nat → Nat} (h : sc_XR f b t fl aE aT) : ¬ fl = nI 4 := by
  rcases h.1 with e | ⟨s, hs, e⟩
  · rw [e]; decide
  · rw [e, nI_eq (by omega) (by decide)]; omega
theorem sc_v_ok {f : Nat → Nat} {b : Nat → Nat → BitVec 8} {t : Nat → Nat} (h : sc_XR f b t fl aE aT) {s : Nat} (hs : s < 5) (hl : ¬ fl = nI s) {c : Nat} (hc : c < 64) : aE (64 * s + c) = nI (sc_v f b t s c) := by
  obtain ⟨_, _, _, _, h5, h6⟩ := h
  have e : sc_co (sc_oc c) = c := sc_co_oc hc
  unfold sc_v sc_tt
  by_cases e4 : s = 4
  · subst e4
    have := h6 (sc_oc c) (sc_oc_lt c)
    rw [e] at this
    rw [this, if_pos rfl, sc_bq4, Nat.xor_zero]
  · have := h5 s (by omega) hl (sc_oc c) (sc_oc_lt c)
    rw [e] at this
    rw [this, if_neg e4, sc_bqs b (by omega)]
theorem sc_xlt {a b : Nat} (ha : a < 16384) (hb : b < 16384) : a ^^^ b < 16384 := Nat.xor_lt_two_pow (n := 14) ha hb
theorem sc_tt_lt {f : Nat → Nat} {b : Nat → Nat → BitVec 8} {t : Nat → Nat} (h : sc_XR f b t fl aE aT) {s : Nat} (hs : s < 5) {c : Nat} (hc : c < 64) : sc_tt t s c < 16384 := by
  unfold sc_tt
  split
  · decide
  · exact h.2.1 _ (by omega)
theorem sc_v_lt {f : Nat → Nat} (hW : sc_Wd f aW) {b : Nat → Nat → BitVec 8} {t : Nat → Nat} (h : sc_XR f b t fl aE aT) {s : Nat} (hs : s < 5) {c : Nat} (hc : c < 64) : sc_v f b t s c < 2 ^ 31 :=
  Nat.lt_trans (sc_xlt (sc_w_lt hW _ _ _) (sc_tt_lt h hs hc)) (by decide)
theorem sc_xeq {a t : Nat} : a ^^^ t = a ↔ t = 0 := by
  constructor
  · intro h
    have h2 : a ^^^ (a ^^^ t) = 0 := by rw [h, Nat.xor_self]
    rwa [← Nat.xor_assoc, Nat.xor_self, Nat.zero_xor] at h2
  · intro h
    rw [h, Nat.xor_zero]
def sc_n0 (t : Nat) : Nat := if t = 0 then 0 else 1
theorem sc_df_v (f : Nat → Nat) (b : Nat → Nat → BitVec 8) (t : Nat → Nat) (s : Nat) {p : Nat} (hp : p < 64) : sc_df f (sc_bq b s) s (sc_v f b t s) p = sc_n0 (sc_tt t s (sc_co p)) := by
  unfold sc_df sc_v sc_n0
  rw [sc_oc_co hp]
  by_cases e : sc_tt t s (sc_co p) = 0
  · rw [if_pos (sc_xeq.mpr e), if_pos e]
  · rw [if_neg (fun z => e (sc_xeq.mp z)), if_neg e]
theorem sc_cnt (f : Nat → Nat) (b : Nat → Nat → BitVec 8) (t : Nat → Nat) (s : Nat) : sc_sum (sc_df f (sc_bq b s) s (sc_v f b t s)) 64 = sc_sum (fun c => sc_n0 (sc_tt t s c)) 64 := by
  rw [sc_sum_congr (g := fun p => (fun c => sc_n0 (sc_tt t s c)) (sc_co p)) 64 (fun p hp => sc_df_v f b t s hp)]
  exact sc_sum_co (fun c => sc_n0 (sc_tt t s c))
theorem sc_cnt8 {f : Nat → Nat} {b : Nat → Nat → BitVec 8} {t : Nat → Nat} (h : sc_XR f b t fl aE aT) {s : Nat} (hs : s < 5) : sc_sum (sc_df f (sc_bq b s) s (sc_v f b t s)) 64 ≤ 8 := by
  rw [sc_cnt]
  by_cases e : s = 4
  · rw [sc_sum_0 64 (fun c _ => ?_)]
    · omega
    · unfold sc_n0 sc_tt
      rw [if_pos e, if_pos rfl]
  · refine Nat.le_trans (sc_sum_le 64 (fun c hc => ?_)) (h.2.2.2.1 s (by omega))
    unfold sc_n0 sc_hits sc_tt
    rw [if_neg e]
    by_cases z : t (64 * s + c) = 0
    · rw [if_pos z]
      exact Nat.zero_le _
    · rw [if_neg z, if_neg (h.2.2.1 _ (by omega) z)]
      exact Nat.le_refl _
/-- a sector that isn't lost gives its bytes -/
theorem sc_fet {post : SX → Prop} (T : sc_Tb aP aL) {f : Nat → Nat} (hW : sc_Wd f aW) {b : Nat → Nat → BitVec 8} {t : Nat → Nat} (h : sc_XR f b t fl aE aT) {s : Nat} (hs : s < 5) (hl : ¬ fl = nI s) {q : Int32} (hq : q = nI s)
    (K : ∀ (n' : Int32) (x sy m h : Nat → Int32), (∀ i, i < 16 → x i = sc_e (sc_bq b s i)) → post (fl, n', aP, aL, aC, aW, aE, aT, aD, x, aF, aK, aG, sy, m, h)) : wpX_fetch post (fl, fn, aP, aL, aC, aW, aE, aT, aD, aB, aF, aK, aG, aS, aN, aH) q :=
  sc_fetch T hW hs hq (fun c hc => sc_v_ok h hs hl hc) (fun c hc => sc_v_lt hW h hs hc) (sc_cnt8 h hs) K
theorem sc_gather {post : SX → Prop} {x y : Nat → BitVec 8} (hx : ∀ i, i < 16 → aG i = sc_e (x i)) (hy : ∀ i, i < 16 → aB i = sc_e (y i)) (K : ∀ g : Nat → Int32, (∀ i, i < 16 → g i = sc_e (x i ^^^ y i)) → post (fl, fn, aP, aL, aC, aW, aE, aT, aD, aB, aF, aK, g, aS, aN, aH)) : wpX_gather post (fl, fn, aP, aL, aC, aW, aE, aT, aD, aB, aF, aK, aG, aS, aN, aH) := by
  refine sc_fill (N := 16) (fun n i s => wX_gather_2 post fl fn n i aP aL aC aW aE aT aD aB aF aK s aS aN aH) (fun i => sc_e (x i ^^^ y i)) aG (fun n s hs => br_t (by decide) (K s hs)) (fun n i s hi hk ih => br_f (nI_ge (b := 16) hi (by decide)) ?_)
  have hi' : vp_in (nI i) 16 := vp_in_nI hi (by decide)
  exact And.intro hi' (And.intro hi' (And.intro hi' (nm_r (e' := upd s i (sc_e (x i ^^^ y i))) (by rw [nI_clamp (by omega), hk i (Nat.le_refl _), hx i hi, hy i hi, sc_e_x]) (nm_r (nI_1 i) ih))))
theorem sc_fresh {post : SX → Prop} {y : Nat → BitVec 8} (hy : ∀ i, i < 16 → aB i = sc_e (y i)) (K : ∀ g : Nat → Int32, (∀ i, i < 16 → g i = sc_e (y i)) → post (fl, fn, aP, aL, aC, aW, aE, aT, aD, aB, g, aK, aG, aS, aN, aH)) : wpX_freshen post (fl, fn, aP, aL, aC, aW, aE, aT, aD, aB, aF, aK, aG, aS, aN, aH) := by
  refine sc_fill (N := 16) (fun n i s => wX_freshen_2 post fl fn n i aP aL aC aW aE aT aD aB s aK aG aS aN aH) (fun i => sc_e (y i)) aF (fun n s hs => br_t (by decide) (K s hs)) (fun n i s hi hk ih => br_f (nI_ge (b := 16) hi (by decide)) ?_)
  have hi' : vp_in (nI i) 16 := vp_in_nI hi (by decide)
  exact And.intro hi' (And.intro hi' (nm_r (e' := upd s i (sc_e (y i))) (by rw [nI_clamp (by omega), hy i hi]) (nm_r (nI_1 i) ih)))
def sc_acc (b : Nat → Nat → BitVec 8) (s : Nat) : Nat → Nat → BitVec 8
  | 0, _ => 0#8
  | k + 1, i => if k = s then sc_acc b s k i else sc_acc b s k i ^^^ sc_bq b k i
theorem sc_acc_s (b : Nat → Nat → BitVec 8) (s k i : Nat) : sc_acc b s (k + 1) i = if k = s then sc_acc b s k i else sc_acc b s k i ^^^ sc_bq b k i := rfl
theorem sc_acc5 (b : Nat → Nat → BitVec 8) {s : Nat} (hs : s < 4) (i : Nat) : sc_acc b s 5 i = b s i := by
  rw [sc_acc_s, sc_acc_s, sc_acc_s, sc_acc_s, sc_acc_s, sc_bq4, sc_bqs b (show 0 < 4 by decide), sc_bqs b (show 1 < 4 by decide), sc_bqs b (show 2 < 4 by decide), sc_bqs b (show 3 < 4 by decide), show sc_acc b s 0 i = 0#8 from rfl]
  unfold sc_xs
  rcases (by omega : s = 0 ∨ s = 1 ∨ s = 2 ∨ s = 3) with h | h | h | h
  · subst h
    rw [if_neg (by decide), if_neg (by decide), if_neg (by decide), if_neg (by decide), if_pos rfl]
    simp only [gf_xr, gf_rx, gf_a, gf_c, gf_lc, BitVec.xor_assoc, BitVec.xor_comm, gf_xl, BitVec.xor_self, gf_xs, BitVec.xor_zero, BitVec.zero_xor, gf_0m, gf_m0]
  · subst h
    rw [if_neg (by decide), if_neg (by decide), if_neg (by decide), if_pos rfl, if_neg (by decide)]
    simp only [gf_xr, gf_rx, gf_a, gf_c, gf_lc, BitVec.xor_assoc, BitVec.xor_comm, gf_xl, BitVec.xor_self, gf_xs, BitVec.xor_zero, BitVec.zero_xor, gf_0m, gf_m0]
  · subst h
    rw [if_neg (by decide), if_neg (by decide), if_pos rfl, if_neg (by decide), if_neg (by decide)]
    simp only [gf_xr, gf_rx, gf_a, gf_c, gf_lc, BitVec.xor_assoc, BitVec.xor_comm, gf_xl, BitVec.xor_self, gf_xs, BitVec.xor_zero, BitVec.zero_xor, gf_0m, gf_m0]
  · subst h
    rw [if_neg (by decide), if_pos rfl, if_neg (by decide), if_neg (by decide), if_neg (by decide)]
    simp only [gf_xr, gf_rx, gf_a, gf_c, gf_lc, BitVec.xor_assoc, BitVec.xor_comm, gf_xl, BitVec.xor_self, gf_xs, BitVec.xor_zero, BitVec.zero_xor, gf_0m, gf_m0]
theorem sc_load64 {post : SX → Prop} {y : Nat → BitVec 8} (hy : ∀ i, i < 16 → aG i = sc_e (y i)) (K : ∀ g : Nat → Int32, (∀ i, i < 16 → g i = sc_e (y i)) → post (fl, fn, aP, aL, aC, aW, aE, aT, aD, g, aF, aK, aG, aS, aN, aH)) : ∃ n, wX_load_64 post fl fn n 0 aP aL aC aW aE aT aD aB aF aK aG aS aN aH := by
  refine sc_fill (N := 16) (fun n i s => wX_load_64 post fl fn n i aP aL aC aW aE aT aD s aF aK aG aS aN aH) (fun i => sc_e (y i)) aB (fun n s hs => br_t (by decide) (K s hs)) (fun n i s hi hk ih => br_f (nI_ge (b := 16) hi (by decide)) ?_)
  have hi' : vp_in (nI i) 16 := vp_in_nI hi (by decide)
  exact And.intro hi' (And.intro hi' (nm_r (e' := upd s i (sc_e (y i))) (by rw [nI_clamp (by omega), hy i hi]) (nm_r (nI_1 i) ih)))
theorem sc_load37 {post : SX → Prop} (T : sc_Tb aP aL) {f : Nat → Nat} (hW : sc_Wd f aW) {b : Nat → Nat → BitVec 8} {t : Nat → Nat} {s : Nat} (h : sc_XR f b t (nI s) aE aT) (hs : s < 4) (hg : ∀ i, i < 16 → aG i = sc_e 0#8)
    (K : ∀ (n' : Int32) (x g sy m h : Nat → Int32), (∀ i, i < 16 → x i = sc_e (b s i)) → post (nI s, n', aP, aL, aC, aW, aE, aT, aD, x, aF, aK, g, sy, m, h)) : ∃ n, wX_load_37 post (nI s) n 0 (nI s) fn aP aL aC aW aE aT aD aB aF aK aG aS aN aH := by
  refine loop_0 (σ := Int32 × (Nat → Int32) × (Nat → Int32) × (Nat → Int32) × (Nat → Int32) × (Nat → Int32)) (fun n k st => wX_load_37 post (nI s) n (nI k) (nI s) st.1 aP aL aC aW aE aT aD st.2.1 aF aK st.2.2.1 st.2.2.2.1 st.2.2.2.2.1 st.2.2.2.2.2)
    (fun k st => ∀ i, i < 16 → st.2.2.1 i = sc_e (sc_acc b s k i)) 5 (fn, aB, aG, aS, aN, aH) hg ?_ ?_
  · rintro n ⟨n', x, g, sy, m, hh⟩ hI
    dsimp only at hI ⊢
    refine br_t (by decide) (sc_load64 (y := b s) (fun i hi => ?_) (fun x hx => K n' x g sy m hh hx))
    rw [hI i hi, sc_acc5 b hs]
  · rintro n k ⟨n', x, g, sy, m, hh⟩ hk hI ih
    dsimp only at hI ih ⊢
    refine br_f (nI_nlt (a := 4) (by omega) (by decide)) (pk_eq k s (fun e => ?_) (fun e => ?_))
    · refine nm_r (nI_1 k) (ih (n', x, g, sy, m, hh) (fun i hi => ?_))
      dsimp only
      rw [hI i hi, sc_acc_s, if_pos e]
    · refine sc_fet T hW h hk (fun z => e ((nI_eq (by omega) (by omega)).mp z).symm) rfl (fun n' x sy m hh hx => ?_)
      refine sc_gather hI hx (fun g' hg' => nm_r (nI_1 k) (ih (n', x, g', sy, m, hh) (fun i hi => ?_)))
      dsimp only
      rw [hg' i hi, sc_acc_s, if_neg e]
/-- any sector gives its bytes -/
theorem sc_load {post : SX → Prop} (T : sc_Tb aP aL) {f : Nat → Nat} (hW : sc_Wd f aW) {b : Nat → Nat → BitVec 8} {t : Nat → Nat} (h : sc_XR f b t fl aE aT) {s : Nat} (hs : s < 4)
    (K : ∀ (n' : Int32) (x g sy m h : Nat → Int32), (∀ i, i < 16 → x i = sc_e (b s i)) → post (fl, n', aP, aL, aC, aW, aE, aT, aD, x, aF, aK, g, sy, m, h)) : wpX_load post (fl, fn, aP, aL, aC, aW, aE, aT, aD, aB, aF, aK, aG, aS, aN, aH) (nI s) := by
  refine br_c (fun e => ?_) (fun e => ?_)
  · subst e
    refine sc_fill (N := 16) (fun n i g => wX_load_16 post (nI s) (nI s) fn n i aP aL aC aW aE aT aD aB aF aK g aS aN aH) (fun i => sc_e 0#8) aG (fun n g hg => br_t (by decide) (sc_load37 T hW h hs hg K)) (fun n i g hi hk ih => br_f (nI_ge (b := 16) hi (by decide)) ?_)
    exact And.intro (vp_in_nI hi (by decide)) (nm_r (e' := upd g i (sc_e 0#8)) (by rw [nI_clamp (by omega), sc_e_0]) (nm_r (nI_1 i) ih))
  · refine sc_fet T hW h (by omega) (fun z => e z.symm) rfl (fun n' x sy m hh hx => K n' x aG sy m hh (fun i hi => ?_))
    rw [hx i hi, sc_bqs b hs]
/-- the number of spoiled cells -/
theorem sc_wrong {post : Int32 → SX → Prop} (T : sc_Tb aP aL) (hC : sc_Ck aC) {f : Nat → Nat} (hW : sc_Wd f aW) {b : Nat → Nat → BitVec 8} {t : Nat → Nat} (h : sc_XR f b t fl aE aT) {s : Nat} (hs : s < 4) (hb : ∀ i, i < 16 → aB i = sc_e (b s i))
    (K : ∀ (r n' : Int32) (sy m : Nat → Int32), (nI s = fl → r = 64) → (¬ nI s = fl → r = nI (sc_sum (fun c => sc_n0 (t (64 * s + c))) 64)) → post r (fl, n', aP, aL, aC, aW, aE, aT, aD, aB, aF, aK, aG, sy, m, aH)) : wpX_wrongCells post (fl, fn, aP, aL, aC, aW, aE, aT, aD, aB, aF, aK, aG, aS, aN, aH) (nI s) := by
  refine br_c (fun e => K 64 fn aS aN (fun _ => rfl) (fun z => absurd e z)) (fun e => ?_)
  refine sc_comp T hC hW (show s < 5 by omega) rfl (fun c hc => sc_v_ok h (by omega) (fun z => e z.symm) hc) (fun c hc => sc_v_lt hW h (by omega) hc) (b := sc_bq b s) (fun i hi => by rw [hb i hi, sc_bqs b hs]) (fun n' sy m => K _ n' sy m (fun z => absurd z e) (fun _ => ?_))
  rw [sc_cnt]
  refine congrArg nI (sc_sum_congr 64 (fun c hc => ?_))
  unfold sc_tt
  rw [if_neg (by omega)]
/-! writing -/
def sc_sb (b : Nat → Nat → BitVec 8) (s : Nat) (x : Nat → BitVec 8) : Nat → Nat → BitVec 8 := fun q => if q = s then x else b q
def sc_st (t : Nat → Nat) (s : Nat) : Nat → Nat := fun j => if j / 64 = s then 0 else t j
theorem sc_xs_sb (b : Nat → Nat → BitVec 8) {s : Nat} (hs : s < 4) (x : Nat → BitVec 8) (i : Nat) : sc_xs b i ^^^ (b s i ^^^ x i) = sc_xs (sc_sb b s x) i := by
  unfold sc_xs sc_sb
  rcases (by omega : s = 0 ∨ s = 1 ∨ s = 2 ∨ s = 3) with h | h | h | h
  · subst h
    rw [if_pos rfl, if_neg (by decide), if_neg (by decide), if_neg (by decide)]
    simp only [gf_xr, gf_rx, gf_a, gf_c, gf_lc, BitVec.xor_assoc, BitVec.xor_comm, gf_xl, BitVec.xor_self, gf_xs, BitVec.xor_zero, BitVec.zero_xor, gf_0m, gf_m0]
  · subst h
    rw [if_neg (by decide), if_pos rfl, if_neg (by decide), if_neg (by decide)]
    simp only [gf_xr, gf_rx, gf_a, gf_c, gf_lc, BitVec.xor_assoc, BitVec.xor_comm, gf_xl, BitVec.xor_self, gf_xs, BitVec.xor_zero, BitVec.zero_xor, gf_0m, gf_m0]
  · subst h
    rw [if_neg (by decide), if_neg (by decide), if_pos rfl, if_neg (by decide)]
    simp only [gf_xr, gf_rx, gf_a, gf_c, gf_lc, BitVec.xor_assoc, BitVec.xor_comm, gf_xl, BitVec.xor_self, gf_xs, BitVec.xor_zero, BitVec.zero_xor, gf_0m, gf_m0]
  · subst h
    rw [if_neg (by decide), if_neg (by decide), if_neg (by decide), if_pos rfl]
    simp only [gf_xr, gf_rx, gf_a, gf_c, gf_lc, BitVec.xor_assoc, BitVec.xor_comm, gf_xl, BitVec.xor_self, gf_xs, BitVec.xor_zero, BitVec.zero_xor, gf_0m, gf_m0]
theorem sc_hits0 {T' : Nat → Int32} {s : Nat} (h : ∀ c, c < 64 → T' (64 * s + c) = 0) : sc_sum (sc_hits T' s) 64 = 0 :=
  sc_sum_0 64 (fun c hc => if_pos (h c hc))
theorem sc_hits_c {T' : Nat → Int32} {s : Nat} (h : ∀ c, c < 64 → T' (64 * s + c) = aT (64 * s + c)) : sc_sum (sc_hits T' s) 64 = sc_sum (sc_hits aT s) 64 :=
  sc_sum_congr 64 (fun c hc => by unfold sc_hits; rw [h c hc])
theorem sc_outs {s q c : Nat} (h : q ≠ s) (hc : c < 64) : sc_out s (64 * q + c) := by
  unfold sc_out
  omega
/-- the relation of the cells behind a store of a sector's bytes x (the sum's cells fit them already) -/
theorem sc_XR_st {f : Nat → Nat} {b : Nat → Nat → BitVec 8} {t : Nat → Nat} (h : sc_XR f b t fl aE aT) {s : Nat} (hs : s < 4) {x : Nat → BitVec 8} {fl' : Int32} {e t' : Nat → Int32}
    (h1 : fl = nI s → fl' = -1) (h2 : ¬ fl = nI s → fl' = fl) (h3 : ∀ p, p < 64 → e (64 * s + sc_co p) = nI (sc_w f x s p)) (h4 : ∀ q, q < 4 → q ≠ s → ∀ c, c < 64 → e (64 * q + c) = aE (64 * q + c))
    (h4' : ∀ p, p < 64 → e (64 * 4 + sc_co p) = nI (sc_w f (sc_xs (sc_sb b s x)) 4 p)) (h5 : ∀ c, c < 64 → t' (64 * s + c) = 0) (h6 : ∀ q, q < 4 → q ≠ s → ∀ c, c < 64 → t' (64 * q + c) = aT (64 * q + c)) : sc_XR f (sc_sb b s x) (sc_st t s) fl' e t' := by
  obtain ⟨g1, g2, g3, g4, g5, g6⟩ := h
  refine ⟨?_, fun j hj => ?_, fun j hj => ?_, fun q hq => ?_, fun q hq hl p hp => ?_, h4'⟩
  · by_cases e1 : fl = nI s
    · exact Or.inl (h1 e1)
    · rw [h2 e1]
      exact g1
  · unfold sc_st
    split
    · decide
    · exact g2 j hj
  · unfold sc_st
    split
    · exact fun z => absurd rfl z
    · rename_i hne
      intro z
      have e1 := h6 (j / 64) (by omega) hne (j % 64) (by omega)
      rw [Nat.div_add_mod] at e1
      rw [e1]
      exact g3 j hj z
  · by_cases e1 : q = s
    · rw [e1, sc_hits0 h5]
      omega
    · rw [sc_hits_c (h6 q hq e1)]
      exact g4 q hq
  · have hco := sc_co_lt p
    unfold sc_sb sc_st
    by_cases e1 : q = s
    · subst e1
      rw [if_pos rfl, if_pos (by omega), Nat.xor_zero, h3 p hp]
    · rw [if_neg e1, if_neg (by omega), h4 q hq e1 _ hco]
      refine g5 q hq (fun z => hl ?_) p hp
      rw [h2 (fun w => e1 ((nI_eq (by omega) (by omega)).mp (z.symm.trans w))), z]
theorem sc_r79 {post : SX → Prop} (T : sc_Tb aP aL) (hC : sc_Ck aC) {f : Nat → Nat} (hW : sc_Wd f aW) {s : Nat} (hs : s < 4) {x : Nat → BitVec 8} (hx : ∀ i, i < 16 → aF i = sc_e (x i))
    (K : ∀ (fl' n' : Int32) (e t bb sy ln : Nat → Int32), (fl = nI s → fl' = -1) → (¬ fl = nI s → fl' = fl) → (∀ p, p < 64 → e (64 * s + sc_co p) = nI (sc_w f x s p)) → (∀ j, sc_out s j → e j = aE j) → (∀ c, c < 64 → t (64 * s + c) = 0) → (∀ j, sc_out s j → t j = aT j) →
      post (fl', n', aP, aL, aC, aW, e, t, aD, bb, aF, aK, aG, sy, ln, aH)) : ∃ n, wX_replace_79 post (nI s) fl fn n 0 aP aL aC aW aE aT aD aB aF aK aG aS aN aH := by
  refine sc_fill (N := 16) (fun n i g => wX_replace_79 post (nI s) fl fn n i aP aL aC aW aE aT aD g aF aK aG aS aN aH) (fun i => sc_e (x i)) aB (fun n g hg => br_t (by decide) (sc_store T hC hW (show s < 5 by omega) hg rfl (fun fl' n' e t sy ln k1 k2 k3 k4 k5 k6 => K fl' n' e t g sy ln k1 k2 k3 k4 (k5 hs) k6))) (fun n i g hi hk ih => br_f (nI_ge (b := 16) hi (by decide)) ?_)
  have hi' : vp_in (nI i) 16 := vp_in_nI hi (by decide)
  exact And.intro hi' (And.intro hi' (nm_r (e' := upd g i (sc_e (x i))) (by rw [nI_clamp (by omega), hx i hi]) (nm_r (nI_1 i) ih)))
theorem sc_r45 {post : SX → Prop} (T : sc_Tb aP aL) (hC : sc_Ck aC) {f : Nat → Nat} (hW : sc_Wd f aW) {b : Nat → Nat → BitVec 8} {t : Nat → Nat} (h : sc_XR f b t fl aE aT) {s : Nat} (hs : s < 4) {x : Nat → BitVec 8} (hx : ∀ i, i < 16 → aF i = sc_e (x i))
    (hg : ∀ i, i < 16 → aG i = sc_e (b s i ^^^ x i)) (hb : ∀ i, i < 16 → aB i = sc_e (sc_xs b i))
    (K : ∀ (fl' n' : Int32) (e t' bb sy ln : Nat → Int32), (fl = nI s → fl' = -1) → (¬ fl = nI s → fl' = fl) → sc_XR f (sc_sb b s x) (sc_st t s) fl' e t' → (∀ c, c < 64 → t' (64 * s + c) = 0) → (∀ q, q < 4 → q ≠ s → ∀ c, c < 64 → t' (64 * q + c) = aT (64 * q + c)) →
      post (fl', n', aP, aL, aC, aW, e, t', aD, bb, aF, aK, aG, sy, ln, aH)) : ∃ n, wX_replace_45 post (nI s) fl fn n 0 aP aL aC aW aE aT aD aB aF aK aG aS aN aH := by
  have h4 := sc_fl4 h
  refine sc_fill (N := 16) (fun n i g => wX_replace_45 post (nI s) fl fn n i aP aL aC aW aE aT aD g aF aK aG aS aN aH) (fun i => sc_e (sc_xs (sc_sb b s x) i)) aB (fun n g hg => br_t (by decide) ?_) (fun n i g hi hk ih => br_f (nI_ge (b := 16) hi (by decide)) ?_)
  · refine sc_store T hC hW (s := 4) (by decide) hg rfl (fun fl1 n1 e1 t1 sy1 ln1 k1 k2 k3 k4 k5 k6 => ?_)
    have ef : fl1 = fl := k2 h4
    subst ef
    refine sc_r79 T hC hW hs hx (fun fl' n' e t' bb sy ln m1 m2 m3 m4 m5 m6 => ?_)
    have hq : ∀ q, q < 4 → q ≠ s → ∀ c, c < 64 → t' (64 * q + c) = aT (64 * q + c) := by
      intro q hq hne c hc
      rw [m6 _ (sc_outs hne hc), k6 _ (sc_outs (by omega) hc)]
    refine K fl' n' e t' bb sy ln m1 m2 (sc_XR_st h hs m1 m2 m3 (fun q hq hne c hc => ?_) (fun p hp => ?_) m5 hq) m5 hq
    · rw [m4 _ (sc_outs hne hc), k4 _ (sc_outs (by omega) hc)]
    · rw [m4 _ (sc_outs (by omega) (sc_co_lt p)), k3 p hp]
  · have hi' : vp_in (nI i) 16 := vp_in_nI hi (by decide)
    exact And.intro hi' (And.intro hi' (And.intro hi' (nm_r (e' := upd g i (sc_e (sc_xs (sc_sb b s x) i))) (by rw [nI_clamp (by omega), hk i (Nat.le_refl _), hb i hi, hg i hi, sc_e_x, sc_xs_sb b hs]) (nm_r (nI_1 i) ih))))
/-- the fresh bytes are written -/
theorem sc_repl {post : SX → Prop} (T : sc_Tb aP aL) (hC : sc_Ck aC) {f : Nat → Nat} (hW : sc_Wd f aW) {b : Nat → Nat → BitVec 8} {t : Nat → Nat} (h : sc_XR f b t fl aE aT) {s : Nat} (hs : s < 4) {x : Nat → BitVec 8} (hx : ∀ i, i < 16 → aF i = sc_e (x i))
    (K : ∀ (fl' n' : Int32) (e t' bb g sy ln hh : Nat → Int32), (fl = nI s → fl' = -1) → (¬ fl = nI s → fl' = fl) → sc_XR f (sc_sb b s x) (sc_st t s) fl' e t' → (∀ c, c < 64 → t' (64 * s + c) = 0) → (∀ q, q < 4 → q ≠ s → ∀ c, c < 64 → t' (64 * q + c) = aT (64 * q + c)) →
      post (fl', n', aP, aL, aC, aW, e, t', aD, bb, aF, aK, g, sy, ln, hh)) : wpX_replace post (fl, fn, aP, aL, aC, aW, aE, aT, aD, aB, aF, aK, aG, aS, aN, aH) (nI s) := by
  refine sc_load T hW h hs (fun n1 x1 g1 sy1 m1 h1 hx1 => ?_)
  refine sc_fill (N := 16) (fun n i g => wX_replace_7 post (nI s) fl n1 n i aP aL aC aW aE aT aD x1 aF aK g sy1 m1 h1) (fun i => sc_e (b s i ^^^ x i)) g1 (fun n g hg => br_t (by decide) ?_) (fun n i g hi hk ih => br_f (nI_ge (b := 16) hi (by decide)) ?_)
  · refine sc_fet T hW h (s := 4) (by decide) (sc_fl4 h) rfl (fun n2 x2 sy2 m2 h2 hx2 => ?_)
    rw [sc_bq4] at hx2
    exact sc_r45 T hC hW h hs hx hg hx2 (fun fl' n' e t' bb sy ln k1 k2 k3 k4 k5 => K fl' n' e t' bb g sy ln h2 k1 k2 k3 k4 k5)
  · have hi' : vp_in (nI i) 16 := vp_in_nI hi (by decide)
    exact And.intro hi' (And.intro hi' (And.intro hi' (nm_r (e' := upd g i (sc_e (b s i ^^^ x i))) (by rw [nI_clamp (by omega), hx1 i hi, hx i hi, sc_e_x]) (nm_r (nI_1 i) ih))))
end SCX
end
section
section SCY
variable {fg : Int32} {yD yB yR yH : Nat → Int32}
/-! the reference's methods -/
def sc_bad (v : Int32) : Prop := v < 0 ∨ nI 4 ≤ v
theorem sc_or (v : Int32) : sc_bad v ∨ ∃ s, s < 4 ∧ v = nI s := by
  rcases pk_ix v (n := 4) (by decide) with h | h | h
  · exact Or.inl (Or.inl h)
  · exact Or.inl (Or.inr h)
  · exact Or.inr h
theorem sc_nbad {s : Nat} (hs : s < 4) : ¬ sc_bad (nI s) := by
  intro h
  rcases h with h | h
  · exact nI_pos (by omega) h
  · exact nI_ge (b := 4) hs (by decide) h
theorem sc_xsec {post : Int32 → Prop} {s : Nat} (hs : s < 4) (h : post 1) : wpX_isSector post (nI s) := br_f (nI_pos (by omega)) (br_f (nI_ge (b := 4) hs (by decide)) h)
theorem sc_xsec0 {post : Int32 → Prop} {v : Int32} (hv : sc_bad v) (h : post 0) : wpX_isSector post v := br_c (fun _ => h) (fun e => br_t (hv.resolve_left e) h)
theorem sc_ysec {post : Int32 → Prop} {s : Nat} (hs : s < 4) (h : post 1) : wpY_sector post (fg, yD, yB, yR, yH) (nI s) := br_f (nI_pos (by omega)) (br_f (nI_nlt (a := 3) (by omega) (by decide)) h)
theorem sc_ysec0 {post : Int32 → Prop} {v : Int32} (hv : sc_bad v) (h : post 0) : wpY_sector post (fg, yD, yB, yR, yH) v := br_c (fun _ => h) (fun e => br_t (Int32.lt_of_lt_of_le (by decide) (hv.resolve_left e)) h)
theorem sc_ypl {post : Int32 → Prop} {s : Nat} (hs : s < 16) (h : post 1) : wpY_place post (fg, yD, yB, yR, yH) (nI s) := br_f (nI_pos (by omega)) (br_f (nI_nlt (a := 15) (by omega) (by decide)) h)
theorem sc_ypl0 {post : Int32 → Prop} {v : Int32} (hv : v < 0 ∨ nI 16 ≤ v) (h : post 0) : wpY_place post (fg, yD, yB, yR, yH) v := br_c (fun _ => h) (fun e => br_t (Int32.lt_of_lt_of_le (by decide) (hv.resolve_left e)) h)
theorem sc_y64 (s c : Nat) : 64 * nI s + nI c = nI (64 * s + c) := by
  rw [show (64 : Int32) = nI 64 from rfl, pk_mul, nI_add]
theorem sc_y16 (s c : Nat) : 16 * nI s + nI c = nI (16 * s + c) := by
  rw [show (16 : Int32) = nI 16 from rfl, pk_mul, nI_add]
theorem sc_renew {post : SY → Prop} {s : Nat} (hs : s < 4) (K : ∀ (fg' : Int32) (R H : Nat → Int32), (fg = nI s → fg' = -1) → (¬ fg = nI s → fg' = fg) → (∀ c, c < 64 → R (64 * s + c) = 0) → (∀ j, sc_out s j → R j = yR j) → (∀ c, c < 64 → H (64 * s + c) = 0) → (∀ j, sc_out s j → H j = yH j) →
    post (fg', yD, yB, R, H)) : wpY_renew post (fg, yD, yB, yR, yH) (nI s) := by
  refine loop_0 (σ := (Nat → Int32) × (Nat → Int32)) (fun n c st => wY_renew_2 post (nI s) fg n (nI c) yD yB st.1 st.2)
    (fun c st => (∀ k, k < c → st.1 (64 * s + k) = 0) ∧ (∀ j, sc_out s j → st.1 j = yR j) ∧ (∀ k, k < c → st.2 (64 * s + k) = 0) ∧ (∀ j, sc_out s j → st.2 j = yH j)) 64 (yR, yH)
    ⟨fun k hk => absurd hk (by omega), fun j _ => rfl, fun k hk => absurd hk (by omega), fun j _ => rfl⟩ ?_ ?_
  · rintro n ⟨R, H⟩ ⟨h1, h2, h3, h4⟩
    dsimp only at h1 h2 h3 h4 ⊢
    refine br_t (by decide) (br_c (fun e1 => ?_) (fun e1 => ?_))
    · exact K (-1) R H (fun _ => rfl) (fun z => absurd e1 z) h1 h2 h3 h4
    · exact K fg R H (fun z => absurd z e1) (fun _ => rfl) h1 h2 h3 h4
  · rintro n c ⟨R, H⟩ hc ⟨h1, h2, h3, h4⟩ ih
    dsimp only at h1 h2 h3 h4 ih ⊢
    refine br_f (nI_ge (b := 64) hc (by decide)) ?_
    rw [sc_y64, nI_clamp (show 64 * s + c < 2 ^ 31 by omega), sc_vb0]
    have hi : vp_in (nI (64 * s + c)) 256 := vp_in_nI (by omega) (by decide)
    refine And.intro hi (nm_e (And.intro hi (nm_e (nm_r (nI_1 c) (ih (upd R (64 * s + c) 0, upd H (64 * s + c) 0) ⟨fun k hk => ?_, fun j hj => ?_, fun k hk => ?_, fun j hj => ?_⟩)))))
    · dsimp only
      by_cases e : k = c
      · rw [e, pk_us]
      · rw [pk_un (by omega), h1 k (by omega)]
    · dsimp only
      unfold sc_out at hj
      rw [pk_un (by omega), h2 j hj]
    · dsimp only
      by_cases e : k = c
      · rw [e, pk_us]
      · rw [pk_un (by omega), h3 k (by omega)]
    · dsimp only
      unfold sc_out at hj
      rw [pk_un (by omega), h4 j hj]
theorem sc_rt {t : Nat → Nat} (hR : ∀ j, j < 256 → yR j = nI (t j)) {s : Nat} (hs : s < 4) {R : Nat → Int32} (h1 : ∀ c, c < 64 → R (64 * s + c) = 0) (h2 : ∀ j, sc_out s j → R j = yR j) : ∀ j, j < 256 → R j = nI (sc_st t s j) := by
  intro j hj
  unfold sc_st
  by_cases e : j / 64 = s
  · have := h1 (j % 64) (by omega)
    rw [show 64 * s + j % 64 = j by omega] at this
    rw [if_pos e, this]
    rfl
  · rw [if_neg e, h2 j (by unfold sc_out; omega), hR j hj]
theorem sc_rh {aT T' : Nat → Int32} (hH : ∀ j, j < 256 → yH j = aT j) {s : Nat} (hs : s < 4) {H : Nat → Int32} (h1 : ∀ c, c < 64 → H (64 * s + c) = 0) (h2 : ∀ j, sc_out s j → H j = yH j) (k1 : ∀ c, c < 64 → T' (64 * s + c) = 0) (k2 : ∀ q, q < 4 → q ≠ s → ∀ c, c < 64 → T' (64 * q + c) = aT (64 * q + c)) : ∀ j, j < 256 → H j = T' j := by
  intro j hj
  by_cases e : j / 64 = s
  · have a := h1 (j % 64) (by omega)
    have b := k1 (j % 64) (by omega)
    rw [show 64 * s + j % 64 = j by omega] at a b
    rw [a, b]
  · have b := k2 (j / 64) (by omega) e (j % 64) (by omega)
    rw [Nat.div_add_mod] at b
    rw [h2 j (by unfold sc_out; omega), hH j hj, b]
/-- renewing, with the table of turns and the hits -/
theorem sc_ren {post : SY → Prop} {s : Nat} (hs : s < 4) {t : Nat → Nat} {aT T' : Nat → Int32} (hR : ∀ j, j < 256 → yR j = nI (t j)) (hH : ∀ j, j < 256 → yH j = aT j) (k1 : ∀ c, c < 64 → T' (64 * s + c) = 0) (k2 : ∀ q, q < 4 → q ≠ s → ∀ c, c < 64 → T' (64 * q + c) = aT (64 * q + c))
    (K : ∀ (fg' : Int32) (R H : Nat → Int32), (fg = nI s → fg' = -1) → (¬ fg = nI s → fg' = fg) → (∀ j, j < 256 → R j = nI (sc_st t s j)) → (∀ j, j < 256 → H j = T' j) → post (fg', yD, yB, R, H)) : wpY_renew post (fg, yD, yB, yR, yH) (nI s) :=
  sc_renew hs (fun fg' R H m1 m2 m3 m4 m5 m6 => K fg' R H m1 m2 (sc_rt hR hs m3 m4) (sc_rh hH hs m5 m6 k1 k2))
theorem sc_ywr {post : Int32 → SY → Prop} {s : Nat} (hs : s < 4) {b : Nat → Nat → BitVec 8} (hB : ∀ q, q < 4 → ∀ i, i < 16 → yB (16 * q + i) = sc_e (b q i)) {x : Nat → BitVec 8} (hx : ∀ i, i < 16 → yD i = sc_e (x i))
    {t : Nat → Nat} {aT T' : Nat → Int32} (hR : ∀ j, j < 256 → yR j = nI (t j)) (hH : ∀ j, j < 256 → yH j = aT j) (k1 : ∀ c, c < 64 → T' (64 * s + c) = 0) (k2 : ∀ q, q < 4 → q ≠ s → ∀ c, c < 64 → T' (64 * q + c) = aT (64 * q + c))
    (K : ∀ (fg' : Int32) (B R H : Nat → Int32), (fg = nI s → fg' = -1) → (¬ fg = nI s → fg' = fg) → (∀ q, q < 4 → ∀ i, i < 16 → B (16 * q + i) = sc_e (sc_sb b s x q i)) → (∀ j, j < 256 → R j = nI (sc_st t s j)) → (∀ j, j < 256 → H j = T' j) → post 1 (fg', yD, B, R, H)) : wpY_write post (fg, yD, yB, yR, yH) (nI s) := by
  refine loop_0 (fun n i B => wY_write_2 post (nI s) fg n (nI i) yD B yR yH) (fun i B => (∀ k, k < i → B (16 * s + k) = sc_e (x k)) ∧ ∀ j, (j < 16 * s ∨ 16 * s + i ≤ j) → B j = yB j) 16 yB ⟨fun k hk => absurd hk (by omega), fun j _ => rfl⟩ ?_ ?_
  · rintro n B ⟨h1, h2⟩
    have h3 : ∀ q, q < 4 → ∀ i, i < 16 → B (16 * q + i) = sc_e (sc_sb b s x q i) := by
      intro q hq i hi
      unfold sc_sb
      by_cases e : q = s
      · rw [e, if_pos rfl, h1 i hi]
      · rw [if_neg e, h2 _ (by omega), hB q hq i hi]
    exact br_t (by decide) (sc_ysec hs (br_f (by decide) (sc_ren hs hR hH k1 k2 (fun fg' R H m1 m2 m3 m4 => sc_ysec hs (And.intro rfl (K fg' B R H m1 m2 h3 m3 m4))))))
  · rintro n i B hi ⟨h1, h2⟩ ih
    refine br_f (nI_ge (b := 16) hi (by decide)) (sc_ysec hs (br_f (by decide) ?_))
    rw [sc_y16, nI_clamp (show 16 * s + i < 2 ^ 31 by omega), nI_clamp (show i < 2 ^ 31 by omega), hx i hi]
    refine And.intro (vp_in_nI hi (by decide)) (And.intro (vp_in_nI (by omega) (by decide)) (nm_e (nm_r (nI_1 i) (ih _ ⟨fun k hk => ?_, fun j hj => ?_⟩))))
    · by_cases e : k = i
      · rw [e, pk_us]
      · rw [pk_un (by omega), h1 k (by omega)]
    · rw [pk_un (by omega), h2 j (by omega)]
theorem sc_ywr0 {post : Int32 → SY → Prop} {v : Int32} (hv : sc_bad v) (h : post 0 (fg, yD, yB, yR, yH)) : wpY_write post (fg, yD, yB, yR, yH) v :=
  ⟨1, br_f (by decide) (sc_ysec0 hv (br_t rfl (sc_ysec0 hv (br_t rfl (sc_ysec0 hv (And.intro rfl h))))))⟩
theorem sc_yspo {post : Int32 → Prop} {s : Nat} (hs : s < 4) {t : Nat → Nat} (hR : ∀ j, j < 256 → yR j = nI (t j)) (ht : ∀ j, j < 256 → t j < 16384)
    (K : ∀ r : Int32, (nI s = fg → r = 64) → (¬ nI s = fg → r = nI (sc_sum (fun c => sc_n0 (t (64 * s + c))) 64)) → post r) : wpY_spoiled post (fg, yD, yB, yR, yH) (nI s) := by
  refine loop_0 (σ := Unit) (fun n c _ => wY_spoiled_4 post (nI s) fg yD yB yR yH n (nI (sc_sum (fun c => sc_n0 (t (64 * s + c))) c)) (nI c)) (fun _ _ => True) 64 () trivial ?_ ?_
  · intro n _ _
    exact br_t (by decide) (sc_ysec hs (br_f (by decide) (br_c (fun e => K 64 (fun _ => rfl) (fun z => absurd e z)) (fun e => K _ (fun z => absurd z e) (fun _ => rfl)))))
  · intro n c _ hc _ ih
    have h := ih () trivial
    have htc := ht (64 * s + c) (by omega)
    refine br_f (nI_ge (b := 64) hc (by decide)) (sc_ysec hs (br_f (by decide) ?_))
    rw [sc_y64, nI_clamp (show 64 * s + c < 2 ^ 31 by omega), hR _ (by omega)]
    refine And.intro (vp_in_nI (by omega) (by decide)) (pk_eq (t (64 * s + c)) 0 (fun e => ?_) (fun e => ?_))
    · rw [sc_sum_s, show sc_n0 (t (64 * s + c)) = 0 from if_pos e, Nat.add_zero] at h
      exact nm_r (nI_1 c) h
    · rw [sc_sum_s, show sc_n0 (t (64 * s + c)) = 1 from if_neg e] at h
      exact nm_r (nI_1 _) (nm_r (nI_1 c) h)
theorem sc_yspo0 {post : Int32 → Prop} {v : Int32} (hv : sc_bad v) (h : post (-1)) : wpY_spoiled post (fg, yD, yB, yR, yH) v :=
  ⟨1, br_f (by decide) (sc_ysec0 hv (br_t rfl (sc_ysec0 hv (br_t rfl h))))⟩
theorem sc_yrd {post : Int32 → SY → Prop} {s : Nat} (hs : s < 4) {b : Nat → Nat → BitVec 8} (hB : ∀ q, q < 4 → ∀ i, i < 16 → yB (16 * q + i) = sc_e (b q i)) {t : Nat → Nat} (hR : ∀ j, j < 256 → yR j = nI (t j)) (ht : ∀ j, j < 256 → t j < 16384)
    (K : ∀ (r : Int32) (D : Nat → Int32), (nI s = fg → r = 64) → (¬ nI s = fg → r = nI (sc_sum (fun c => sc_n0 (t (64 * s + c))) 64)) → (∀ i, i < 16 → D i = sc_e (b s i)) → post r (fg, D, yB, yR, yH)) : wpY_read post (fg, yD, yB, yR, yH) (nI s) := by
  refine sc_fill (N := 16) (fun n i D => wY_read_2 post (nI s) fg n i D yB yR yH) (fun i => sc_e (b s i)) yD (fun n D hD => br_t (by decide) (sc_yspo hs hR ht (fun r h1 h2 => K r D h1 h2 hD))) (fun n i D hi hk ih => br_f (nI_ge (b := 16) hi (by decide)) (sc_ysec hs (br_f (by decide) ?_)))
  rw [sc_y16, nI_clamp (show 16 * s + i < 2 ^ 31 by omega), nI_clamp (show i < 2 ^ 31 by omega), hB s hs i hi]
  exact And.intro (vp_in_nI (by omega) (by decide)) (And.intro (vp_in_nI hi (by decide)) (nm_e (nm_r (nI_1 i) ih)))
theorem sc_yrd0 {post : Int32 → SY → Prop} {v : Int32} (hv : sc_bad v) (h : post (-1) (fg, yD, yB, yR, yH)) : wpY_read post (fg, yD, yB, yR, yH) v :=
  ⟨1, br_f (by decide) (sc_ysec0 hv (br_t rfl (sc_yspo0 hv h)))⟩
theorem sc_ytou {post : Int32 → Prop} {s : Nat} (hs : s < 4) (K : post (nI (sc_sum (sc_hits yH s) 64))) : wpY_touched post (fg, yD, yB, yR, yH) (nI s) := by
  refine loop_0 (σ := Unit) (fun n c _ => wY_touched_4 post (nI s) fg yD yB yR yH n (nI (sc_sum (sc_hits yH s) c)) (nI c)) (fun _ _ => True) 64 () trivial ?_ ?_
  · intro n _ _
    exact br_t (by decide) (sc_ysec hs (br_f (by decide) K))
  · intro n c _ hc _ ih
    have h := ih () trivial
    refine br_f (nI_ge (b := 64) hc (by decide)) (sc_ysec hs (br_f (by decide) ?_))
    rw [sc_y64, nI_clamp (show 64 * s + c < 2 ^ 31 by omega)]
    refine And.intro (vp_in_nI (by omega) (by decide)) (br_c (fun e => ?_) (fun e => ?_))
    · rw [sc_sum_s, show sc_hits yH s c = 0 from if_pos e, Nat.add_zero] at h
      exact nm_r (nI_1 c) h
    · rw [sc_sum_s, show sc_hits yH s c = 1 from if_neg e] at h
      exact nm_r (nI_1 _) (nm_r (nI_1 c) h)
theorem sc_ytou0 {post : Int32 → Prop} {v : Int32} (hv : sc_bad v) (h : post (-1)) : wpY_touched post (fg, yD, yB, yR, yH) v :=
  ⟨1, br_f (by decide) (sc_ysec0 hv (br_t rfl (sc_ysec0 hv (br_t rfl h))))⟩
theorem sc_ycp {post : Int32 → SY → Prop} {s q : Nat} (hs : s < 4) (hq : q < 4) {b : Nat → Nat → BitVec 8} (hB : ∀ q, q < 4 → ∀ i, i < 16 → yB (16 * q + i) = sc_e (b q i))
    {t : Nat → Nat} {aT T' : Nat → Int32} (hR : ∀ j, j < 256 → yR j = nI (t j)) (hH : ∀ j, j < 256 → yH j = aT j) (k1 : ∀ c, c < 64 → T' (64 * q + c) = 0) (k2 : ∀ r, r < 4 → r ≠ q → ∀ c, c < 64 → T' (64 * r + c) = aT (64 * r + c))
    (K : ∀ (fg' : Int32) (B R H : Nat → Int32), (fg = nI q → fg' = -1) → (¬ fg = nI q → fg' = fg) → (∀ r, r < 4 → ∀ i, i < 16 → B (16 * r + i) = sc_e (sc_sb b q (b s) r i)) → (∀ j, j < 256 → R j = nI (sc_st t q j)) → (∀ j, j < 256 → H j = T' j) → post 1 (fg', yD, B, R, H)) : wpY_copy post (fg, yD, yB, yR, yH) (nI s) (nI q) := by
  unfold wpY_copy
  refine sc_ysec hs ?_
  refine br_f (by decide) ?_
  refine sc_ysec hq ?_
  refine br_f (by decide) ?_
  refine loop_0 (fun n i B => wY_copy_20 post (nI s) (nI q) fg n (nI i) yD B yR yH) (fun i B => (∀ k, k < i → B (16 * q + k) = sc_e (b s k)) ∧ ∀ j, (j < 16 * q ∨ 16 * q + i ≤ j) → B j = yB j) 16 yB ⟨fun k hk => absurd hk (by omega), fun j _ => rfl⟩ ?_ ?_
  · rintro n B ⟨h1, h2⟩
    have h3 : ∀ r, r < 4 → ∀ i, i < 16 → B (16 * r + i) = sc_e (sc_sb b q (b s) r i) := by
      intro r hr i hi
      unfold sc_sb
      by_cases e : r = q
      · rw [e, if_pos rfl, h1 i hi]
      · rw [if_neg e, h2 _ (by omega), hB r hr i hi]
    exact br_t (by decide) (sc_ren hq hR hH k1 k2 (fun fg' R H m1 m2 m3 m4 => K fg' B R H m1 m2 h3 m3 m4))
  · rintro n i B hi ⟨h1, h2⟩ ih
    refine br_f (nI_ge (b := 16) hi (by decide)) ?_
    have e1 : B (16 * s + i) = sc_e (b s i) := by
      rw [h2 _ (by omega), hB s hs i hi]
    rw [sc_y16, sc_y16, nI_clamp (show 16 * s + i < 2 ^ 31 by omega), nI_clamp (show 16 * q + i < 2 ^ 31 by omega), e1]
    refine And.intro (vp_in_nI (by omega) (by decide)) (And.intro (vp_in_nI (by omega) (by decide)) (nm_e (nm_r (nI_1 i) (ih _ ⟨fun k hk => ?_, fun j hj => ?_⟩))))
    · by_cases e : k = i
      · rw [e, pk_us]
      · rw [pk_un (by omega), h1 k (by omega)]
    · rw [pk_un (by omega), h2 j (by omega)]
theorem sc_ysm {post : Int32 → Prop} {s q : Nat} (hs : s < 4) (hq : q < 4) {b : Nat → Nat → BitVec 8} (hB : ∀ q, q < 4 → ∀ i, i < 16 → yB (16 * q + i) = sc_e (b q i))
    (K1 : (∀ i, i < 16 → b q i = b s i) → post 1) (K0 : (¬ ∀ i, i < 16 → b q i = b s i) → post 0) : wpY_same post (fg, yD, yB, yR, yH) (nI s) (nI q) := by
  unfold wpY_same
  refine sc_ysec hs ?_
  refine br_f (by decide) ?_
  refine sc_ysec hq ?_
  refine br_f (by decide) ?_
  refine loop_0 (fun n i x => wY_same_25 post (nI s) (nI q) fg yD yB yR yH n x (nI i)) (fun i x => (x = 1 ∧ ∀ k, k < i → b q k = b s k) ∨ (x = 0 ∧ ¬ ∀ i, i < 16 → b q i = b s i)) 16 1 (Or.inl ⟨rfl, fun k hk => absurd hk (by omega)⟩) ?_ ?_
  · rintro n x (⟨rfl, h⟩ | ⟨rfl, h⟩)
    · exact br_t (by decide) (And.intro rfl (K1 h))
    · exact br_t (by decide) (And.intro rfl (K0 h))
  · rintro n i x hi (⟨rfl, h⟩ | ⟨rfl, h⟩) ih
    · refine br_f (nI_ge (b := 16) hi (by decide)) (br_f (by decide) ?_)
      rw [sc_y16, sc_y16, nI_clamp (show 16 * s + i < 2 ^ 31 by omega), nI_clamp (show 16 * q + i < 2 ^ 31 by omega), hB s hs i hi, hB q hq i hi]
      refine And.intro (vp_in_nI (by omega) (by decide)) (And.intro (vp_in_nI (by omega) (by decide)) (br_c (fun e => ?_) (fun e => ?_)))
      · refine nm_r (nI_1 i) (ih 1 (Or.inl ⟨rfl, fun k hk => ?_⟩))
        by_cases ek : k = i
        · rw [ek, sc_e_i.mp e]
        · exact h k (by omega)
      · exact nm_r (nI_1 i) (ih 0 (Or.inr ⟨rfl, fun z => e (sc_e_i.mpr (z i hi).symm)⟩))
    · exact br_f (nI_ge (b := 16) hi (by decide)) (br_t rfl (And.intro rfl (K0 h)))
theorem sc_ysm0 {post : Int32 → Prop} {v w : Int32} (hv : sc_bad v ∨ sc_bad w) (h : post 0) : wpY_same post (fg, yD, yB, yR, yH) v w := by
  unfold wpY_same
  rcases sc_or v with e | ⟨s, hs, rfl⟩
  · refine sc_ysec0 e ?_
    exact br_t rfl ⟨1, br_f (by decide) (br_t rfl (And.intro narrow_b0 h))⟩
  · rcases hv with e | e
    · exact absurd e (sc_nbad hs)
    · refine sc_ysec hs ?_
      refine br_f (by decide) ?_
      refine sc_ysec0 e ?_
      exact br_t rfl ⟨1, br_f (by decide) (br_t rfl (And.intro narrow_b0 h))⟩
theorem sc_ysw {post : Int32 → SY → Prop} {s q : Nat} (hs : s < 4) (hq : q < 4) {b : Nat → Nat → BitVec 8} (hB : ∀ q, q < 4 → ∀ i, i < 16 → yB (16 * q + i) = sc_e (b q i))
    {t : Nat → Nat} {aT T1 T2 : Nat → Int32} (hR : ∀ j, j < 256 → yR j = nI (t j)) (hH : ∀ j, j < 256 → yH j = aT j) (k1 : ∀ c, c < 64 → T1 (64 * s + c) = 0) (k2 : ∀ r, r < 4 → r ≠ s → ∀ c, c < 64 → T1 (64 * r + c) = aT (64 * r + c)) (k3 : ∀ c, c < 64 → T2 (64 * q + c) = 0) (k4 : ∀ r, r < 4 → r ≠ q → ∀ c, c < 64 → T2 (64 * r + c) = T1 (64 * r + c))
    (K : ∀ (f1 f2 : Int32) (B R H : Nat → Int32), (fg = nI s → f1 = -1) → (¬ fg = nI s → f1 = fg) → (f1 = nI q → f2 = -1) → (¬ f1 = nI q → f2 = f1) → (∀ r, r < 4 → ∀ i, i < 16 → B (16 * r + i) = sc_e (sc_sb (sc_sb b s (b q)) q (b s) r i)) → (∀ j, j < 256 → R j = nI (sc_st (sc_st t s) q j)) → (∀ j, j < 256 → H j = T2 j) → post 1 (f2, yD, B, R, H)) : wpY_swap post (fg, yD, yB, yR, yH) (nI s) (nI q) := by
  unfold wpY_swap
  refine sc_ysec hs ?_
  refine br_f (by decide) ?_
  refine sc_ysec hq ?_
  refine br_f (by decide) ?_
  refine loop_0 (fun n i B => wY_swap_20 post (nI s) (nI q) fg n (nI i) yD B yR yH) (fun i B => (∀ k, k < i → B (16 * s + k) = sc_e (b q k) ∧ B (16 * q + k) = sc_e (b s k)) ∧ ∀ j, (j < 16 * s ∨ 16 * s + i ≤ j) → (j < 16 * q ∨ 16 * q + i ≤ j) → B j = yB j) 16 yB ⟨fun k hk => absurd hk (by omega), fun j _ _ => rfl⟩ ?_ ?_
  · rintro n B ⟨h1, h2⟩
    have h3 : ∀ r, r < 4 → ∀ i, i < 16 → B (16 * r + i) = sc_e (sc_sb (sc_sb b s (b q)) q (b s) r i) := by
      intro r hr i hi
      unfold sc_sb
      by_cases e : r = q
      · rw [e, if_pos rfl, (h1 i hi).2]
      · rw [if_neg e]
        by_cases e2 : r = s
        · rw [e2, if_pos rfl, (h1 i hi).1]
        · rw [if_neg e2, h2 _ (by omega) (by omega), hB r hr i hi]
    exact br_t (by decide) (sc_ren hs hR hH k1 k2 (fun f1 R H m1 m2 m3 m4 => sc_ren hq m3 m4 k3 k4 (fun f2 R2 H2 m5 m6 m7 m8 => K f1 f2 B R2 H2 m1 m2 m5 m6 h3 m7 m8)))
  · rintro n i B hi ⟨h1, h2⟩ ih
    refine br_f (nI_ge (b := 16) hi (by decide)) ?_
    have e1 : B (16 * s + i) = sc_e (b s i) := by
      rw [h2 _ (by omega) (by omega), hB s hs i hi]
    have e2 : B (16 * q + i) = sc_e (b q i) := by
      rw [h2 _ (by omega) (by omega), hB q hq i hi]
    rw [sc_y16, sc_y16, nI_clamp (show 16 * s + i < 2 ^ 31 by omega), nI_clamp (show 16 * q + i < 2 ^ 31 by omega), e1, e2]
    have i1 : vp_in (nI (16 * s + i)) 64 := vp_in_nI (by omega) (by decide)
    have i2 : vp_in (nI (16 * q + i)) 64 := vp_in_nI (by omega) (by decide)
    refine And.intro i1 (nm_e (And.intro i2 (And.intro i1 (nm_e (And.intro i2 (nm_e (nm_r (nI_1 i) (ih _ ⟨fun k hk => ?_, fun j hj hj2 => ?_⟩))))))))
    · by_cases e : k = i
      · subst e
        refine ⟨?_, pk_us⟩
        by_cases eq : 16 * s + k = 16 * q + k
        · have : s = q := by omega
          subst this
          rw [pk_us]
        · rw [pk_un eq, pk_us]
      · rw [pk_un (by omega), pk_un (by omega), pk_un (by omega), pk_un (by omega)]
        exact h1 k (by omega)
    · rw [pk_un (by omega), pk_un (by omega), h2 j (by omega) (by omega)]
def sc_tot (x : Nat → BitVec 8) : Nat → Int32
  | 0 => 0
  | i + 1 => sc_tot x i + (nI i + 1) * sc_e (x i)
theorem sc_ysum {post : Int32 → Prop} {s : Nat} (hs : s < 4) {b : Nat → Nat → BitVec 8} (hB : ∀ q, q < 4 → ∀ i, i < 16 → yB (16 * q + i) = sc_e (b q i)) (K : post (sc_tot (b s) 16)) : wpY_sum post (fg, yD, yB, yR, yH) (nI s) := by
  refine loop_0 (σ := Unit) (fun n i _ => wY_sum_4 post (nI s) fg yD yB yR yH n (sc_tot (b s) i) (nI i)) (fun _ _ => True) 16 () trivial ?_ ?_
  · intro n _ _
    exact br_t (by decide) (sc_ysec hs (br_f (by decide) K))
  · intro n i _ hi _ ih
    refine br_f (nI_ge (b := 16) hi (by decide)) (sc_ysec hs (br_f (by decide) ?_))
    rw [sc_y16, nI_clamp (show 16 * s + i < 2 ^ 31 by omega), hB s hs i hi]
    exact And.intro (vp_in_nI (by omega) (by decide)) (nm_r (e' := sc_tot (b s) (i + 1)) rfl (nm_r (nI_1 i) (ih () trivial)))
theorem sc_ysum0 {post : Int32 → Prop} {v : Int32} (hv : sc_bad v) (h : post (-1)) : wpY_sum post (fg, yD, yB, yR, yH) v :=
  ⟨1, br_f (by decide) (sc_ysec0 hv (br_t rfl (sc_ysec0 hv (br_t rfl h))))⟩
def sc_fnd (x : Nat → BitVec 8) (v : Int32) : Nat → Nat → Int32
  | 0, _ => -1
  | d + 1, i => if sc_e (x i) = v then nI i else sc_fnd x v d (i + 1)
theorem sc_fnd_s (x : Nat → BitVec 8) (v : Int32) (d i : Nat) : sc_fnd x v (d + 1) i = if sc_e (x i) = v then nI i else sc_fnd x v d (i + 1) := rfl
theorem sc_yfn1 {post : Int32 → Prop} {s : Nat} (hs : s < 4) {b : Nat → Nat → BitVec 8} (hB : ∀ q, q < 4 → ∀ i, i < 16 → yB (16 * q + i) = sc_e (b q i)) {v w : Int32} {j : Nat} (hw : ∀ k, k < 16 → (nI k < w ↔ k < j)) : ∀ d i, i + d = 16 → j ≤ i → post (sc_fnd (b s) v d i) → wY_find_3 post (nI s) v w fg yD yB yR yH (d + 1) (nI i) := by
  intro d
  induction d with
  | zero =>
    intro i hi _ h
    exact br_t (by rw [show i = 16 by omega]; decide) h
  | succ d ih =>
    intro i hi hj h
    refine br_f (nI_ge (b := 16) (by omega) (by decide)) (sc_ysec hs (br_f (by decide) (br_f (fun z => ?_) ?_)))
    · have := (hw i (by omega)).mp z
      omega
    · rw [sc_y16, nI_clamp (show 16 * s + i < 2 ^ 31 by omega), hB s hs i (by omega)]
      rw [sc_fnd_s] at h
      refine And.intro (vp_in_nI (by omega) (by decide)) (br_c (fun e => ?_) (fun e => ?_))
      · rw [if_pos e] at h
        exact h
      · rw [if_neg e] at h
        exact nm_r (nI_1 i) (ih (i + 1) (by omega) (by omega) h)
theorem sc_yfnd {post : Int32 → Prop} {s : Nat} (hs : s < 4) {b : Nat → Nat → BitVec 8} (hB : ∀ q, q < 4 → ∀ i, i < 16 → yB (16 * q + i) = sc_e (b q i)) {v w : Int32} {j : Nat} (hj : j ≤ 16) (hw : ∀ k, k < 16 → (nI k < w ↔ k < j)) (h : post (sc_fnd (b s) v (16 - j) j)) : wpY_find post (fg, yD, yB, yR, yH) (nI s) v w := by
  have key : ∀ d i, i + d = j → wY_find_3 post (nI s) v w fg yD yB yR yH (d + (16 - j) + 1) (nI i) := by
    intro d
    induction d with
    | zero =>
      intro i hi
      rw [show i = j by omega, Nat.zero_add]
      exact sc_yfn1 hs hB hw (16 - j) j (by omega) (Nat.le_refl _) h
    | succ d ih =>
      intro i hi
      have e : d + 1 + (16 - j) + 1 = (d + (16 - j) + 1) + 1 := by omega
      rw [e]
      exact br_f (nI_ge (b := 16) (by omega) (by decide)) (sc_ysec hs (br_f (by decide) (br_t ((hw i (by omega)).mpr (by omega)) (nm_r (nI_1 i) (ih (i + 1) (by omega))))))
  exact ⟨_, key j 0 (Nat.zero_add j)⟩
theorem sc_yfnd0 {post : Int32 → Prop} {v a c : Int32} (hv : sc_bad v) (h : post (-1)) : wpY_find post (fg, yD, yB, yR, yH) v a c :=
  ⟨1, br_f (by decide) (sc_ysec0 hv (br_t rfl h))⟩
end SCY
end
section
section SCK
variable {fl fn : Int32} {aP aL aC aW aE aT aD aB aF aK aG aS aN aH : Nat → Int32}
/-! the calls of SectorChain: what is left of their loops -/
theorem sc_xtou {post : Int32 → Prop} {s : Nat} (hs : s < 4) (K : post (nI (sc_sum (sc_hits aT s) 64))) : wpX_touched post (fl, fn, aP, aL, aC, aW, aE, aT, aD, aB, aF, aK, aG, aS, aN, aH) (nI s) := by
  unfold wpX_touched
  refine sc_xsec hs ?_
  refine br_f (by decide) ?_
  refine loop_0 (σ := Unit) (fun n c _ => wX_touched_13 post (nI s) fl fn aP aL aC aW aE aT aD aB aF aK aG aS aN aH n (nI (sc_sum (sc_hits aT s) c)) (nI c)) (fun _ _ => True) 64 () trivial (fun n _ _ => br_t (by decide) K) ?_
  intro n c _ hc _ ih
  have h := ih () trivial
  refine br_f (nI_ge (b := 64) hc (by decide)) ?_
  rw [sc_64, nI_clamp (show 64 * s + c < 2 ^ 31 by omega)]
  refine And.intro (vp_in_nI (by omega) (by decide)) (br_c (fun e => ?_) (fun e => ?_))
  · rw [sc_sum_s, show sc_hits aT s c = 0 from if_pos e, Nat.add_zero] at h
    exact nm_r (by rw [Int32.add_zero]) (nm_r (nI_1 c) h)
  · rw [sc_sum_s, show sc_hits aT s c = 1 from if_neg e] at h
    exact nm_r (nI_1 _) (nm_r (nI_1 c) h)
theorem sc_xtou0 {post : Int32 → Prop} {v : Int32} (hv : sc_bad v) (h : post (-1)) : wpX_touched post (fl, fn, aP, aL, aC, aW, aE, aT, aD, aB, aF, aK, aG, aS, aN, aH) v := by
  unfold wpX_touched
  refine sc_xsec0 hv ?_
  exact br_t rfl h
theorem sc_sum_pt {f g : Nat → Nat} {c : Nat} (n : Nat) (hc : c < n) (h : ∀ k, k < n → k ≠ c → g k = f k) : sc_sum g n + f c = sc_sum f n + g c := by
  induction n with
  | zero => omega
  | succ n ih =>
    rw [sc_sum_s, sc_sum_s]
    by_cases e : c = n
    · have e1 := sc_sum_congr n (f := g) (g := f) (fun k hk => h k (by omega) (by omega))
      rw [e1, e]
      omega
    · have e1 := ih (by omega) (fun k hk => h k (by omega))
      have e2 := h n (by omega) (by omega)
      omega
def sc_dt (t : Nat → Nat) (j how : Nat) : Nat → Nat := fun k => if k = j then t j ^^^ how else t k
theorem sc_XR_dm {f : Nat → Nat} {b : Nat → Nat → BitVec 8} {t : Nat → Nat} (h : sc_XR f b t fl aE aT) {s c how : Nat} (hs : s < 4) (hc : c < 64) (hh : how < 16384) (hn : aT (64 * s + c) = 0 → sc_sum (sc_hits aT s) 64 < 8) :
    sc_XR f b (sc_dt t (64 * s + c) how) fl (upd aE (64 * s + c) (nI (sc_v f b t s c ^^^ how))) (upd aT (64 * s + c) 1) := by
  obtain ⟨g1, g2, g3, g4, g5, g6⟩ := h
  refine ⟨g1, fun j hj => ?_, fun j hj hz => ?_, fun q hq => ?_, fun q hq hl p hp => ?_, fun p hp => ?_⟩
  · unfold sc_dt
    split
    · exact sc_xlt (g2 _ (by omega)) hh
    · exact g2 j hj
  · by_cases e : j = 64 * s + c
    · rw [e, pk_us]
      decide
    · rw [pk_un e]
      unfold sc_dt at hz
      rw [if_neg e] at hz
      exact g3 j hj hz
  · by_cases e : q = s
    · subst e
      have h1 := sc_sum_pt (f := sc_hits aT q) (g := sc_hits (upd aT (64 * q + c) 1) q) 64 hc (fun k hk hne => by unfold sc_hits; rw [pk_un (by omega)])
      have h2 : sc_hits (upd aT (64 * q + c) 1) q c = 1 := by
        unfold sc_hits
        rw [pk_us, if_neg (by decide)]
      have h3 := g4 q hq
      by_cases z : aT (64 * q + c) = 0
      · have h4 := hn z
        omega
      · have h4 : sc_hits aT q c = 1 := if_neg z
        omega
    · rw [sc_hits_c (aT := aT) (fun k hk => pk_un (by omega))]
      exact g4 q hq
  · have hco := sc_co_lt p
    unfold sc_dt
    by_cases e : 64 * q + sc_co p = 64 * s + c
    · have e1 : q = s := by omega
      subst e1
      have e2 : sc_co p = c := by omega
      rw [if_pos e, e, pk_us]
      unfold sc_v sc_tt
      rw [if_neg (by omega), sc_bqs b hq, ← e2, sc_oc_co hp, Nat.xor_assoc]
    · rw [if_neg e, pk_un e]
      exact g5 q hq hl p hp
  · have hco := sc_co_lt p
    rw [pk_un (by omega)]
    exact g6 p hp
theorem sc_xlose {post : Int32 → SX → Prop} {s : Nat} (hs : s < 4) (K : ∀ E T' : Nat → Int32, (∀ j, sc_out s j → E j = aE j) → (∀ c, c < 64 → T' (64 * s + c) = 0) → (∀ j, sc_out s j → T' j = aT j) → post 1 (nI s, fn, aP, aL, aC, aW, E, T', aD, aB, aF, aK, aG, aS, aN, aH)) : ∃ n, wX_lose_24 post (nI s) (nI s) fn n 0 aP aL aC aW aE aT aD aB aF aK aG aS aN aH := by
  refine loop_0 (σ := (Nat → Int32) × (Nat → Int32)) (fun n c st => wX_lose_24 post (nI s) (nI s) fn n (nI c) aP aL aC aW st.1 st.2 aD aB aF aK aG aS aN aH)
    (fun c st => (∀ j, sc_out s j → st.1 j = aE j) ∧ (∀ k, k < c → st.2 (64 * s + k) = 0) ∧ (∀ j, sc_out s j → st.2 j = aT j)) 64 (aE, aT) ⟨fun j _ => rfl, fun k hk => absurd hk (by omega), fun j _ => rfl⟩ ?_ ?_
  · rintro n ⟨E, T'⟩ ⟨h1, h2, h3⟩
    exact br_t (by decide) (K E T' h1 h2 h3)
  · rintro n c ⟨E, T'⟩ hc ⟨h1, h2, h3⟩ ih
    dsimp only at h1 h2 h3 ih ⊢
    refine br_f (nI_ge (b := 64) hc (by decide)) ?_
    rw [sc_64, nI_clamp (show 64 * s + c < 2 ^ 31 by omega), sc_vb0]
    refine And.intro (vp_in_nI (by omega) (by decide)) (nm_e (And.intro (vp_in_nI (by omega) (by decide)) (nm_e (nm_r (nI_1 c) (ih (upd E (64 * s + c) (vp_nar .short 0), upd T' (64 * s + c) 0) ⟨fun j hj => ?_, fun k hk => ?_, fun j hj => ?_⟩)))))
    · dsimp only
      have hj2 := hj
      unfold sc_out at hj2
      rw [pk_un (by omega), h1 j hj]
    · dsimp only
      by_cases e : k = c
      · rw [e, pk_us]
      · rw [pk_un (by omega), h2 k (by omega)]
    · dsimp only
      have hj2 := hj
      unfold sc_out at hj2
      rw [pk_un (by omega), h3 j hj]
theorem sc_XR_lo {f : Nat → Nat} {b : Nat → Nat → BitVec 8} {t : Nat → Nat} (h : sc_XR f b t (-1) aE aT) {s : Nat} (hs : s < 4) {E T' : Nat → Int32} (h1 : ∀ j, sc_out s j → E j = aE j) (h2 : ∀ c, c < 64 → T' (64 * s + c) = 0) (h3 : ∀ j, sc_out s j → T' j = aT j) : sc_XR f b (sc_st t s) (nI s) E T' := by
  obtain ⟨g1, g2, g3, g4, g5, g6⟩ := h
  refine ⟨Or.inr ⟨s, hs, rfl⟩, fun j hj => ?_, fun j hj => ?_, fun q hq => ?_, fun q hq hl p hp => ?_, fun p hp => ?_⟩
  · unfold sc_st
    split
    · decide
    · exact g2 j hj
  · unfold sc_st
    split
    · exact fun z => absurd rfl z
    · rename_i hne
      intro z
      rw [h3 j (by unfold sc_out; omega)]
      exact g3 j hj z
  · by_cases e1 : q = s
    · rw [e1, sc_hits0 h2]
      omega
    · rw [sc_hits_c (aT := aT) (fun c hc => h3 _ (sc_outs e1 hc))]
      exact g4 q hq
  · have hne : q ≠ s := fun z => hl (by rw [z])
    have hco := sc_co_lt p
    rw [h1 _ (sc_outs hne hco)]
    unfold sc_st
    rw [if_neg (by omega)]
    refine g5 q hq (fun z => ?_) p hp
    have := nI_pos (n := q) (by omega)
    rw [← z] at this
    exact this (by decide)
  · rw [h1 _ (sc_outs (by omega) (sc_co_lt p))]
    exact g6 p hp
theorem sc_xsm {post : Int32 → SX → Prop} {x y : Nat → BitVec 8} (hx : ∀ i, i < 16 → aB i = sc_e (x i)) (hy : ∀ i, i < 16 → aF i = sc_e (y i)) (K1 : (∀ i, i < 16 → x i = y i) → post 1 (fl, fn, aP, aL, aC, aW, aE, aT, aD, aB, aF, aK, aG, aS, aN, aH)) (K0 : (¬ ∀ i, i < 16 → x i = y i) → post 0 (fl, fn, aP, aL, aC, aW, aE, aT, aD, aB, aF, aK, aG, aS, aN, aH)) : ∃ n, wX_same_32 post fl fn aP aL aC aW aE aT aD aB aF aK aG aS aN aH n 0 := by
  refine loop_0 (σ := Unit) (fun n i _ => wX_same_32 post fl fn aP aL aC aW aE aT aD aB aF aK aG aS aN aH n (nI i)) (fun i _ => ∀ k, k < i → x k = y k) 16 () (fun k hk => absurd hk (by omega)) (fun n _ h => br_t (by decide) (K1 h)) ?_
  intro n i _ hi h ih
  refine br_f (nI_ge (b := 16) hi (by decide)) ?_
  rw [nI_clamp (show i < 2 ^ 31 by omega), hx i hi, hy i hi]
  have hi' : vp_in (nI i) 16 := vp_in_nI hi (by decide)
  refine And.intro hi' (And.intro hi' (br_c (fun e => nm_r (nI_1 i) (ih () (fun k hk => ?_))) (fun e => K0 (fun z => e (sc_e_i.mpr (z i hi))))))
  by_cases ek : k = i
  · rw [ek, sc_e_i.mp e]
  · exact h k (by omega)
theorem sc_xsum {post : Int32 → SX → Prop} {x : Nat → BitVec 8} (hx : ∀ i, i < 16 → aB i = sc_e (x i)) (K : post (sc_tot x 16) (fl, fn, aP, aL, aC, aW, aE, aT, aD, aB, aF, aK, aG, aS, aN, aH)) : ∃ n, wX_sum_18 post fl fn aP aL aC aW aE aT aD aB aF aK aG aS aN aH n 0 0 := by
  refine loop_0 (σ := Unit) (fun n i _ => wX_sum_18 post fl fn aP aL aC aW aE aT aD aB aF aK aG aS aN aH n (sc_tot x i) (nI i)) (fun _ _ => True) 16 () trivial (fun n _ _ => br_t (by decide) K) ?_
  intro n i _ hi _ ih
  refine br_f (nI_ge (b := 16) hi (by decide)) ?_
  rw [nI_clamp (show i < 2 ^ 31 by omega), hx i hi]
  exact And.intro (vp_in_nI hi (by decide)) (nm_r (e' := sc_tot x (i + 1)) rfl (nm_r (nI_1 i) (ih () trivial)))
theorem sc_xfnd {post : Int32 → SX → Prop} {x : Nat → BitVec 8} (hx : ∀ i, i < 16 → aB i = sc_e (x i)) {v : Int32} : ∀ d i, i + d = 16 → post (sc_fnd x v d i) (fl, fn, aP, aL, aC, aW, aE, aT, aD, aB, aF, aK, aG, aS, aN, aH) → wX_find_25 post v fl fn aP aL aC aW aE aT aD aB aF aK aG aS aN aH (d + 1) (nI i) := by
  intro d
  induction d with
  | zero =>
    intro i hi h
    exact br_t (by rw [show i = 16 by omega]; decide) h
  | succ d ih =>
    intro i hi h
    refine br_f (nI_ge (b := 16) (by omega) (by decide)) ?_
    rw [nI_clamp (show i < 2 ^ 31 by omega), hx i (by omega)]
    rw [sc_fnd_s] at h
    refine And.intro (vp_in_nI (by omega) (by decide)) (br_c (fun e => ?_) (fun e => ?_))
    · rw [if_pos e] at h
      exact h
    · rw [if_neg e] at h
      exact nm_r (nI_1 i) (ih (i + 1) (by omega) h)
theorem sc_sb_s (b : Nat → Nat → BitVec 8) (s : Nat) : sc_sb b s (b s) = b := by
  funext q
  unfold sc_sb
  by_cases e : q = s
  · rw [if_pos e, e]
  · rw [if_neg e]
theorem sc_fq {fg s a c : Int32} (hf : fg = fl) (h1 : fl = s → a = -1) (h2 : ¬ fl = s → a = fl) (g1 : fg = s → c = -1) (g2 : ¬ fg = s → c = fg) : c = a := by
  subst hf
  by_cases e : fg = s
  · rw [h1 e, g1 e]
  · rw [h2 e, g2 e]
theorem sc_rq {fg s r r' N : Int32} (hf : fg = fl) (h1 : s = fl → r = 64) (h2 : ¬ s = fl → r = N) (g1 : s = fg → r' = 64) (g2 : ¬ s = fg → r' = N) : r' = r := by
  subst hf
  by_cases e : s = fg
  · rw [h1 e, g1 e]
  · rw [h2 e, g2 e]
end SCK
end
section
section SCM
variable {fl fn : Int32} {aP aL aC aW aE aT aD aB aF aK aG aS aN aH : Nat → Int32}
theorem sc_xwr {post : Int32 → SX → Prop} (T : sc_Tb aP aL) (hC : sc_Ck aC) {f : Nat → Nat} (hW : sc_Wd f aW) {b : Nat → Nat → BitVec 8} {t : Nat → Nat} (h : sc_XR f b t fl aE aT) {s : Nat} (hs : s < 4) {d : Nat → BitVec 8} (hD : ∀ i, i < 16 → aD i = sc_e (d i))
    (K : ∀ (fl' n' : Int32) (e t' bb fr g sy ln hh : Nat → Int32), (fl = nI s → fl' = -1) → (¬ fl = nI s → fl' = fl) → sc_XR f (sc_sb b s d) (sc_st t s) fl' e t' → (∀ c, c < 64 → t' (64 * s + c) = 0) → (∀ q, q < 4 → q ≠ s → ∀ c, c < 64 → t' (64 * q + c) = aT (64 * q + c)) →
      post 1 (fl', n', aP, aL, aC, aW, e, t', aD, bb, fr, aK, g, sy, ln, hh)) : wpX_write post (fl, fn, aP, aL, aC, aW, aE, aT, aD, aB, aF, aK, aG, aS, aN, aH) (nI s) := by
  unfold wpX_write
  refine sc_xsec hs ?_
  refine br_f (by decide) ?_
  refine sc_fill (N := 16) (fun n i g => wX_write_11 post (nI s) fl fn n i aP aL aC aW aE aT aD aB g aK aG aS aN aH) (fun i => sc_e (d i)) aF (fun n fr hfr => br_t (by decide) (sc_repl T hC hW h hs hfr (fun fl' n' e t' bb g sy ln hh k1 k2 k3 k4 k5 => K fl' n' e t' bb fr g sy ln hh k1 k2 k3 k4 k5))) (fun n i g hi _ ih => br_f (nI_ge (b := 16) hi (by decide)) ?_)
  have hi' : vp_in (nI i) 16 := vp_in_nI hi (by decide)
  exact And.intro hi' (And.intro hi' (nm_r (e' := upd g i (sc_e (d i))) (by rw [nI_clamp (by omega), hD i hi]) (nm_r (nI_1 i) ih)))
theorem sc_xrd {post : Int32 → SX → Prop} (T : sc_Tb aP aL) (hC : sc_Ck aC) {f : Nat → Nat} (hW : sc_Wd f aW) {b : Nat → Nat → BitVec 8} {t : Nat → Nat} (h : sc_XR f b t fl aE aT) {s : Nat} (hs : s < 4)
    (K : ∀ (r n' : Int32) (D bb g sy m hh : Nat → Int32), (nI s = fl → r = 64) → (¬ nI s = fl → r = nI (sc_sum (fun c => sc_n0 (t (64 * s + c))) 64)) → (∀ i, i < 16 → D i = sc_e (b s i)) → post r (fl, n', aP, aL, aC, aW, aE, aT, D, bb, aF, aK, g, sy, m, hh)) : wpX_read post (fl, fn, aP, aL, aC, aW, aE, aT, aD, aB, aF, aK, aG, aS, aN, aH) (nI s) := by
  unfold wpX_read
  refine sc_xsec hs ?_
  refine br_f (by decide) ?_
  refine sc_load T hW h hs (fun n1 x1 g1 sy1 m1 h1 hx1 => ?_)
  refine sc_fill (N := 16) (fun n i D => wX_read_16 post (nI s) fl n1 n i aP aL aC aW aE aT D x1 aF aK g1 sy1 m1 h1) (fun i => sc_e (b s i)) aD (fun n D hD => br_t (by decide) (sc_wrong T hC hW h hs hx1 (fun r n' sy m r1 r2 => K r n' D x1 g1 sy m h1 r1 r2 hD))) (fun n i g hi _ ih => br_f (nI_ge (b := 16) hi (by decide)) ?_)
  have hi' : vp_in (nI i) 16 := vp_in_nI hi (by decide)
  exact And.intro hi' (And.intro hi' (nm_r (e' := upd g i (sc_e (b s i))) (by rw [nI_clamp (by omega), hx1 i hi]) (nm_r (nI_1 i) ih)))
theorem sc_xsw {post : Int32 → SX → Prop} (T : sc_Tb aP aL) (hC : sc_Ck aC) {f : Nat → Nat} (hW : sc_Wd f aW) {b : Nat → Nat → BitVec 8} {t : Nat → Nat} (h : sc_XR f b t fl aE aT) {s q : Nat} (hs : s < 4) (hq : q < 4)
    (K : ∀ (f1 f2 n' : Int32) (E T1 T2 bb fr kk g sy ln hh : Nat → Int32), (fl = nI s → f1 = -1) → (¬ fl = nI s → f1 = fl) → (f1 = nI q → f2 = -1) → (¬ f1 = nI q → f2 = f1) → sc_XR f (sc_sb (sc_sb b s (b q)) q (b s)) (sc_st (sc_st t s) q) f2 E T2 →
      (∀ c, c < 64 → T1 (64 * s + c) = 0) → (∀ r, r < 4 → r ≠ s → ∀ c, c < 64 → T1 (64 * r + c) = aT (64 * r + c)) → (∀ c, c < 64 → T2 (64 * q + c) = 0) → (∀ r, r < 4 → r ≠ q → ∀ c, c < 64 → T2 (64 * r + c) = T1 (64 * r + c)) →
      post 1 (f2, n', aP, aL, aC, aW, E, T2, aD, bb, fr, kk, g, sy, ln, hh)) : wpX_swap post (fl, fn, aP, aL, aC, aW, aE, aT, aD, aB, aF, aK, aG, aS, aN, aH) (nI s) (nI q) := by
  unfold wpX_swap
  refine sc_xsec hs ?_
  refine br_f (by decide) ?_
  refine sc_xsec hq ?_
  refine br_f (by decide) ?_
  refine sc_load T hW h hs (fun n1 x1 g1 sy1 m1 h1 hx1 => ?_)
  refine sc_fill (N := 16) (fun n i g => wX_swap_23 post (nI s) (nI q) fl n1 n i aP aL aC aW aE aT aD x1 aF g g1 sy1 m1 h1) (fun i => sc_e (b s i)) aK (fun n kk hkk => br_t (by decide) ?_) (fun n i g hi _ ih => br_f (nI_ge (b := 16) hi (by decide)) ?_)
  · refine sc_load T hW h hq (fun n2 x2 g2 sy2 m2 h2 hx2 => ?_)
    refine sc_fresh hx2 (fun fr hfr => ?_)
    refine sc_repl T hC hW h hs hfr (fun f1 n3 e1 t1 bb1 g3 sy3 ln3 hh3 k1 k2 k3 k4 k5 => ?_)
    refine sc_fill (N := 16) (fun n i g => wX_swap_63 post (nI q) f1 n3 n i aP aL aC aW e1 t1 aD bb1 g kk g3 sy3 ln3 hh3) (fun i => sc_e (b s i)) fr (fun n fr2 hfr2 => br_t (by decide) ?_) (fun n i g hi _ ih => br_f (nI_ge (b := 16) hi (by decide)) ?_)
    · exact sc_repl T hC hW k3 hq hfr2 (fun f2 n' E T2 bb g sy ln hh l1 l2 l3 l4 l5 => K f1 f2 n' E t1 T2 bb fr2 kk g sy ln hh k1 k2 l1 l2 l3 k4 k5 l4 l5)
    · have hi' : vp_in (nI i) 16 := vp_in_nI hi (by decide)
      exact And.intro hi' (And.intro hi' (nm_r (e' := upd g i (sc_e (b s i))) (by rw [nI_clamp (by omega), hkk i hi]) (nm_r (nI_1 i) ih)))
  · have hi' : vp_in (nI i) 16 := vp_in_nI hi (by decide)
    exact And.intro hi' (And.intro hi' (nm_r (e' := upd g i (sc_e (b s i))) (by rw [nI_clamp (by omega), hx1 i hi]) (nm_r (nI_1 i) ih)))
theorem sc_xput {a : Nat → Int32} {d : Nat → BitVec 8} (h : ∀ k, k < 16 → a k = sc_e (d k)) {i w : Nat} (hi : i < 16) (hw : w ≤ 255) : ∀ k, k < 16 → upd a (nI i).toNatClampNeg (nI w) k = sc_e ((fun k => if k = i then BitVec.ofNat 8 w else d k) k) := by
  intro k hk
  dsimp only
  rw [nI_clamp (by omega)]
  by_cases e : k = i
  · rw [e, pk_us, if_pos rfl]
    unfold sc_e
    rw [BitVec.toNat_ofNat, Nat.mod_eq_of_lt (by omega)]
  · rw [pk_un e, if_neg e, h k hk]
theorem sc_ng {v : Int32} {n : Nat} (hn : n < 2 ^ 31) (h : nI n ≤ v) : ¬ v < 0 := by
  intro z
  have h0 : (0 : Int32) ≤ nI n := nI_pos' hn
  exact Int32.lt_irrefl (Int32.lt_of_lt_of_le z (Int32.le_trans h0 h))
end SCM
end
section
section SCR
variable {fl fn fg : Int32} {aP aL aC aW aE aT aD aB aF aK aG aS aN aH yD yB yR yH : Nat → Int32}
/-! the relation -/
def sc_R (f : Nat → Nat) (b : Nat → Nat → BitVec 8) (t : Nat → Nat) (d : Nat → BitVec 8) (fl : Int32) (aP aL aC aW aE aT aD : Nat → Int32) (fg : Int32) (yD yB yR yH : Nat → Int32) : Prop :=
  sc_Tb aP aL ∧ sc_Ck aC ∧ sc_Wd f aW ∧ sc_XR f b t fl aE aT ∧ fg = fl ∧ (∀ i, i < 16 → aD i = sc_e (d i)) ∧ (∀ i, i < 16 → yD i = sc_e (d i)) ∧ (∀ q, q < 4 → ∀ i, i < 16 → yB (16 * q + i) = sc_e (b q i)) ∧ (∀ j, j < 256 → yR j = nI (t j)) ∧ (∀ j, j < 256 → yH j = aT j)
/-- the tables are laid; the cells hold the coded bytes of the reference, turned over as the reference says; the sum's cells hold the exclusive or -/
def i_Rel (k : Nat) (u : SX) (v : SY) : Prop :=
  match u, v with
  | (fl, _, aP, aL, aC, aW, aE, aT, aD, _, _, _, _, _, _, _), (fg, yD, yB, yR, yH) => ∃ f b t d, sc_R f b t d fl aP aL aC aW aE aT aD fg yD yB yR yH
theorem sc_el {k : Nat} {P : SX → SY → Prop} (h : ∀ (fl fn : Int32) (aP aL aC aW aE aT aD aB aF aK aG aS aN aH : Nat → Int32) (fg : Int32) (yD yB yR yH : Nat → Int32) (f : Nat → Nat) (b : Nat → Nat → BitVec 8) (t : Nat → Nat) (d : Nat → BitVec 8), sc_R f b t d fl aP aL aC aW aE aT aD fg yD yB yR yH → P (fl, fn, aP, aL, aC, aW, aE, aT, aD, aB, aF, aK, aG, aS, aN, aH) (fg, yD, yB, yR, yH)) {u : SX} {v : SY} (I : i_Rel k u v) : P u v := by
  obtain ⟨fl, fn, aP, aL, aC, aW, aE, aT, aD, aB, aF, aK, aG, aS, aN, aH⟩ := u
  obtain ⟨fg, yD, yB, yR, yH⟩ := v
  obtain ⟨f, b, t, d, hh⟩ := I
  exact h fl fn aP aL aC aW aE aT aD aB aF aK aG aS aN aH fg yD yB yR yH f b t d hh
theorem sc_in {k : Nat} {f : Nat → Nat} {b : Nat → Nat → BitVec 8} {t : Nat → Nat} {d : Nat → BitVec 8} (h : sc_R f b t d fl aP aL aC aW aE aT aD fg yD yB yR yH) : i_Rel k (fl, fn, aP, aL, aC, aW, aE, aT, aD, aB, aF, aK, aG, aS, aN, aH) (fg, yD, yB, yR, yH) := ⟨f, b, t, d, h⟩
theorem i_up {k : Nat} {u : SX} {v : SY} (h : i_Rel k u v) : i_Rel (k + 4) u v := h
def sc_zb : Nat → BitVec 8 := fun _ => 0#8
theorem sc_lay {post : SX → Prop} (T : sc_Tb aP aL) (hC : sc_Ck aC) {f : Nat → Nat} (hW : sc_Wd f aW) (hT : ∀ j, j < 256 → aT j = 0) (hB : ∀ i, i < 16 → aB i = 0)
    (K : ∀ (n' : Int32) (E T' sy m : Nat → Int32), (∀ q, q < 5 → ∀ p, p < 64 → E (64 * q + sc_co p) = nI (sc_w f sc_zb q p)) → (∀ j, j < 256 → T' j = 0) → post ((-1), n', aP, aL, aC, aW, E, T', aD, aB, aF, aK, aG, sy, m, aH)) : ∃ n, wX_init_138 post n 0 ((-1)) fn aP aL aC aW aE aT aD aB aF aK aG aS aN aH := by
  refine loop_0 (σ := Int32 × (Nat → Int32) × (Nat → Int32) × (Nat → Int32) × (Nat → Int32)) (fun n s st => wX_init_138 post n (nI s) ((-1)) st.1 aP aL aC aW st.2.1 st.2.2.1 aD aB aF aK aG st.2.2.2.1 st.2.2.2.2 aH)
    (fun s st => (∀ q, q < s → ∀ p, p < 64 → st.2.1 (64 * q + sc_co p) = nI (sc_w f sc_zb q p)) ∧ (∀ j, j < 256 → st.2.2.1 j = 0)) 5 (fn, aE, aT, aS, aN) ⟨fun q hq => absurd hq (by omega), hT⟩ ?_ ?_
  · rintro n ⟨n', E, T', sy, m⟩ ⟨h1, h2⟩
    exact br_t (by decide) (K n' E T' sy m h1 h2)
  · rintro n s ⟨n', E, T', sy, m⟩ hs ⟨h1, h2⟩ ih
    dsimp only at h1 h2 ih ⊢
    refine br_f (nI_nlt (a := 4) (by omega) (by decide)) (sc_store T hC hW hs (b := sc_zb) (fun i hi => (hB i hi).trans sc_e_0.symm) rfl (fun fl' n1 e1 t1 sy1 m1 k1 k2 k3 k4 k5 k6 => ?_))
    have ef : fl' = -1 := k2 (fun z => by
      have := nI_pos (n := s) (by omega)
      rw [← z] at this
      exact this (by decide))
    subst ef
    refine nm_r (nI_1 s) (ih (n1, e1, t1, sy1, m1) ⟨fun q hq p hp => ?_, fun j hj => ?_⟩)
    · dsimp only
      by_cases e : q = s
      · rw [e, k3 p hp]
      · rw [k4 _ (sc_outs e (sc_co_lt p)), h1 q (by omega) p hp]
    · dsimp only
      by_cases e : j / 64 = s
      · have := k5 (by omega) (j % 64) (by omega)
        rwa [show 64 * s + j % 64 = j by omega] at this
      · rw [k6 j (by unfold sc_out; omega), h2 j hj]
theorem sc_XR0 {f : Nat → Nat} {E T' : Nat → Int32} (h1 : ∀ q, q < 5 → ∀ p, p < 64 → E (64 * q + sc_co p) = nI (sc_w f sc_zb q p)) (h2 : ∀ j, j < 256 → T' j = 0) : sc_XR f (fun _ => sc_zb) (fun _ => 0) (-1) E T' := by
  refine ⟨Or.inl rfl, fun _ _ => Nat.zero_lt_succ _, fun _ _ z => absurd rfl z, fun s hs => ?_, fun s hs _ p hp => ?_, fun p hp => ?_⟩
  · rw [sc_hits0 (fun c hc => h2 _ (by omega))]
    omega
  · rw [Nat.xor_zero]
    exact h1 s (by omega) p hp
  · rw [h1 4 (by decide) p hp]
    exact congrArg nI (sc_w_congr (fun i hi => by show 0#8 = 0#8 ^^^ (0#8 ^^^ (0#8 ^^^ 0#8)); decide) 4 p)
theorem i_vc0 : wpX_init (fun u => wpY_init (fun v => i_Rel 0 u v)) := by
  unfold wpX_init
  refine sc_field (fun P L hT => ?_)
  refine sc_laych hT (fun C hC => ?_)
  refine sc_words (fun Wd f hW => ?_)
  refine sc_lay hT hC hW (fun _ _ => rfl) (fun _ _ => rfl) (fun n' E T' sy m h1 h2 => ?_)
  exact ⟨f, fun _ => sc_zb, fun _ => 0, sc_zb, hT, hC, hW, sc_XR0 h1 h2, rfl, fun _ _ => sc_e_0.symm, fun _ _ => sc_e_0.symm, fun _ _ _ _ => sc_e_0.symm, fun _ _ => rfl, fun j hj => (h2 j hj).symm⟩
end SCR
end
section
section SCO
/-! what is owed, one a method -/
theorem i_vc_put {k : Nat} {u : SX} {v : SY} (I : i_Rel k u v) (hk : k + 4 ≤ 2048) (v1 : Int32) (v2 : Int32) : wpX_put (fun r u' => wpY_put (fun r' v' => r' = r ∧ i_Rel (k + 4) u' v') v v1 v2) u v1 v2 := by
  refine sc_el (P := fun u v => wpX_put (fun r u' => wpY_put (fun r' v' => r' = r ∧ i_Rel (k + 4) u' v') v v1 v2) u v1 v2) ?_ I
  intro fl fn aP aL aC aW aE aT aD aB aF aK aG aS aN aH fg yD yB yR yH f b t d R
  obtain ⟨T, hC, hW, hX, hf, hD, hyD, hB, hR, hH⟩ := id R
  show wpX_put (fun r u' => wpY_put (fun r' v' => r' = r ∧ i_Rel (k + 4) u' v') (fg, yD, yB, yR, yH) v1 v2) (fl, fn, aP, aL, aC, aW, aE, aT, aD, aB, aF, aK, aG, aS, aN, aH) v1 v2
  rcases pk_ix v1 (n := 16) (by decide) with h | h | ⟨i, hi, rfl⟩
  · refine br_t h ?_
    unfold wpY_put
    refine sc_ypl0 (Or.inl h) ?_
    exact br_t rfl ⟨rfl, sc_in R⟩
  · refine br_f (sc_ng (by decide) h) (br_t h ?_)
    unfold wpY_put
    refine sc_ypl0 (Or.inr h) ?_
    exact br_t rfl ⟨rfl, sc_in R⟩
  · refine br_f (nI_pos (by omega)) (br_f (nI_ge (b := 16) hi (by decide)) (br_c (fun e => ?_) (fun e => br_c (fun e2 => ?_) (fun e2 => ?_))))
    · unfold wpY_put
      refine sc_ypl hi ?_
      exact br_f (by decide) (br_t e ⟨rfl, sc_in R⟩)
    · obtain ⟨w, hw, rfl⟩ := nI_of2 (M := 255) (n := 255) (by decide) e e2
      refine And.intro (vp_in_nI hi (by decide)) (nm_e ?_)
      unfold wpY_put
      refine sc_ypl hi ?_
      exact br_f (by decide) (br_f e (br_t e2 (And.intro (vp_in_nI hi (by decide)) (nm_e ⟨rfl, sc_in (d := fun k => if k = i then BitVec.ofNat 8 w else d k) ⟨T, hC, hW, hX, hf, sc_xput hD hi hw, sc_xput hyD hi hw, hB, hR, hH⟩⟩))))
    · unfold wpY_put
      refine sc_ypl hi ?_
      exact br_f (by decide) (br_f e (br_f e2 ⟨rfl, sc_in R⟩))
theorem i_vc_get {k : Nat} {u : SX} {v : SY} (I : i_Rel k u v) (hk : k + 4 ≤ 2048) (v1 : Int32) : wpX_get (fun r => wpY_get (fun r' => r' = r ∧ i_Rel (k + 4) u v) v v1) u v1 := by
  refine sc_el (P := fun u v => wpX_get (fun r => wpY_get (fun r' => r' = r ∧ i_Rel (k + 4) u v) v v1) u v1) ?_ I
  intro fl fn aP aL aC aW aE aT aD aB aF aK aG aS aN aH fg yD yB yR yH f b t d R
  obtain ⟨T, hC, hW, hX, hf, hD, hyD, hB, hR, hH⟩ := id R
  show wpX_get (fun r => wpY_get (fun r' => r' = r ∧ i_Rel (k + 4) (fl, fn, aP, aL, aC, aW, aE, aT, aD, aB, aF, aK, aG, aS, aN, aH) (fg, yD, yB, yR, yH)) (fg, yD, yB, yR, yH) v1) (fl, fn, aP, aL, aC, aW, aE, aT, aD, aB, aF, aK, aG, aS, aN, aH) v1
  rcases pk_ix v1 (n := 16) (by decide) with h | h | ⟨i, hi, rfl⟩
  · refine br_t h ?_
    unfold wpY_get
    refine sc_ypl0 (Or.inl h) ?_
    exact br_t rfl ⟨rfl, sc_in R⟩
  · refine br_f (sc_ng (by decide) h) (br_t h ?_)
    unfold wpY_get
    refine sc_ypl0 (Or.inr h) ?_
    exact br_t rfl ⟨rfl, sc_in R⟩
  · refine br_f (nI_pos (by omega)) (br_f (nI_ge (b := 16) hi (by decide)) (And.intro (vp_in_nI hi (by decide)) ?_))
    unfold wpY_get
    refine sc_ypl hi ?_
    exact br_f (by decide) (And.intro (vp_in_nI hi (by decide)) ⟨by rw [nI_clamp (by omega), hD i hi, hyD i hi], sc_in R⟩)
theorem i_vc_write {k : Nat} {u : SX} {v : SY} (I : i_Rel k u v) (hk : k + 4 ≤ 2048) (v1 : Int32) : wpX_write (fun r u' => wpY_write (fun r' v' => r' = r ∧ i_Rel (k + 4) u' v') v v1) u v1 := by
  refine sc_el (P := fun u v => wpX_write (fun r u' => wpY_write (fun r' v' => r' = r ∧ i_Rel (k + 4) u' v') v v1) u v1) ?_ I
  intro fl fn aP aL aC aW aE aT aD aB aF aK aG aS aN aH fg yD yB yR yH f b t d R
  obtain ⟨T, hC, hW, hX, hf, hD, hyD, hB, hR, hH⟩ := id R
  show wpX_write (fun r u' => wpY_write (fun r' v' => r' = r ∧ i_Rel (k + 4) u' v') (fg, yD, yB, yR, yH) v1) (fl, fn, aP, aL, aC, aW, aE, aT, aD, aB, aF, aK, aG, aS, aN, aH) v1
  rcases sc_or v1 with hv | ⟨s, hs, rfl⟩
  · unfold wpX_write
    refine sc_xsec0 hv ?_
    refine br_t rfl ?_
    exact sc_ywr0 hv ⟨rfl, sc_in R⟩
  · refine sc_xwr T hC hW hX hs hD (fun fl' n' e t' bb fr g sy ln hh k1 k2 k3 k4 k5 => ?_)
    exact sc_ywr hs hB hyD hR hH k4 k5 (fun fg' B R' H m1 m2 m3 m4 m5 => ⟨rfl, sc_in ⟨T, hC, hW, k3, sc_fq hf k1 k2 m1 m2, hD, hyD, m3, m4, m5⟩⟩)
theorem i_vc_read {k : Nat} {u : SX} {v : SY} (I : i_Rel k u v) (hk : k + 4 ≤ 2048) (v1 : Int32) : wpX_read (fun r u' => wpY_read (fun r' v' => r' = r ∧ i_Rel (k + 4) u' v') v v1) u v1 := by
  refine sc_el (P := fun u v => wpX_read (fun r u' => wpY_read (fun r' v' => r' = r ∧ i_Rel (k + 4) u' v') v v1) u v1) ?_ I
  intro fl fn aP aL aC aW aE aT aD aB aF aK aG aS aN aH fg yD yB yR yH f b t d R
  obtain ⟨T, hC, hW, hX, hf, hD, hyD, hB, hR, hH⟩ := id R
  show wpX_read (fun r u' => wpY_read (fun r' v' => r' = r ∧ i_Rel (k + 4) u' v') (fg, yD, yB, yR, yH) v1) (fl, fn, aP, aL, aC, aW, aE, aT, aD, aB, aF, aK, aG, aS, aN, aH) v1
  rcases sc_or v1 with hv | ⟨s, hs, rfl⟩
  · unfold wpX_read
    refine sc_xsec0 hv ?_
    refine br_t rfl ?_
    exact sc_yrd0 hv ⟨rfl, sc_in R⟩
  · refine sc_xrd T hC hW hX hs (fun r n' D bb g sy m hh k1 k2 k3 => ?_)
    exact sc_yrd hs hB hR hX.2.1 (fun r' D' m1 m2 m3 => ⟨sc_rq hf k1 k2 m1 m2, sc_in ⟨T, hC, hW, hX, hf, k3, m3, hB, hR, hH⟩⟩)
theorem i_vc_scrub {k : Nat} {u : SX} {v : SY} (I : i_Rel k u v) (hk : k + 4 ≤ 2048) (v1 : Int32) : wpX_scrub (fun r u' => wpY_scrub (fun r' v' => r' = r ∧ i_Rel (k + 4) u' v') v v1) u v1 := by
  refine sc_el (P := fun u v => wpX_scrub (fun r u' => wpY_scrub (fun r' v' => r' = r ∧ i_Rel (k + 4) u' v') v v1) u v1) ?_ I
  intro fl fn aP aL aC aW aE aT aD aB aF aK aG aS aN aH fg yD yB yR yH f b t d R
  obtain ⟨T, hC, hW, hX, hf, hD, hyD, hB, hR, hH⟩ := id R
  show wpX_scrub (fun r u' => wpY_scrub (fun r' v' => r' = r ∧ i_Rel (k + 4) u' v') (fg, yD, yB, yR, yH) v1) (fl, fn, aP, aL, aC, aW, aE, aT, aD, aB, aF, aK, aG, aS, aN, aH) v1
  rcases sc_or v1 with hv | ⟨s, hs, rfl⟩
  · unfold wpX_scrub
    refine sc_xsec0 hv ?_
    refine br_t rfl ?_
    unfold wpY_scrub
    refine sc_yspo0 hv ?_
    refine sc_ysec0 hv ?_
    exact br_t rfl ⟨rfl, sc_in R⟩
  · unfold wpX_scrub
    refine sc_xsec hs ?_
    refine br_f (by decide) ?_
    refine sc_load T hW hX hs (fun n1 x1 g1 sy1 m1 h1 hx1 => ?_)
    refine sc_wrong T hC hW hX hs hx1 (fun r n2 sy2 m2 r1 r2 => ?_)
    refine sc_store T hC hW (show s < 5 by omega) hx1 rfl (fun fl' n3 e t' sy3 ln3 k1 k2 k3 k4 k5 k6 => ?_)
    have hq : ∀ q, q < 4 → q ≠ s → ∀ c, c < 64 → t' (64 * q + c) = aT (64 * q + c) := fun q _ hne c hc => k6 _ (sc_outs hne hc)
    have hX' := sc_XR_st hX hs (x := b s) k1 k2 k3 (fun q _ hne c hc => k4 _ (sc_outs hne hc)) (fun p hp => by rw [k4 _ (sc_outs (by omega) (sc_co_lt p)), sc_sb_s]; exact hX.2.2.2.2.2 p hp) (k5 hs) hq
    rw [sc_sb_s] at hX'
    unfold wpY_scrub
    refine sc_yspo hs hR hX.2.1 (fun r' l1 l2 => ?_)
    refine sc_ysec hs ?_
    refine br_f (by decide) ?_
    exact sc_ren hs hR hH (k5 hs) hq (fun fg' R' H m1 m2 m3 m4 => ⟨sc_rq hf r1 r2 l1 l2, sc_in ⟨T, hC, hW, hX', sc_fq hf k1 k2 m1 m2, hD, hyD, hB, m3, m4⟩⟩)
theorem i_vc_byteOf {k : Nat} {u : SX} {v : SY} (I : i_Rel k u v) (hk : k + 4 ≤ 2048) (v1 : Int32) (v2 : Int32) : wpX_byteOf (fun r u' => wpY_byteOf (fun r' => r' = r ∧ i_Rel (k + 4) u' v) v v1 v2) u v1 v2 := by
  refine sc_el (P := fun u v => wpX_byteOf (fun r u' => wpY_byteOf (fun r' => r' = r ∧ i_Rel (k + 4) u' v) v v1 v2) u v1 v2) ?_ I
  intro fl fn aP aL aC aW aE aT aD aB aF aK aG aS aN aH fg yD yB yR yH f b t d R
  obtain ⟨T, hC, hW, hX, hf, hD, hyD, hB, hR, hH⟩ := id R
  show wpX_byteOf (fun r u' => wpY_byteOf (fun r' => r' = r ∧ i_Rel (k + 4) u' (fg, yD, yB, yR, yH)) (fg, yD, yB, yR, yH) v1 v2) (fl, fn, aP, aL, aC, aW, aE, aT, aD, aB, aF, aK, aG, aS, aN, aH) v1 v2
  rcases sc_or v1 with hv | ⟨s, hs, rfl⟩
  · unfold wpX_byteOf
    refine sc_xsec0 hv ?_
    refine br_t rfl ?_
    unfold wpY_byteOf
    refine sc_ysec0 hv ?_
    exact br_t rfl ⟨rfl, sc_in R⟩
  · unfold wpX_byteOf
    refine sc_xsec hs ?_
    refine br_f (by decide) ?_
    rcases pk_ix v2 (n := 16) (by decide) with h | h | ⟨i, hi, rfl⟩
    · refine br_t h ?_
      unfold wpY_byteOf
      refine sc_ysec hs ?_
      refine br_f (by decide) ?_
      refine sc_ypl0 (Or.inl h) ?_
      exact br_t rfl ⟨rfl, sc_in R⟩
    · refine br_f (sc_ng (by decide) h) (br_f (Int32.not_lt.mpr h) ?_)
      unfold wpY_byteOf
      refine sc_ysec hs ?_
      refine br_f (by decide) ?_
      refine sc_ypl0 (Or.inr h) ?_
      exact br_t rfl ⟨rfl, sc_in R⟩
    · refine br_f (nI_pos (by omega)) (br_t (nI_lt (b := 16) hi (by decide)) ?_)
      refine sc_load T hW hX hs (fun n1 x1 g1 sy1 m1 h1 hx1 => ?_)
      refine And.intro (vp_in_nI hi (by decide)) ?_
      unfold wpY_byteOf
      refine sc_ysec hs ?_
      refine br_f (by decide) ?_
      refine sc_ypl hi ?_
      refine br_f (by decide) ?_
      refine And.intro (by rw [sc_y16]; exact vp_in_nI (by omega) (by decide)) ⟨?_, sc_in R⟩
      rw [sc_y16, nI_clamp (by omega), nI_clamp (by omega), hx1 i hi, hB s hs i hi]
theorem i_vc_copy {k : Nat} {u : SX} {v : SY} (I : i_Rel k u v) (hk : k + 4 ≤ 2048) (v1 : Int32) (v2 : Int32) : wpX_copy (fun r u' => wpY_copy (fun r' v' => r' = r ∧ i_Rel (k + 4) u' v') v v1 v2) u v1 v2 := by
  refine sc_el (P := fun u v => wpX_copy (fun r u' => wpY_copy (fun r' v' => r' = r ∧ i_Rel (k + 4) u' v') v v1 v2) u v1 v2) ?_ I
  intro fl fn aP aL aC aW aE aT aD aB aF aK aG aS aN aH fg yD yB yR yH f b t d R
  obtain ⟨T, hC, hW, hX, hf, hD, hyD, hB, hR, hH⟩ := id R
  show wpX_copy (fun r u' => wpY_copy (fun r' v' => r' = r ∧ i_Rel (k + 4) u' v') (fg, yD, yB, yR, yH) v1 v2) (fl, fn, aP, aL, aC, aW, aE, aT, aD, aB, aF, aK, aG, aS, aN, aH) v1 v2
  rcases sc_or v1 with hv | ⟨s, hs, rfl⟩
  · unfold wpX_copy
    refine sc_xsec0 hv ?_
    refine br_t rfl ?_
    unfold wpY_copy
    refine sc_ysec0 hv ?_
    exact br_t rfl ⟨rfl, sc_in R⟩
  · rcases sc_or v2 with hv | ⟨q, hq, rfl⟩
    · unfold wpX_copy
      refine sc_xsec hs ?_
      refine br_f (by decide) ?_
      refine sc_xsec0 hv ?_
      refine br_t rfl ?_
      unfold wpY_copy
      refine sc_ysec hs ?_
      refine br_f (by decide) ?_
      refine sc_ysec0 hv ?_
      exact br_t rfl ⟨rfl, sc_in R⟩
    · unfold wpX_copy
      refine sc_xsec hs ?_
      refine br_f (by decide) ?_
      refine sc_xsec hq ?_
      refine br_f (by decide) ?_
      refine sc_load T hW hX hs (fun n1 x1 g1 sy1 m1 h1 hx1 => ?_)
      refine sc_fresh hx1 (fun fr hfr => ?_)
      refine sc_repl T hC hW hX hq hfr (fun fl' n' e t' bb g sy ln hh k1 k2 k3 k4 k5 => ?_)
      exact sc_ycp hs hq hB hR hH k4 k5 (fun fg' B R' H m1 m2 m3 m4 m5 => ⟨rfl, sc_in ⟨T, hC, hW, k3, sc_fq hf k1 k2 m1 m2, hD, hyD, m3, m4, m5⟩⟩)
theorem i_vc_same {k : Nat} {u : SX} {v : SY} (I : i_Rel k u v) (hk : k + 4 ≤ 2048) (v1 : Int32) (v2 : Int32) : wpX_same (fun r u' => wpY_same (fun r' => r' = r ∧ i_Rel (k + 4) u' v) v v1 v2) u v1 v2 := by
  refine sc_el (P := fun u v => wpX_same (fun r u' => wpY_same (fun r' => r' = r ∧ i_Rel (k + 4) u' v) v v1 v2) u v1 v2) ?_ I
  intro fl fn aP aL aC aW aE aT aD aB aF aK aG aS aN aH fg yD yB yR yH f b t d R
  obtain ⟨T, hC, hW, hX, hf, hD, hyD, hB, hR, hH⟩ := id R
  show wpX_same (fun r u' => wpY_same (fun r' => r' = r ∧ i_Rel (k + 4) u' (fg, yD, yB, yR, yH)) (fg, yD, yB, yR, yH) v1 v2) (fl, fn, aP, aL, aC, aW, aE, aT, aD, aB, aF, aK, aG, aS, aN, aH) v1 v2
  rcases sc_or v1 with hv | ⟨s, hs, rfl⟩
  · unfold wpX_same
    refine sc_xsec0 hv ?_
    refine br_t rfl ?_
    exact sc_ysm0 (Or.inl hv) ⟨rfl, sc_in R⟩
  · rcases sc_or v2 with hv | ⟨q, hq, rfl⟩
    · unfold wpX_same
      refine sc_xsec hs ?_
      refine br_f (by decide) ?_
      refine sc_xsec0 hv ?_
      refine br_t rfl ?_
      exact sc_ysm0 (Or.inr hv) ⟨rfl, sc_in R⟩
    · unfold wpX_same
      refine sc_xsec hs ?_
      refine br_f (by decide) ?_
      refine sc_xsec hq ?_
      refine br_f (by decide) ?_
      refine sc_load T hW hX hs (fun n1 x1 g1 sy1 m1 h1 hx1 => ?_)
      refine sc_fresh hx1 (fun fr hfr => ?_)
      refine sc_load T hW hX hq (fun n2 x2 g2 sy2 m2 h2 hx2 => ?_)
      refine sc_xsm hx2 hfr (fun z => ?_) (fun z => ?_)
      · exact sc_ysm hs hq hB (fun _ => ⟨rfl, sc_in R⟩) (fun y => absurd z y)
      · exact sc_ysm hs hq hB (fun y => absurd y z) (fun _ => ⟨rfl, sc_in R⟩)
theorem i_vc_swap {k : Nat} {u : SX} {v : SY} (I : i_Rel k u v) (hk : k + 4 ≤ 2048) (v1 : Int32) (v2 : Int32) : wpX_swap (fun r u' => wpY_swap (fun r' v' => r' = r ∧ i_Rel (k + 4) u' v') v v1 v2) u v1 v2 := by
  refine sc_el (P := fun u v => wpX_swap (fun r u' => wpY_swap (fun r' v' => r' = r ∧ i_Rel (k + 4) u' v') v v1 v2) u v1 v2) ?_ I
  intro fl fn aP aL aC aW aE aT aD aB aF aK aG aS aN aH fg yD yB yR yH f b t d R
  obtain ⟨T, hC, hW, hX, hf, hD, hyD, hB, hR, hH⟩ := id R
  show wpX_swap (fun r u' => wpY_swap (fun r' v' => r' = r ∧ i_Rel (k + 4) u' v') (fg, yD, yB, yR, yH) v1 v2) (fl, fn, aP, aL, aC, aW, aE, aT, aD, aB, aF, aK, aG, aS, aN, aH) v1 v2
  rcases sc_or v1 with hv | ⟨s, hs, rfl⟩
  · unfold wpX_swap
    refine sc_xsec0 hv ?_
    refine br_t rfl ?_
    unfold wpY_swap
    refine sc_ysec0 hv ?_
    exact br_t rfl ⟨rfl, sc_in R⟩
  · rcases sc_or v2 with hv | ⟨q, hq, rfl⟩
    · unfold wpX_swap
      refine sc_xsec hs ?_
      refine br_f (by decide) ?_
      refine sc_xsec0 hv ?_
      refine br_t rfl ?_
      unfold wpY_swap
      refine sc_ysec hs ?_
      refine br_f (by decide) ?_
      refine sc_ysec0 hv ?_
      exact br_t rfl ⟨rfl, sc_in R⟩
    · refine sc_xsw T hC hW hX hs hq (fun f1 f2 n' E T1 T2 bb fr kk g sy ln hh k1 k2 k3 k4 k5 k6 k7 k8 k9 => ?_)
      exact sc_ysw hs hq hB hR hH k6 k7 k8 k9 (fun g1 g2 B R' H m1 m2 m3 m4 m5 m6 m7 => ⟨rfl, sc_in ⟨T, hC, hW, k5, sc_fq (sc_fq hf k1 k2 m1 m2) k3 k4 m3 m4, hD, hyD, m5, m6, m7⟩⟩)
theorem i_vc_touched {k : Nat} {u : SX} {v : SY} (I : i_Rel k u v) (hk : k + 4 ≤ 2048) (v1 : Int32) : wpX_touched (fun r => wpY_touched (fun r' => r' = r ∧ i_Rel (k + 4) u v) v v1) u v1 := by
  refine sc_el (P := fun u v => wpX_touched (fun r => wpY_touched (fun r' => r' = r ∧ i_Rel (k + 4) u v) v v1) u v1) ?_ I
  intro fl fn aP aL aC aW aE aT aD aB aF aK aG aS aN aH fg yD yB yR yH f b t d R
  obtain ⟨T, hC, hW, hX, hf, hD, hyD, hB, hR, hH⟩ := id R
  show wpX_touched (fun r => wpY_touched (fun r' => r' = r ∧ i_Rel (k + 4) (fl, fn, aP, aL, aC, aW, aE, aT, aD, aB, aF, aK, aG, aS, aN, aH) (fg, yD, yB, yR, yH)) (fg, yD, yB, yR, yH) v1) (fl, fn, aP, aL, aC, aW, aE, aT, aD, aB, aF, aK, aG, aS, aN, aH) v1
  rcases sc_or v1 with hv | ⟨s, hs, rfl⟩
  · refine sc_xtou0 hv ?_
    exact sc_ytou0 hv ⟨rfl, sc_in R⟩
  · refine sc_xtou hs ?_
    refine sc_ytou hs ⟨?_, sc_in R⟩
    rw [sc_hits_c (aT := aT) (fun c hc => hH _ (by omega))]
theorem i_vc_spoiled {k : Nat} {u : SX} {v : SY} (I : i_Rel k u v) (hk : k + 4 ≤ 2048) (v1 : Int32) : wpX_spoiled (fun r u' => wpY_spoiled (fun r' => r' = r ∧ i_Rel (k + 4) u' v) v v1) u v1 := by
  refine sc_el (P := fun u v => wpX_spoiled (fun r u' => wpY_spoiled (fun r' => r' = r ∧ i_Rel (k + 4) u' v) v v1) u v1) ?_ I
  intro fl fn aP aL aC aW aE aT aD aB aF aK aG aS aN aH fg yD yB yR yH f b t d R
  obtain ⟨T, hC, hW, hX, hf, hD, hyD, hB, hR, hH⟩ := id R
  show wpX_spoiled (fun r u' => wpY_spoiled (fun r' => r' = r ∧ i_Rel (k + 4) u' (fg, yD, yB, yR, yH)) (fg, yD, yB, yR, yH) v1) (fl, fn, aP, aL, aC, aW, aE, aT, aD, aB, aF, aK, aG, aS, aN, aH) v1
  rcases sc_or v1 with hv | ⟨s, hs, rfl⟩
  · unfold wpX_spoiled
    refine sc_xsec0 hv ?_
    refine br_t rfl ?_
    exact sc_yspo0 hv ⟨rfl, sc_in R⟩
  · unfold wpX_spoiled
    refine sc_xsec hs ?_
    refine br_f (by decide) ?_
    refine sc_load T hW hX hs (fun n1 x1 g1 sy1 m1 h1 hx1 => ?_)
    refine sc_wrong T hC hW hX hs hx1 (fun r n2 sy2 m2 r1 r2 => ?_)
    exact sc_yspo hs hR hX.2.1 (fun r' l1 l2 => ⟨sc_rq hf r1 r2 l1 l2, sc_in R⟩)
theorem i_vc_lost {k : Nat} {u : SX} {v : SY} (I : i_Rel k u v) (hk : k + 4 ≤ 2048) : wpX_lost (fun r => wpY_lost (fun r' => r' = r ∧ i_Rel (k + 4) u v) v) u := by
  refine sc_el (P := fun u v => wpX_lost (fun r => wpY_lost (fun r' => r' = r ∧ i_Rel (k + 4) u v) v) u) ?_ I
  intro fl fn aP aL aC aW aE aT aD aB aF aK aG aS aN aH fg yD yB yR yH f b t d R
  obtain ⟨T, hC, hW, hX, hf, hD, hyD, hB, hR, hH⟩ := id R
  show wpX_lost (fun r => wpY_lost (fun r' => r' = r ∧ i_Rel (k + 4) (fl, fn, aP, aL, aC, aW, aE, aT, aD, aB, aF, aK, aG, aS, aN, aH) (fg, yD, yB, yR, yH)) (fg, yD, yB, yR, yH)) (fl, fn, aP, aL, aC, aW, aE, aT, aD, aB, aF, aK, aG, aS, aN, aH)
  refine br_c (fun e => ?_) (fun e => ?_)
  · exact ⟨hf.trans e, sc_in R⟩
  · exact ⟨hf, sc_in R⟩
theorem i_vc_sum {k : Nat} {u : SX} {v : SY} (I : i_Rel k u v) (hk : k + 4 ≤ 2048) (v1 : Int32) : wpX_sum (fun r u' => wpY_sum (fun r' => r' = r ∧ i_Rel (k + 4) u' v) v v1) u v1 := by
  refine sc_el (P := fun u v => wpX_sum (fun r u' => wpY_sum (fun r' => r' = r ∧ i_Rel (k + 4) u' v) v v1) u v1) ?_ I
  intro fl fn aP aL aC aW aE aT aD aB aF aK aG aS aN aH fg yD yB yR yH f b t d R
  obtain ⟨T, hC, hW, hX, hf, hD, hyD, hB, hR, hH⟩ := id R
  show wpX_sum (fun r u' => wpY_sum (fun r' => r' = r ∧ i_Rel (k + 4) u' (fg, yD, yB, yR, yH)) (fg, yD, yB, yR, yH) v1) (fl, fn, aP, aL, aC, aW, aE, aT, aD, aB, aF, aK, aG, aS, aN, aH) v1
  rcases sc_or v1 with hv | ⟨s, hs, rfl⟩
  · unfold wpX_sum
    refine sc_xsec0 hv ?_
    refine br_t rfl ?_
    exact sc_ysum0 hv ⟨rfl, sc_in R⟩
  · unfold wpX_sum
    refine sc_xsec hs ?_
    refine br_f (by decide) ?_
    refine sc_load T hW hX hs (fun n1 x1 g1 sy1 m1 h1 hx1 => ?_)
    refine sc_xsum hx1 ?_
    exact sc_ysum hs hB ⟨rfl, sc_in R⟩
theorem i_vc_find {k : Nat} {u : SX} {v : SY} (I : i_Rel k u v) (hk : k + 4 ≤ 2048) (v1 : Int32) (v2 : Int32) (v3 : Int32) : wpX_find (fun r u' => wpY_find (fun r' => r' = r ∧ i_Rel (k + 4) u' v) v v1 v2 v3) u v1 v2 v3 := by
  refine sc_el (P := fun u v => wpX_find (fun r u' => wpY_find (fun r' => r' = r ∧ i_Rel (k + 4) u' v) v v1 v2 v3) u v1 v2 v3) ?_ I
  intro fl fn aP aL aC aW aE aT aD aB aF aK aG aS aN aH fg yD yB yR yH f b t d R
  obtain ⟨T, hC, hW, hX, hf, hD, hyD, hB, hR, hH⟩ := id R
  show wpX_find (fun r u' => wpY_find (fun r' => r' = r ∧ i_Rel (k + 4) u' (fg, yD, yB, yR, yH)) (fg, yD, yB, yR, yH) v1 v2 v3) (fl, fn, aP, aL, aC, aW, aE, aT, aD, aB, aF, aK, aG, aS, aN, aH) v1 v2 v3
  rcases sc_or v1 with hv | ⟨s, hs, rfl⟩
  · unfold wpX_find
    refine sc_xsec0 hv ?_
    refine br_t rfl ?_
    exact sc_yfnd0 hv ⟨rfl, sc_in R⟩
  · unfold wpX_find
    refine sc_xsec hs ?_
    refine br_f (by decide) ?_
    refine sc_load T hW hX hs (fun n1 x1 g1 sy1 m1 h1 hx1 => ?_)
    rcases pk_ix v3 (n := 16) (by decide) with h | h | ⟨j, hj, rfl⟩
    · refine br_f (fun z => Int32.lt_irrefl (Int32.lt_of_lt_of_le h z)) ⟨17, sc_xfnd hx1 16 0 rfl ?_⟩
      exact sc_yfnd hs hB (j := 0) (by decide) (fun k hk => ⟨fun z => absurd (Int32.lt_trans z h) (nI_pos (by omega)), fun z => absurd z (Nat.not_lt_zero k)⟩) ⟨rfl, sc_in R⟩
    · refine br_t (Int32.not_lt.mp (sc_ng (by decide) h)) ⟨1, br_t h ?_⟩
      exact sc_yfnd hs hB (j := 16) (by decide) (fun k hk => ⟨fun _ => hk, fun _ => Int32.lt_of_lt_of_le (nI_lt hk (by decide)) h⟩) ⟨rfl, sc_in R⟩
    · refine br_t (nI_pos' (by omega)) ⟨16 - j + 1, sc_xfnd hx1 (16 - j) j (by omega) ?_⟩
      exact sc_yfnd hs hB (j := j) (by omega) (fun k hk => nI_ltI (by omega) (by omega)) ⟨rfl, sc_in R⟩
theorem i_vc_lose {k : Nat} {u : SX} {v : SY} (I : i_Rel k u v) (hk : k + 4 ≤ 2048) (v1 : Int32) : wpX_lose (fun r u' => wpY_lose (fun r' v' => r' = r ∧ i_Rel (k + 4) u' v') v v1) u v1 := by
  refine sc_el (P := fun u v => wpX_lose (fun r u' => wpY_lose (fun r' v' => r' = r ∧ i_Rel (k + 4) u' v') v v1) u v1) ?_ I
  intro fl fn aP aL aC aW aE aT aD aB aF aK aG aS aN aH fg yD yB yR yH f b t d R
  obtain ⟨T, hC, hW, hX, hf, hD, hyD, hB, hR, hH⟩ := id R
  show wpX_lose (fun r u' => wpY_lose (fun r' v' => r' = r ∧ i_Rel (k + 4) u' v') (fg, yD, yB, yR, yH) v1) (fl, fn, aP, aL, aC, aW, aE, aT, aD, aB, aF, aK, aG, aS, aN, aH) v1
  rcases sc_or v1 with hv | ⟨s, hs, rfl⟩
  · unfold wpX_lose
    refine sc_xsec0 hv ?_
    refine br_t rfl ?_
    unfold wpY_lose
    refine sc_ysec0 hv ?_
    exact br_t rfl ⟨rfl, sc_in R⟩
  · unfold wpX_lose
    refine sc_xsec hs ?_
    refine br_f (by decide) ?_
    refine br_c (fun e => ?_) (fun e => ?_)
    · refine sc_xlose hs (fun E T' k1 k2 k3 => ?_)
      rw [e] at hX
      unfold wpY_lose
      refine sc_ysec hs ?_
      refine br_f (by decide) ?_
      refine br_t (by rw [hf, e]; decide) ?_
      exact sc_ren hs hR hH k2 (fun q _ hne c hc => k3 _ (sc_outs hne hc)) (fun fg' R' H m1 m2 m3 m4 => ⟨rfl, sc_in ⟨T, hC, hW, sc_XR_lo hX hs k1 k2 k3, rfl, hD, hyD, hB, m3, m4⟩⟩)
    · unfold wpY_lose
      refine sc_ysec hs ?_
      refine br_f (by decide) ?_
      refine br_f ?_ ⟨rfl, sc_in R⟩
      rcases hX.1 with z | ⟨q, hq, z⟩
      · exact absurd z e
      · rw [hf, z]
        exact nI_pos (by omega)
end SCO
end
section
section SCD
variable {fl fn fg : Int32} {aP aL aC aW aE aT aD aB aF aK aG aS aN aH yD yB yR yH : Nat → Int32}
theorem sc_xdm {post : Int32 → SX → Prop} {s c how v : Nat} (hs : s < 4) (hc : c < 64) (hh : how < 16384) (hv : v < 16384) (he : aE (64 * s + c) = nI v)
    (K : post (nI (sc_sum (sc_hits (upd aT (64 * s + c) 1) s) 64)) (fl, fn, aP, aL, aC, aW, upd aE (64 * s + c) (nI (v ^^^ how)), upd aT (64 * s + c) 1, aD, aB, aF, aK, aG, aS, aN, aH)) : wX_damage_70 post (nI s) (nI how) (nI (64 * s + c)) fl fn aP aL aC aW aE aT aD aB aF aK aG aS aN aH := by
  have hx := sc_xlt hv hh
  have i1 : vp_in (nI (64 * s + c)) 320 := vp_in_nI (by omega) (by decide)
  refine And.intro (vp_in_nI (by omega) (by decide)) (nm_r (e' := upd aT (64 * s + c) 1) (by rw [nI_clamp (by omega), sc_vb1]) (And.intro i1 (And.intro i1 (nm_r (e' := upd aE (64 * s + c) (nI (v ^^^ how))) (by rw [nI_clamp (by omega), he, nx_xor, sc_nar (by omega), sc_narv (by omega)]) ?_))))
  exact sc_xtou hs K
theorem sc_ydm {post : Int32 → SY → Prop} {s c how v : Nat} (hs : s < 4) (hc : c < 64) (he : yR (64 * s + c) = nI v)
    (K : post (nI (sc_sum (sc_hits (upd yH (64 * s + c) 1) s) 64)) (fg, yD, yB, upd yR (64 * s + c) (nI (v ^^^ how)), upd yH (64 * s + c) 1)) : wY_damage_71 post (nI s) (nI how) (nI (64 * s + c)) fg yD yB yR yH := by
  have i1 : vp_in (nI (64 * s + c)) 256 := vp_in_nI (by omega) (by decide)
  refine And.intro i1 (nm_r (e' := upd yH (64 * s + c) 1) (by rw [nI_clamp (by omega), sc_vb1]) (And.intro i1 (And.intro i1 (nm_r (e' := upd yR (64 * s + c) (nI (v ^^^ how))) (by rw [nI_clamp (by omega), he, nx_xor]) ?_))))
  exact sc_ytou hs K
theorem sc_yR_dm {t : Nat → Nat} (hR : ∀ j, j < 256 → yR j = nI (t j)) (x how : Nat) : ∀ j, j < 256 → upd yR x (nI (t x ^^^ how)) j = nI (sc_dt t x how j) := by
  intro j hj
  unfold sc_dt
  by_cases e : j = x
  · rw [e, pk_us, if_pos rfl]
  · rw [pk_un e, if_neg e, hR j hj]
theorem sc_yH_dm (hH : ∀ j, j < 256 → yH j = aT j) (x : Nat) : ∀ j, j < 256 → upd yH x 1 j = upd aT x 1 j := by
  intro j hj
  by_cases e : j = x
  · rw [e, pk_us, pk_us]
  · rw [pk_un e, pk_un e, hH j hj]
end SCD
section SCF
theorem i_vc_damage {k : Nat} {u : SX} {v : SY} (I : i_Rel k u v) (hk : k + 4 ≤ 2048) (v1 : Int32) (v2 : Int32) (v3 : Int32) : wpX_damage (fun r u' => wpY_damage (fun r' v' => r' = r ∧ i_Rel (k + 4) u' v') v v1 v2 v3) u v1 v2 v3 := by
  refine sc_el (P := fun u v => wpX_damage (fun r u' => wpY_damage (fun r' v' => r' = r ∧ i_Rel (k + 4) u' v') v v1 v2 v3) u v1 v2 v3) ?_ I
  intro fl fn aP aL aC aW aE aT aD aB aF aK aG aS aN aH fg yD yB yR yH f b t d R
  obtain ⟨T, hC, hW, hX, hf, hD, hyD, hB, hR, hH⟩ := id R
  show wpX_damage (fun r u' => wpY_damage (fun r' v' => r' = r ∧ i_Rel (k + 4) u' v') (fg, yD, yB, yR, yH) v1 v2 v3) (fl, fn, aP, aL, aC, aW, aE, aT, aD, aB, aF, aK, aG, aS, aN, aH) v1 v2 v3
  rcases sc_or v1 with hv | ⟨s, hs, rfl⟩
  · unfold wpX_damage
    refine sc_xsec0 hv ?_
    refine br_t rfl ?_
    unfold wpY_damage
    refine sc_ysec0 hv ?_
    exact br_t rfl ⟨rfl, sc_in R⟩
  · unfold wpX_damage
    refine sc_xsec hs ?_
    refine br_f (by decide) ?_
    rcases pk_ix v2 (n := 64) (by decide) with h | h | ⟨c, hc, rfl⟩
    · refine br_t h ?_
      unfold wpY_damage
      refine sc_ysec hs ?_
      exact br_f (by decide) (br_t h ⟨rfl, sc_in R⟩)
    · refine br_f (sc_ng (by decide) h) (br_t h ?_)
      unfold wpY_damage
      refine sc_ysec hs ?_
      exact br_f (by decide) (br_f (sc_ng (by decide) h) (br_t (Int32.lt_of_lt_of_le (by decide) h) ⟨rfl, sc_in R⟩))
    · have c0 : ¬ nI c < 0 := nI_pos (by omega)
      have c1 : ¬ (64 : Int32) ≤ nI c := nI_ge (b := 64) hc (by decide)
      have c2 : ¬ (63 : Int32) < nI c := nI_nlt (a := 63) (by omega) (by decide)
      refine br_f c0 (br_f c1 ?_)
      rcases pk_ix v3 (n := 16384) (by decide) with h | h | ⟨w, hw, rfl⟩
      · have h1 : v3 < 1 := Int32.lt_trans h (by decide)
        refine br_t h1 ?_
        unfold wpY_damage
        refine sc_ysec hs ?_
        exact br_f (by decide) (br_f c0 (br_f c2 (br_t h1 ⟨rfl, sc_in R⟩)))
      · have h1 : ¬ v3 < 1 := Int32.not_lt.mpr (Int32.le_trans (by decide) h)
        refine br_f h1 (br_t h ?_)
        unfold wpY_damage
        refine sc_ysec hs ?_
        exact br_f (by decide) (br_f c0 (br_f c2 (br_f h1 (br_t (Int32.lt_of_lt_of_le (by decide) h) ⟨rfl, sc_in R⟩))))
      · by_cases h1 : nI w < 1
        · refine br_t h1 ?_
          unfold wpY_damage
          refine sc_ysec hs ?_
          exact br_f (by decide) (br_f c0 (br_f c2 (br_t h1 ⟨rfl, sc_in R⟩)))
        · have w1 : ¬ (16384 : Int32) ≤ nI w := nI_ge (b := 16384) hw (by decide)
          have w2 : ¬ (16383 : Int32) < nI w := nI_nlt (a := 16383) (by omega) (by decide)
          refine br_f h1 (br_f w1 ?_)
          by_cases hl : nI s = fl
          · refine br_t hl ?_
            unfold wpY_damage
            refine sc_ysec hs ?_
            exact br_f (by decide) (br_f c0 (br_f c2 (br_f h1 (br_f w2 (br_t (hl.trans hf.symm) ⟨rfl, sc_in R⟩)))))
          · have hl' : ¬ nI s = fg := fun z => hl (z.trans hf)
            refine br_f hl (nm_r (sc_64 s c) (And.intro (vp_in_nI (by omega) (by decide)) ?_))
            have ex : (nI (64 * s + c)).toNatClampNeg = 64 * s + c := nI_clamp (by omega)
            rw [ex]
            have hv16 : sc_v f b t s c < 16384 := sc_xlt (sc_w_lt hW _ _ _) (sc_tt_lt hX (by omega) hc)
            have hcell := sc_v_ok hX (show s < 5 by omega) (fun z => hl z.symm) hc
            have hHc := hH (64 * s + c) (by omega)
            have hsum : sc_sum (sc_hits yH s) 64 = sc_sum (sc_hits aT s) 64 := sc_hits_c (fun k hk => hH _ (by omega))
            have hsum8 := hX.2.2.2.1 s hs
            have fin : (aT (64 * s + c) = 0 → sc_sum (sc_hits aT s) 64 < 8) → wX_damage_70 (fun r u' => wpY_damage (fun r' v' => r' = r ∧ i_Rel (k + 4) u' v') (fg, yD, yB, yR, yH) (nI s) (nI c) (nI w)) (nI s) (nI w) (nI (64 * s + c)) fl fn aP aL aC aW aE aT aD aB aF aK aG aS aN aH := by
              intro h8
              refine sc_xdm hs hc hw hv16 hcell ?_
              unfold wpY_damage
              refine sc_ysec hs ?_
              refine br_f (by decide) (br_f c0 (br_f c2 (br_f h1 (br_f w2 (br_f hl' (nm_r (sc_y64 s c) (And.intro (vp_in_nI (by omega) (by decide)) ?_)))))))
              rw [ex, hHc]
              have last : wY_damage_71 (fun r' v' => r' = nI (sc_sum (sc_hits (upd aT (64 * s + c) 1) s) 64) ∧ i_Rel (k + 4) (fl, fn, aP, aL, aC, aW, upd aE (64 * s + c) (nI (sc_v f b t s c ^^^ w)), upd aT (64 * s + c) 1, aD, aB, aF, aK, aG, aS, aN, aH) v') (nI s) (nI w) (nI (64 * s + c)) fg yD yB yR yH := by
                refine sc_ydm hs hc (hR (64 * s + c) (by omega)) ⟨?_, sc_in ⟨T, hC, hW, sc_XR_dm hX hs hc hw h8, hf, hD, hyD, hB, sc_yR_dm hR _ _, sc_yH_dm hH _⟩⟩
                rw [sc_hits_c (aT := upd aT (64 * s + c) 1) (fun k hk => sc_yH_dm hH _ _ (by omega))]
              refine br_c (fun e => ?_) (fun e => last)
              refine sc_ytou hs (br_t ?_ last)
              rw [hsum]
              exact nI_lt (b := 8) (h8 e) (by decide)
            refine br_c (fun e => ?_) (fun e => fin (fun z => absurd z e))
            refine sc_xtou hs (pk_lt (sc_sum (sc_hits aT s) 64) 8 (fun h8 => fin (fun _ => h8)) (fun h8 => ?_))
            unfold wpY_damage
            refine sc_ysec hs ?_
            refine br_f (by decide) (br_f c0 (br_f c2 (br_f h1 (br_f w2 (br_f hl' (nm_r (sc_y64 s c) (And.intro (vp_in_nI (by omega) (by decide)) ?_)))))))
            rw [ex, hHc]
            refine br_t e (sc_ytou hs (br_f ?_ ⟨rfl, sc_in R⟩))
            rw [hsum]
            exact nI_nlt (b := 8) h8 (by omega)
end SCF
end
