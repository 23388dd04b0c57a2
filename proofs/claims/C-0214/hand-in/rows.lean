section
theorem pk_us {f : Nat → Int32} {k : Nat} {x : Int32} : upd f k x k = x := if_pos rfl
theorem pk_un {f : Nat → Int32} {k j : Nat} {x : Int32} (h : j ≠ k) : upd f k x j = f j := if_neg h
theorem pk_sub {a b : Nat} (h : b ≤ a) : nI a - nI b = nI (a - b) := by
  obtain ⟨c, rfl⟩ : ∃ c, a = c + b := ⟨a - b, by omega⟩
  rw [← nI_add, Int32.add_sub_cancel, Nat.add_sub_cancel]
theorem pk_m1 (n : Nat) : nI (n + 1) + (-1) = nI n := by
  rw [← nI_1, Int32.add_assoc, show (1 : Int32) + (-1) = 0 from rfl, Int32.add_zero]
theorem pk_mul (a b : Nat) : nI a * nI b = nI (a * b) := (Int32.ofNat_mul a b).symm
theorem pk_div {a d : Nat} (ha : a < 2 ^ 31) (h0 : 0 < d) (hd : d < 2 ^ 31) : nI a / nI d = nI (a / d) := by
  apply Int32.toInt_inj.mp
  rw [lg_idiv_nonneg (by rw [nI_toInt ha]; omega) (by rw [nI_toInt hd]; omega), nI_toInt ha, nI_toInt hd, nI_toInt (Nat.lt_of_le_of_lt (Nat.div_le_self a d) ha)]
  first | rfl | exact (Int.natCast_ediv _ _).symm
theorem pk_rem {a d : Nat} (ha : a < 2 ^ 31) (h0 : 0 < d) (hd : d < 2 ^ 31) : nI a - nI a / nI d * nI d = nI (a % d) := by
  rw [pk_div ha h0 hd, pk_mul, pk_sub (Nat.div_mul_le_self a d)]
  exact congrArg nI (by have := Nat.div_add_mod' a d; omega)
theorem pk_le {x y : Int32} {A B : Prop} (a b : Nat) (f : a ≤ b → A) (g : b < a → B) (hx : x = nI a := by rfl) (hy : y = nI b := by rfl) (ha : a < 2 ^ 31 := by omega) (hb : b < 2 ^ 31 := by omega) : (x ≤ y → A) ∧ (¬ x ≤ y → B) := by
  subst hx hy
  rw [nI_leI ha hb]
  exact ⟨f, fun z => g (by omega)⟩
theorem pk_lt {x y : Int32} {A B : Prop} (a b : Nat) (f : a < b → A) (g : b ≤ a → B) (hx : x = nI a := by rfl) (hy : y = nI b := by rfl) (ha : a < 2 ^ 31 := by omega) (hb : b < 2 ^ 31 := by omega) : (x < y → A) ∧ (¬ x < y → B) := by
  subst hx hy
  rw [nI_ltI ha hb]
  exact ⟨f, fun z => g (by omega)⟩
theorem pk_eq {x y : Int32} {A B : Prop} (a b : Nat) (f : a = b → A) (g : a ≠ b → B) (hx : x = nI a := by rfl) (hy : y = nI b := by rfl) (ha : a < 2 ^ 31 := by omega) (hb : b < 2 ^ 31 := by omega) : (x = y → A) ∧ (¬ x = y → B) := by
  subst hx hy
  rw [nI_eq ha hb]
  exact ⟨f, g⟩
theorem pk_in {x : Int32} (n N : Nat) (h : n < N) (hx : x = nI n := by rfl) (hN : N < 2 ^ 31 := by omega) : vp_in x N := by
  subst hx
  exact vp_in_nI h hN
theorem pk_cl {x : Int32} (n : Nat) (hx : x = nI n := by rfl) (h : n < 2 ^ 31 := by omega) : x.toNatClampNeg = n := by
  subst hx
  exact nI_clamp h
theorem pk_tn {n : Nat} (h : n < 2 ^ 32) : (nI n).toBitVec.toNat = n := Nat.mod_eq_of_lt h
theorem pk_and (x : Int32) {m : Int32} (k : Nat) (hm : m.toBitVec.toNat = 2 ^ k - 1) : x &&& m = nI (x.toBitVec.toNat % 2 ^ k) := by
  apply Int32.toBitVec_inj.mp
  apply BitVec.eq_of_toNat_eq
  rw [Int32.toBitVec_and, BitVec.toNat_and, hm, Nat.and_two_pow_sub_one_eq_mod]
  show _ = (BitVec.ofNat 32 _).toNat
  rw [BitVec.toNat_ofNat]
  exact (Nat.mod_eq_of_lt (Nat.lt_of_le_of_lt (Nat.mod_le _ _) x.toBitVec.isLt)).symm
theorem pk_andN {n : Nat} (h : n < 2 ^ 32) {m : Int32} (k : Nat) (hm : m.toBitVec.toNat = 2 ^ k - 1) : nI n &&& m = nI (n % 2 ^ k) := by
  rw [pk_and _ k hm, pk_tn h]
theorem pk_andE (x : Int32) {m : Int32} (k : Nat) (hm : m.toBitVec.toNat = 2 ^ k - 1) : ∃ j : Nat, j < 2 ^ k ∧ x &&& m = nI j := ⟨_, Nat.mod_lt _ (Nat.two_pow_pos k), pk_and x k hm⟩
theorem pk_andIn (x : Int32) {m : Int32} (k : Nat) (hm : m.toBitVec.toNat = 2 ^ k - 1) (hk : k ≤ 30) : vp_in (x &&& m) (2 ^ k) := by
  obtain ⟨j, hj, e⟩ := pk_andE x k hm
  rw [e]
  exact vp_in_nI hj (Nat.lt_of_le_of_lt (Nat.pow_le_pow_right (by decide) hk) (by decide))
theorem pk_shl (a s : Int32) (k : Nat) (hs : (s.toBitVec.smod 32).toNat = k) : (a <<< s).toBitVec.toNat = a.toBitVec.toNat * 2 ^ k % 2 ^ 32 := by
  show (a.toBitVec <<< (s.toBitVec.smod 32).toNat).toNat = _
  rw [hs, BitVec.toNat_shiftLeft, Nat.shiftLeft_eq]
theorem pk_shlN {n : Nat} (s : Int32) (k : Nat) (hs : (s.toBitVec.smod 32).toNat = k) (h : n * 2 ^ k < 2 ^ 32) : nI n <<< s = nI (n * 2 ^ k) := by
  apply Int32.toBitVec_inj.mp
  apply BitVec.eq_of_toNat_eq
  have hn : n < 2 ^ 32 := Nat.lt_of_le_of_lt (Nat.le_mul_of_pos_right n (Nat.two_pow_pos k)) h
  rw [pk_shl _ _ k hs, pk_tn hn, pk_tn h, Nat.mod_eq_of_lt h]
theorem pk_shr (a s : Int32) (k : Nat) (hs : (s.toBitVec.smod 32).toNat = k) : (a >>> s).toInt = a.toInt >>> k := by
  show (a.toBitVec.sshiftRight (s.toBitVec.smod 32).toNat).toInt = _
  rw [hs, BitVec.toInt_sshiftRight]
  rfl
theorem pk_shrN {n : Nat} (h : n < 2 ^ 31) (s : Int32) (k : Nat) (hs : (s.toBitVec.smod 32).toNat = k) : nI n >>> s = nI (n / 2 ^ k) := by
  apply Int32.toInt_inj.mp
  have h2 : n / 2 ^ k ≤ n := Nat.div_le_self _ _
  rw [pk_shr _ _ k hs, nI_toInt h, nI_toInt (by omega), Int.shiftRight_eq_div_pow]
  rfl
theorem s_l : ∀ n, n < 32 → ((nI n &&& 31).toBitVec.smod 32).toNat = n := by decide +kernel
theorem nx_and (a b : Nat) : nI a &&& nI b = nI (a &&& b) := by
  apply Int32.toBitVec_inj.1
  show BitVec.ofNat 32 a &&& BitVec.ofNat 32 b = BitVec.ofNat 32 (a &&& b)
  apply BitVec.eq_of_getLsbD_eq
  intro i hi
  simp [hi]
theorem pk_ix (x : Int32) {n : Nat} (hn : n < 2 ^ 31) : x < 0 ∨ nI n ≤ x ∨ ∃ j : Nat, j < n ∧ x = nI j := by
  by_cases h : x < 0
  · exact Or.inl h
  · obtain ⟨j, hj, rfl⟩ := nI_of h
    by_cases h2 : j < n
    · exact Or.inr (Or.inr ⟨j, h2, rfl⟩)
    · exact Or.inr (Or.inl (nI_le (by omega) hj))
end
section
theorem ba_or (a b : Nat) : nI a ||| nI b = nI (a ||| b) := by
  apply Int32.toBitVec_inj.1
  show BitVec.ofNat 32 a ||| BitVec.ofNat 32 b = BitVec.ofNat 32 (a ||| b)
  apply BitVec.eq_of_getLsbD_eq
  intro i hi
  simp [hi]
theorem ba_vb0 : vp_nar .boolean 0 = 0 := by decide
theorem ba_vb1 : vp_nar .boolean 1 = 1 := by decide
theorem ba_3m (a : Nat) : 3 * nI a = nI (3 * a) := pk_mul 3 a
theorem ba_d3 {a : Nat} (h : a < 2 ^ 31) : nI a / 3 = nI (a / 3) := pk_div (d := 3) h (by decide) (by decide)
theorem ba_r3 {a : Nat} (h : a < 2 ^ 31) : nI a - nI a / 3 * 3 = nI (a % 3) := pk_rem (d := 3) h (by decide) (by decide)
theorem ba_s1 {n : Nat} (h : 0 < n) : nI n - 1 = nI (n - 1) := by
  obtain ⟨m, rfl⟩ : ∃ m, n = m + 1 := ⟨n - 1, by omega⟩
  exact nI_pred m
theorem ba_eq0 {a : Nat} (h : a < 2 ^ 31) : nI a = 0 ↔ a = 0 := by
  rw [← nI_0, nI_eq h (by omega)]
/-- the templates -/
def ba_tp : Nat → Int32 := upd (upd (upd (upd (upd (upd (fun _ => 0) 0 145) 1 137) 2 273) 3 265) 4 289) 5 292
def ba_tN (t : Nat) : Nat := if t = 0 then 145 else if t = 1 then 137 else if t = 2 then 273 else if t = 3 then 265 else if t = 4 then 289 else 292
/-- the unit of slot s in template t -/
def ba_tu (t s : Nat) : Nat := ba_tN t / 8 ^ s % 8
/-- the units for a kind -/
def ba_un (k : Nat) : Nat := if 9 ≤ k then 4 else if 7 ≤ k then 1 else if k = 4 then 2 else if k = 5 then 2 else 3
theorem ba_tpu : ∀ t, t < 6 → ∀ s, s < 3 → (ba_tp t >>> ((3 * nI s) &&& 31)) &&& 7 = nI (ba_tu t s) := by decide +kernel
theorem ba_tu8 (t s : Nat) : ba_tu t s < 8 := Nat.mod_lt _ (by decide)
theorem ba_un8 (k : Nat) : ba_un k < 8 := by
  unfold ba_un
  repeat' split
  all_goals decide
theorem ba_bit : ∀ f, f < 64 → ∀ t, t < 6 → ((nI f >>> (nI t &&& 31)) &&& 1) = if f.testBit t = true then 1 else 0 := by decide +kernel
theorem ba_sl : ∀ t, t < 8 → (1 : Int32) <<< (nI t &&& 31) = nI (2 ^ t) := by decide +kernel
theorem ba_new : ∀ k, k < 11 → ∃ s, s < 3 ∧ ∃ t, t < 6 ∧ ba_tu t s &&& ba_un k ≠ 0 := by decide +kernel
theorem ba_ex : ∀ l, l < 64 → l ≠ 0 → ∃ t, t < 6 ∧ l.testBit t = true := by decide +kernel
theorem ba_63 : ∀ t, t < 6 → (63 : Nat).testBit t = true := by decide
/-- how a kind is numbered by its unit -/
def ba_num (k u : Nat) : Nat := if u = 4 then k - 9 else if 7 ≤ k then k - 7 else if k = 4 then 0 else if k = 5 then 1 else if k = 6 then 6 else k + 2
theorem ba_num6 : ∀ k, k < 11 → ∀ u, u < 8 → ba_num k u ≤ 6 := by decide +kernel
/-! a unit of a template that serves a kind, and what the kind is decoded from -/
theorem ba_tu4 : ∀ t, t < 6 → ∀ s, s < 3 → ba_tu t s < 5 ∧ ba_tu t s ≠ 3 := by decide +kernel
theorem ba_dA : ∀ k, k < 11 → ∀ u, u < 5 → (u ≠ 3 ∧ u &&& ba_un k ≠ 0 ∧ u = 4) → 9 ≤ k ∧ k = 9 + ba_num k u := by decide +kernel
theorem ba_dB : ∀ k, k < 11 → ∀ u, u < 5 → (u ≠ 3 ∧ u &&& ba_un k ≠ 0 ∧ u ≠ 4) → k < 9 := by decide +kernel
theorem ba_dC : ∀ k, k < 11 → ∀ u, u < 5 → (u ≠ 3 ∧ u &&& ba_un k ≠ 0 ∧ u ≠ 4 ∧ 2 ≤ ba_num k u ∧ ba_num k u = 6) → k = 6 := by decide +kernel
theorem ba_dD : ∀ k, k < 11 → ∀ u, u < 5 → (u ≠ 3 ∧ u &&& ba_un k ≠ 0 ∧ u ≠ 4 ∧ 2 ≤ ba_num k u ∧ ba_num k u ≠ 6) → k = ba_num k u - 2 := by decide +kernel
theorem ba_dE : ∀ k, k < 11 → ∀ u, u < 5 → (u ≠ 3 ∧ u &&& ba_un k ≠ 0 ∧ u ≠ 4 ∧ ba_num k u < 2 ∧ u = 1) → k = 7 + ba_num k u := by decide +kernel
theorem ba_dF : ∀ k, k < 11 → ∀ u, u < 5 → (u ≠ 3 ∧ u &&& ba_un k ≠ 0 ∧ u ≠ 4 ∧ ba_num k u < 2 ∧ u ≠ 1) → k = 4 + ba_num k u := by decide +kernel
theorem ba_dec {k t s : Nat} (hk : k < 11) (ht : t < 6) (hs : s < 3) (hu : ba_tu t s &&& ba_un k ≠ 0) :
    (ba_tu t s = 4 → 9 ≤ k ∧ k = 9 + ba_num k (ba_tu t s)) ∧ (ba_tu t s ≠ 4 → k < 9 ∧
      (2 ≤ ba_num k (ba_tu t s) → (ba_num k (ba_tu t s) = 6 → k = 6) ∧ (ba_num k (ba_tu t s) ≠ 6 → k = ba_num k (ba_tu t s) - 2)) ∧
      (ba_num k (ba_tu t s) < 2 → (ba_tu t s = 1 → k = 7 + ba_num k (ba_tu t s)) ∧ (ba_tu t s ≠ 1 → k = 4 + ba_num k (ba_tu t s)))) := by
  obtain ⟨h5, h3⟩ := ba_tu4 t ht s hs
  exact ⟨fun h4 => ba_dA k hk _ h5 ⟨h3, hu, h4⟩, fun h4 => ⟨ba_dB k hk _ h5 ⟨h3, hu, h4⟩, fun h2 => ⟨fun h => ba_dC k hk _ h5 ⟨h3, hu, h4, h2, h⟩, fun h => ba_dD k hk _ h5 ⟨h3, hu, h4, h2, h⟩⟩,
    fun h2 => ⟨fun h => ba_dE k hk _ h5 ⟨h3, hu, h4, h2, h⟩, fun h => ba_dF k hk _ h5 ⟨h3, hu, h4, h2, h⟩⟩⟩⟩
/-- the word -/
def ba_wN (n d a q : Nat) : Nat := n + 1 + 16 * d + 128 * a + 1024 * q
theorem ba_orA {k a b : Nat} (h : a < 2 ^ k) : a ||| b * 2 ^ k = a + b * 2 ^ k := by
  rw [Nat.or_comm, ← Nat.shiftLeft_eq, ← Nat.shiftLeft_add_eq_or_of_lt h, Nat.add_comm]
theorem ba_word {n d a q : Nat} (hn : n ≤ 6) (hd : d ≤ 7) (ha : a ≤ 7) (hq : q < 256) :
    (((nI n + 1) ||| (nI d <<< ((4 : Int32) &&& 31))) ||| (nI a <<< ((7 : Int32) &&& 31))) ||| (nI q <<< ((10 : Int32) &&& 31)) = nI (ba_wN n d a q) := by
  rw [nI_1, pk_shlN (n := d) _ 4 (by decide) (by omega), pk_shlN (n := a) _ 7 (by decide) (by omega), pk_shlN (n := q) _ 10 (by decide) (by omega), ba_or, ba_or, ba_or,
    ba_orA (k := 4) (by omega), ba_orA (k := 7) (by omega), ba_orA (k := 10) (by omega)]
  refine congrArg nI ?_
  unfold ba_wN
  omega
theorem ba_wlt {n d a q : Nat} (hn : n ≤ 6) (hd : d ≤ 7) (ha : a ≤ 7) (hq : q < 256) : ba_wN n d a q < 2 ^ 30 := by
  unfold ba_wN
  omega
theorem ba_w0 {n d a q : Nat} (hn : n ≤ 6) (hd : d ≤ 7) (ha : a ≤ 7) (hq : q < 256) : nI (ba_wN n d a q) ≠ 0 := by
  refine nI_ne0 ?_ ?_
  · unfold ba_wN; omega
  · unfold ba_wN; omega
theorem ba_wn {n d a q : Nat} (hn : n ≤ 6) (hd : d ≤ 7) (ha : a ≤ 7) (hq : q < 256) : (nI (ba_wN n d a q) &&& 15) - 1 = nI n := by
  have h := ba_wlt hn hd ha hq
  rw [pk_andN (by omega) 4 (by decide)]
  have e : ba_wN n d a q % 2 ^ 4 = n + 1 := by unfold ba_wN; omega
  rw [e]
  exact nI_pred n
theorem ba_wd {n d a q : Nat} (hn : n ≤ 6) (hd : d ≤ 7) (ha : a ≤ 7) (hq : q < 256) : (nI (ba_wN n d a q) >>> ((4 : Int32) &&& 31)) &&& 7 = nI d := by
  have h := ba_wlt hn hd ha hq
  rw [pk_shrN (by omega) _ 4 (by decide), pk_andN (by omega) 3 (by decide)]
  refine congrArg nI ?_
  unfold ba_wN
  omega
theorem ba_wa {n d a q : Nat} (hn : n ≤ 6) (hd : d ≤ 7) (ha : a ≤ 7) (hq : q < 256) : (nI (ba_wN n d a q) >>> ((7 : Int32) &&& 31)) &&& 7 = nI a := by
  have h := ba_wlt hn hd ha hq
  rw [pk_shrN (by omega) _ 7 (by decide), pk_andN (by omega) 3 (by decide)]
  refine congrArg nI ?_
  unfold ba_wN
  omega
theorem ba_wq {n d a q : Nat} (hn : n ≤ 6) (hd : d ≤ 7) (ha : a ≤ 7) (hq : q < 256) : (nI (ba_wN n d a q) >>> ((10 : Int32) &&& 31)) - 128 = nI q - 128 := by
  have h := ba_wlt hn hd ha hq
  rw [pk_shrN (by omega) _ 10 (by decide)]
  have e : ba_wN n d a q / 2 ^ 10 = q := by unfold ba_wN; omega
  rw [e]
theorem ba_q128 {q : Nat} (h : 128 ≤ q) : nI q - 128 = nI (q - 128) := pk_sub (b := 128) h
theorem ba_p128 (q : Nat) : nI q + 128 = nI (q + 128) := nI_add q 128
theorem ba_128 (q : Nat) : nI q - 128 + 128 = nI q := Int32.sub_add_cancel _ _
theorem ba_ev {P : Int32 → Prop} {x y : Int32} (e : x = y) (h : P y) : P x := e ▸ h
end
section
section
variable {ct bu pa op fr fi wr gs ap fs tk : Int32} {kd dd fd sd tp ld so wd st sh rg cs sr sc : Nat → Int32}
theorem ba_close1 {post : SX → Prop} (h : post (ct, bu, pa, -1, fr, fi, wr, gs, ap, fs, tk, kd, dd, fd, sd, tp, ld, so, wd, st, sh, rg, cs, sr, sc)) : wpX_closeBundle post (ct, bu, pa, -1, fr, fi, wr, gs, ap, fs, tk, kd, dd, fd, sd, tp, ld, so, wd, st, sh, rg, cs, sr, sc) :=
  br_f (by decide) h
theorem ba_c32 {post : SX → Prop} {o t : Nat} (ho : o < 24) (h : post (ct, bu, pa, -1, fr, fi, wr, gs, ap, fs, tk, kd, dd, fd, sd, tp, ld, so, wd, st, upd sh o (nI t), rg, cs, sr, sc)) : wX_closeBundle_32 post (nI t) ct bu pa (nI o) fr fi wr gs ap fs tk kd dd fd sd tp ld so wd st sh rg cs sr sc := by
  unfold wX_closeBundle_32
  refine And.intro (vp_in_nI ho (by decide)) ?_
  rw [nI_clamp (n := o) (by omega)]
  exact nm_e h
theorem ba_c10 {post : SX → Prop} {o f : Nat} (ho : o < 24) (hf : f < 64) (h0 : f ≠ 0)
    (h : ∀ t, t < 6 → f.testBit t = true → post (ct, bu, pa, -1, fr, nI f, wr, gs, ap, fs, tk, kd, dd, fd, sd, tp, ld, so, wd, st, upd sh o (nI t), rg, cs, sr, sc)) :
    ∀ d t, t + d = 5 → (∀ j, j < t → f.testBit j = false) → ∀ n, d < n → wX_closeBundle_10 post ct bu pa (nI o) fr (nI f) wr gs ap fs tk kd dd fd sd tp ld so wd st sh rg cs sr sc n (nI t) := by
  intro d
  induction d with
  | zero =>
    intro t ht hz n hn
    obtain ⟨m, rfl⟩ : ∃ m, n = m + 1 := ⟨n - 1, by omega⟩
    obtain rfl : t = 5 := by omega
    refine br_t (nI_le (a := 5) (b := 5) (by omega) (by decide)) (ba_c32 ho (h 5 (by omega) ?_))
    obtain ⟨t, ht6, hb⟩ := ba_ex f hf h0
    rcases Nat.lt_or_ge t 5 with h5 | h5
    · rw [hz t h5] at hb; exact absurd hb (by decide)
    · obtain rfl : t = 5 := by omega
      exact hb
  | succ d ih =>
    intro t ht hz n hn
    obtain ⟨m, rfl⟩ : ∃ m, n = m + 1 := ⟨n - 1, by omega⟩
    refine br_f (nI_ge (b := 5) (by omega) (by decide)) ?_
    rw [ba_bit f hf t (by omega)]
    by_cases hb : f.testBit t = true
    · rw [if_pos hb]
      exact br_f (by decide) (ba_c32 ho (h t (by omega) hb))
    · rw [if_neg hb]
      refine br_t rfl (nm_r (nI_1 t) (ih (t + 1) (by omega) ?_ m (by omega)))
      intro j hj
      rcases Nat.lt_or_ge j t with h5 | h5
      · exact hz j h5
      · obtain rfl : j = t := by omega
        exact Bool.eq_false_iff.mpr hb
theorem ba_close2 {post : SX → Prop} {o f : Nat} (ho : o < 24) (hf : f < 64) (h0 : f ≠ 0)
    (h : ∀ t, t < 6 → f.testBit t = true → post (ct, bu, pa, -1, fr, nI f, wr, gs, ap, fs, tk, kd, dd, fd, sd, tp, ld, so, wd, st, upd sh o (nI t), rg, cs, sr, sc)) : wpX_closeBundle post (ct, bu, pa, nI o, fr, nI f, wr, gs, ap, fs, tk, kd, dd, fd, sd, tp, ld, so, wd, st, sh, rg, cs, sr, sc) := by
  unfold wpX_closeBundle
  dsimp only
  exact br_t (nI_pos' (by omega)) ⟨6, ba_c10 ho hf h0 h 5 0 rfl (fun j hj => absurd hj (by omega)) 6 (by omega)⟩
theorem ba_end0 {post : SX → Prop} (h : post (ct, bu, pa, op, fr, fi, 0, 0, ap, fs, tk, kd, dd, fd, sd, tp, ld, so, wd, st, sh, rg, cs, sr, sc)) : wpX_endGroup post (ct, bu, pa, op, fr, fi, wr, gs, ap, fs, tk, kd, dd, fd, sd, tp, ld, so, wd, st, sh, rg, cs, sr, sc) 0 := br_t (by decide) h
theorem ba_endS {post : SX → Prop} {i s : Nat} (hi : i < 24) (hs : s < 72) (e : so i = nI s) (h : post (ct, bu, pa, op, fr, fi, 0, nI (i + 1), ap, fs, tk, kd, dd, fd, sd, tp, ld, so, wd, upd st s 1, sh, rg, cs, sr, sc)) :
    wpX_endGroup post (ct, bu, pa, op, fr, fi, wr, gs, ap, fs, tk, kd, dd, fd, sd, tp, ld, so, wd, st, sh, rg, cs, sr, sc) (nI (i + 1)) := by
  unfold wpX_endGroup
  dsimp only
  refine br_f (nI_nle (by omega) (by omega)) ?_
  rw [nI_pred, nI_clamp (n := i) (by omega), e, nI_clamp (n := s) (by omega), ba_vb1]
  exact And.intro (vp_in_nI hi (by decide)) (And.intro (vp_in_nI hs (by decide)) (nm_e h))
theorem ba_meet {post : Int32 → Prop} {k i : Nat} (hk : k < 24) (hi : i < 24) (h0 : fd k = fd i → ¬ ((sd k - sd i) &&& 15) = 0 → post 0) (h1 : post 1) :
    wpX_mayMeet post (ct, bu, pa, op, fr, fi, wr, gs, ap, fs, tk, kd, dd, fd, sd, tp, ld, so, wd, st, sh, rg, cs, sr, sc) (nI k) (nI i) := by
  unfold wpX_mayMeet
  dsimp only
  rw [nI_clamp (n := k) (by omega), nI_clamp (n := i) (by omega)]
  have vk := vp_in_nI (n := k) (N := 24) hk (by decide)
  have vi := vp_in_nI (n := i) (N := 24) hi (by decide)
  exact And.intro vk (And.intro vi (br_c (fun e => And.intro vk (And.intro vi (br_c (fun _ => h1) (fun z => h0 e z)))) (fun _ => h1)))
theorem ba_m85 {post : Int32 → Prop} {i g : Nat} (hi : i < 24) (h1 : post 1)
    (h0 : (∀ j, g ≤ j → j < i → kd j = 8 → fd j = fd i ∧ ¬ ((sd j - sd i) &&& 15) = 0) → post 0) :
    ∀ d x, x + d = i → (∀ j, g ≤ j → j < x → kd j = 8 → fd j = fd i ∧ ¬ ((sd j - sd i) &&& 15) = 0) → ∀ n, d < n → wX_mustStop_85 post (nI i) ct bu pa op fr fi wr gs ap fs tk kd dd fd sd tp ld so wd st sh rg cs sr sc n (nI x) := by
  intro d
  induction d with
  | zero =>
    intro x hx hz n hn
    obtain ⟨m, rfl⟩ : ∃ m, n = m + 1 := ⟨n - 1, by omega⟩
    obtain rfl : x = i := by omega
    exact br_t (nI_le (by omega) (by omega)) (h0 hz)
  | succ d ih =>
    intro x hx hz n hn
    obtain ⟨m, rfl⟩ : ∃ m, n = m + 1 := ⟨n - 1, by omega⟩
    refine br_f (nI_ge (by omega) (by omega)) ?_
    refine And.intro (vp_in_nI (by omega) (by decide)) ?_
    rw [nI_clamp (n := x) (by omega)]
    by_cases h8 : kd x = 8
    · refine br_t h8 (ba_meet (by omega) hi ?_ (br_f (by decide) h1))
      intro e1 e2
      refine br_t rfl (nm_r (nI_1 x) (ih (x + 1) (by omega) ?_ m (by omega)))
      intro j hg hj hj8
      rcases Nat.lt_or_ge j x with h5 | h5
      · exact hz j hg h5 hj8
      · obtain rfl : j = x := by omega
        exact ⟨e1, e2⟩
    · refine br_f h8 (nm_r (nI_1 x) (ih (x + 1) (by omega) ?_ m (by omega)))
      intro j hg hj hj8
      rcases Nat.lt_or_ge j x with h5 | h5
      · exact hz j hg h5 hj8
      · obtain rfl : j = x := by omega
        exact absurd hj8 h8
theorem ba_m60 {post : Int32 → Prop} {i g k m w : Nat} (hi : i < 24) (hg : g ≤ i) (hk : k ≤ 10) (hm : m < 256) (hw : w < 256) (h1 : post 1)
    (h0 : m &&& w = 0 → (k = 7 → ∀ j, g ≤ j → j < i → kd j = 8 → fd j = fd i ∧ ¬ ((sd j - sd i) &&& 15) = 0) → post 0) :
    wX_mustStop_60 post (nI i) (nI k) (nI m) ct bu pa op fr fi (nI w) (nI g) ap fs tk kd dd fd sd tp ld so wd st sh rg cs sr sc := by
  unfold wX_mustStop_60
  have hl : m &&& w < 2 ^ 31 := Nat.lt_of_le_of_lt Nat.and_le_left (by omega)
  rw [nx_and]
  refine pk_eq (m &&& w) 0 (fun z => ?_) (fun _ => h1) rfl rfl hl (by decide)
  refine pk_eq k 7 (fun z7 => ?_) (fun n7 => h0 z (fun z7 => absurd z7 n7))
  exact ⟨i - g + 1, ba_m85 (g := g) hi h1 (fun q => h0 z (fun _ => q)) (i - g) g (by omega) (fun j a b => absurd a (by omega)) _ (by omega)⟩
theorem ba_m43 {post : Int32 → Prop} {i g k m w d : Nat} (hi : i < 24) (hg : g ≤ i) (hk : k ≤ 10) (hm : m < 256) (hw : w < 256) (ed : dd i = nI d) (hd : d ≤ 7) (h1 : post 1)
    (h0 : m &&& w = 0 → (k = 8 → w.testBit d = false) → (k = 7 → ∀ j, g ≤ j → j < i → kd j = 8 → fd j = fd i ∧ ¬ ((sd j - sd i) &&& 15) = 0) → post 0) :
    wX_mustStop_43 post (nI i) (nI k) (nI m) ct bu pa op fr fi (nI w) (nI g) ap fs tk kd dd fd sd tp ld so wd st sh rg cs sr sc := by
  unfold wX_mustStop_43
  rw [nI_clamp (n := i) (by omega), ed, ba_sl d (by omega), ba_or]
  refine pk_eq k 8 (fun z8 => ?_) (fun n8 => ba_m60 hi hg hk hm hw h1 (fun a => h0 a (fun z => absurd z n8)))
  have h2 : 2 ^ d < 2 ^ 8 := Nat.pow_lt_pow_right (by decide) (by omega)
  refine And.intro (vp_in_nI hi (by decide)) (nm_e (ba_m60 hi hg hk (Nat.or_lt_two_pow (n := 8) hm h2) hw h1 (fun a b => h0 ?_ (fun _ => ?_) b)))
  · apply Nat.eq_of_testBit_eq
    intro x
    have hx := congrArg (fun y => Nat.testBit y x) a
    simp only [Nat.testBit_and, Nat.testBit_or, Nat.zero_testBit] at hx ⊢
    revert hx
    cases m.testBit x <;> cases w.testBit x <;> simp
  · have hx := congrArg (fun y => Nat.testBit y d) a
    simp only [Nat.testBit_and, Nat.testBit_or, Nat.zero_testBit, Nat.testBit_two_pow_self] at hx
    revert hx
    cases m.testBit d <;> cases w.testBit d <;> simp
theorem ba_m25 {post : Int32 → Prop} {i g k m w d b : Nat} (hi : i < 24) (hg : g ≤ i) (hk : k ≤ 10) (hm : m < 256) (hw : w < 256) (ed : dd i = nI d) (hd : d ≤ 7)
    (eb : k < 6 → sd i = nI b ∧ b ≤ 7) (h1 : post 1)
    (h0 : m &&& w = 0 → (k < 6 → w.testBit b = false) → (k = 8 → w.testBit d = false) → (k = 7 → ∀ j, g ≤ j → j < i → kd j = 8 → fd j = fd i ∧ ¬ ((sd j - sd i) &&& 15) = 0) → post 0) :
    wX_mustStop_25 post (nI i) (nI k) (nI m) ct bu pa op fr fi (nI w) (nI g) ap fs tk kd dd fd sd tp ld so wd st sh rg cs sr sc := by
  unfold wX_mustStop_25
  rw [nI_clamp (n := i) (by omega)]
  refine pk_le 6 k (fun z6 => ba_m43 hi hg hk hm hw ed hd h1 (fun a => h0 a (fun z => absurd z (by omega)))) (fun n6 => ?_)
  obtain ⟨e, hb⟩ := eb n6
  rw [e, ba_sl b (by omega), ba_or]
  have h2 : 2 ^ b < 2 ^ 8 := Nat.pow_lt_pow_right (by decide) (by omega)
  refine And.intro (vp_in_nI hi (by decide)) (nm_e (ba_m43 hi hg hk (Nat.or_lt_two_pow (n := 8) hm h2) hw ed hd h1 (fun a c => h0 ?_ (fun _ => ?_) c)))
  · apply Nat.eq_of_testBit_eq
    intro x
    have hx := congrArg (fun y => Nat.testBit y x) a
    simp only [Nat.testBit_and, Nat.testBit_or, Nat.zero_testBit] at hx ⊢
    revert hx
    cases m.testBit x <;> cases w.testBit x <;> simp
  · have hx := congrArg (fun y => Nat.testBit y b) a
    simp only [Nat.testBit_and, Nat.testBit_or, Nat.zero_testBit, Nat.testBit_two_pow_self] at hx
    revert hx
    cases m.testBit b <;> cases w.testBit b <;> simp
theorem ba_must {post : Int32 → Prop} {i g k w d a b : Nat} (hi : i < 24) (hg : g ≤ i) (ek : kd i = nI k) (hk : k ≤ 10) (hw : w < 256) (ed : dd i = nI d) (hd : d ≤ 7)
    (ea : fd i = nI a) (ha : a ≤ 7) (eb : k < 6 → sd i = nI b ∧ b ≤ 7) (h1 : post 1)
    (h0 : (k ≠ 10 → w.testBit a = false) → (k < 6 → w.testBit b = false) → (k = 8 → w.testBit d = false) → (k = 7 → ∀ j, g ≤ j → j < i → kd j = 8 → fd j = fd i ∧ ¬ ((sd j - sd i) &&& 15) = 0) → post 0) :
    wpX_mustStop post (ct, bu, pa, op, fr, fi, nI w, nI g, ap, fs, tk, kd, dd, fd, sd, tp, ld, so, wd, st, sh, rg, cs, sr, sc) (nI i) := by
  unfold wpX_mustStop
  dsimp only
  rw [nI_clamp (n := i) (by omega), ek, ea, ba_sl a (by omega)]
  have h2 : 2 ^ a < 2 ^ 8 := Nat.pow_lt_pow_right (by decide) (by omega)
  refine And.intro (vp_in_nI hi (by decide)) (nm_e ?_)
  refine pk_eq k 10 (fun z => ba_m25 (m := 0) (b := b) hi hg hk (by omega) hw ed hd eb h1 (fun _ => h0 (fun q => absurd z q))) (fun n10 => ?_)
  refine And.intro (vp_in_nI hi (by decide)) (ba_m25 (m := 2 ^ a) (b := b) hi hg hk h2 hw ed hd eb h1 (fun z => h0 (fun _ => ?_)))
  have hx := congrArg (fun y => Nat.testBit y a) z
  simp only [Nat.testBit_and, Nat.zero_testBit, Nat.testBit_two_pow_self, Bool.true_and] at hx
  exact hx
theorem ba_units {post : Int32 → Prop} {k : Nat} (hk : k ≤ 10) (h : post (nI (ba_un k))) : wpX_unitsFor post (nI k) := by
  unfold wpX_unitsFor
  unfold ba_un at h
  refine pk_lt k 9 (fun h9 => ?_) (fun h9 => by rw [if_pos h9] at h; exact h)
  rw [if_neg (by omega)] at h
  refine pk_lt k 7 (fun h7 => ?_) (fun h7 => by rw [if_pos h7] at h; exact h)
  rw [if_neg (by omega)] at h
  refine pk_eq k 4 (fun h4 => by rw [if_pos h4] at h; exact h) (fun h4 => ?_)
  rw [if_neg h4] at h
  exact pk_eq k 5 (fun h5 => by rw [if_pos h5] at h; exact h) (fun h5 => by rw [if_neg h5] at h; exact h)
end
end
section
section
variable {ct bu pa op fr fi wr gs ap fs tk : Int32} {kd dd fd sd tp ld so wd st sh rg cs sr sc : Nat → Int32}
def ba_gd (f s u t : Nat) : Bool := f.testBit t && decide (ba_tu t s &&& u ≠ 0)
theorem ba_cl6 {post : Int32 → SX → Prop} {i s u f o : Nat} (hi : i < 24) (hs : s < 3) (hu : u < 8) (hf : f < 64)
    (h0 : (∀ t, t < 6 → ba_gd f s u t = false) → post 0 (ct, bu, pa, nI o, fr, nI f, wr, gs, ap, fs, tk, kd, dd, fd, sd, ba_tp, ld, so, wd, st, sh, rg, cs, sr, sc))
    (h1 : ∀ l, l < 64 → l ≠ 0 → (∀ t, t < 6 → l.testBit t = ba_gd f s u t) → post 1 (ct, bu, pa, nI o, nI (s + 1), nI l, wr, gs, ap, fs, tk, kd, dd, fd, sd, ba_tp, ld, upd so i (nI (3 * o + s)), wd, st, sh, rg, cs, sr, sc)) :
    ∀ d t, t + d = 6 → ∀ l, l < 64 → (∀ x, x < 6 → l.testBit x = (decide (x < t) && ba_gd f s u x)) → ∀ n, d < n →
      wX_claim_6 post (nI i) (nI s) (nI u) ct bu pa (nI o) fr (nI f) wr gs ap fs tk kd dd fd sd ba_tp ld so wd st sh rg cs sr sc n (nI l) (nI t) := by
  intro d
  induction d with
  | zero =>
    intro t ht l hl hb n hn
    obtain ⟨m, rfl⟩ : ∃ m, n = m + 1 := ⟨n - 1, by omega⟩
    obtain rfl : t = 6 := by omega
    refine br_t (nI_le (a := 6) (b := 6) (by omega) (by decide)) ?_
    have hb' : ∀ x, x < 6 → l.testBit x = ba_gd f s u x := fun x hx => by
      rw [hb x hx, decide_eq_true hx, Bool.true_and]
    refine pk_eq l 0 (fun z => h0 (fun t ht => ?_)) (fun nz => ?_)
    · rw [← hb' t ht, z, Nat.zero_testBit]
    · rw [ba_3m, nI_add, nI_clamp (n := i) (by omega)]
      exact nm_r (nI_1 s) (And.intro (vp_in_nI hi (by decide)) (nm_e (h1 l hl nz hb')))
  | succ d ih =>
    intro t ht l hl hb n hn
    obtain ⟨m, rfl⟩ : ∃ m, n = m + 1 := ⟨n - 1, by omega⟩
    refine br_f (nI_ge (b := 6) (by omega) (by decide)) ?_
    rw [nI_clamp (n := t) (by omega), ba_tpu t (by omega) s hs, ba_bit f hf t (by omega), ba_sl t (by omega), ba_or]
    refine And.intro (vp_in_nI (by omega) (by decide)) (nm_e ?_)
    rw [nx_and]
    have hlu : ba_tu t s &&& u < 2 ^ 31 := Nat.lt_of_le_of_lt Nat.and_le_right (by omega)
    have keep : ba_gd f s u t = false → ∀ x, x < 6 → l.testBit x = (decide (x < t + 1) && ba_gd f s u x) := by
      intro hg x hx
      rw [hb x hx]
      by_cases e : x = t
      · subst e
        rw [hg, Bool.and_false, Bool.and_false]
      · congr 1
        exact decide_eq_decide.mpr (by omega)
    by_cases hft : f.testBit t = true
    · rw [if_pos hft]
      refine br_t rfl (pk_eq (ba_tu t s &&& u) 0 (fun z => ?_) (fun nz => ?_) rfl rfl hlu (by decide))
      · refine nm_r (nI_1 t) (ih (t + 1) (by omega) l hl (keep ?_) m (by omega))
        unfold ba_gd
        rw [decide_eq_false (by omega), Bool.and_false]
      · have h2 : 2 ^ t < 2 ^ 6 := Nat.pow_lt_pow_right (by decide) (by omega)
        refine nm_e (nm_r (nI_1 t) (ih (t + 1) (by omega) (l ||| 2 ^ t) (Nat.or_lt_two_pow (n := 6) hl h2) ?_ m (by omega)))
        intro x hx
        rw [Nat.testBit_or, hb x hx, Nat.testBit_two_pow]
        by_cases e : x = t
        · subst e
          unfold ba_gd
          rw [hft, decide_eq_true nz, decide_eq_true (show x < x + 1 by omega), decide_eq_true (show x = x from rfl)]
          simp
        · rw [decide_eq_false (show ¬ t = x by omega), Bool.or_false]
          congr 1
          exact decide_eq_decide.mpr (by omega)
    · rw [if_neg hft]
      refine br_f (by decide) (nm_r (nI_1 t) (ih (t + 1) (by omega) l hl (keep ?_) m (by omega)))
      unfold ba_gd
      rw [Bool.eq_false_iff.mpr hft, Bool.false_and]
theorem ba_claim {post : Int32 → SX → Prop} {i s u f o : Nat} (hi : i < 24) (hs : s < 3) (hu : u < 8) (hf : f < 64)
    (h0 : (∀ t, t < 6 → ba_gd f s u t = false) → post 0 (ct, bu, pa, nI o, fr, nI f, wr, gs, ap, fs, tk, kd, dd, fd, sd, ba_tp, ld, so, wd, st, sh, rg, cs, sr, sc))
    (h1 : ∀ l, l < 64 → l ≠ 0 → (∀ t, t < 6 → l.testBit t = ba_gd f s u t) → post 1 (ct, bu, pa, nI o, nI (s + 1), nI l, wr, gs, ap, fs, tk, kd, dd, fd, sd, ba_tp, ld, upd so i (nI (3 * o + s)), wd, st, sh, rg, cs, sr, sc)) :
    wpX_claim post (ct, bu, pa, nI o, fr, nI f, wr, gs, ap, fs, tk, kd, dd, fd, sd, ba_tp, ld, so, wd, st, sh, rg, cs, sr, sc) (nI i) (nI s) (nI u) := by
  unfold wpX_claim
  dsimp only
  exact ⟨7, ba_cl6 hi hs hu hf h0 h1 6 0 rfl 0 (by decide) (fun x _ => by rw [Nat.zero_testBit, decide_eq_false (by omega), Bool.false_and]) 7 (by omega)⟩
end
end
section
/-! slots: the pure invariant -/
def ba_nu (sl : Nat → Nat) (i v : Nat) : Nat → Nat := fun j => if j = i then v else sl j
theorem ba_nus {sl : Nat → Nat} {i v : Nat} : ba_nu sl i v i = v := if_pos rfl
theorem ba_nun {sl : Nat → Nat} {i v j : Nat} (h : j ≠ i) : ba_nu sl i v j = sl j := if_neg h
/-- operation j stands in a slot of a closed bundle whose unit serves it -/
def ba_cs (kd : Nat → Int32) (sl : Nat → Nat) (sh : Nat → Int32) (j : Nat) : Prop :=
  ∃ t, t < 6 ∧ sh (sl j / 3) = nI t ∧ ba_tu t (sl j % 3) &&& ba_un (kd j).toNatClampNeg ≠ 0
/-- what holds of the slots of the first i operations, all below lim -/
def ba_SC (ld : Nat → Int32) (sl : Nat → Nat) (i lim : Nat) (so : Nat → Int32) : Prop :=
  (∀ j, j < i → so j = nI (sl j)) ∧ (∀ j k, j < k → k < i → sl j < sl k) ∧ (∀ j, j < i → sl j < lim) ∧
  (∀ j, j < i → ld j ≠ 0 → ∀ k, k < j → sl k < 3 * (sl j / 3))
/-- no bundle stands to be filled; b of them are closed -/
def ba_Sc (kd ld : Nat → Int32) (sl : Nat → Nat) (i b : Nat) (so sh : Nat → Int32) : Prop :=
  ba_SC ld sl i (3 * b) so ∧ ∀ j, j < i → ba_cs kd sl sh j
/-- bundle o stands to be filled from slot r on, with the templates f -/
def ba_So (kd ld : Nat → Int32) (sl : Nat → Nat) (i o r f : Nat) (so sh : Nat → Int32) : Prop :=
  ba_SC ld sl i (3 * o + r) so ∧ (∀ j, j < i → sl j < 3 * o → ba_cs kd sl sh j) ∧
  (∀ j, j < i → 3 * o ≤ sl j → ∀ t, t < 6 → f.testBit t = true → ba_tu t (sl j % 3) &&& ba_un (kd j).toNatClampNeg ≠ 0) ∧ r ≤ 3 ∧ f < 64 ∧ f ≠ 0
theorem ba_So_close {kd ld : Nat → Int32} {sl : Nat → Nat} {i o r f t : Nat} {so sh : Nat → Int32} (h : ba_So kd ld sl i o r f so sh) (ht : t < 6) (hb : f.testBit t = true) :
    ba_Sc kd ld sl i (o + 1) so (upd sh o (nI t)) := by
  obtain ⟨⟨h1, h2, h3, h4⟩, h5, h6, h7, h8, h9⟩ := h
  refine ⟨⟨h1, h2, fun j hj => ?_, h4⟩, fun j hj => ?_⟩
  · have := h3 j hj
    omega
  · have hl := h3 j hj
    rcases Nat.lt_or_ge (sl j) (3 * o) with hc | hc
    · obtain ⟨t', a, b, c⟩ := h5 j hj hc
      refine ⟨t', a, ?_, c⟩
      rw [pk_un (by omega)]
      exact b
    · refine ⟨t, ht, ?_, h6 j hj hc t ht hb⟩
      have e : sl j / 3 = o := by omega
      rw [e, pk_us]
theorem ba_Sc_new {kd ld : Nat → Int32} {sl : Nat → Nat} {i b : Nat} {so sh : Nat → Int32} (h : ba_Sc kd ld sl i b so sh) : ba_So kd ld sl i b 0 63 so sh := by
  obtain ⟨⟨h1, h2, h3, h4⟩, h5⟩ := h
  refine ⟨⟨h1, h2, h3, h4⟩, fun j hj _ => h5 j hj, fun j hj hc => ?_, by omega, by omega, by omega⟩
  have := h3 j hj
  omega
theorem ba_So_put {kd ld : Nat → Int32} {sl : Nat → Nat} {i o r f s l : Nat} {so sh : Nat → Int32} (h : ba_So kd ld sl i o r f so sh) (hr : r ≤ s) (hs : s < 3)
    (hl : l < 64) (h0 : l ≠ 0) (hb : ∀ t, t < 6 → l.testBit t = ba_gd f s (ba_un (kd i).toNatClampNeg) t) (hL : ld i ≠ 0 → ∀ k, k < i → sl k < 3 * o) :
    ba_So kd ld (ba_nu sl i (3 * o + s)) (i + 1) o (s + 1) l (upd so i (nI (3 * o + s))) sh := by
  obtain ⟨⟨h1, h2, h3, h4⟩, h5, h6, h7, h8, h9⟩ := h
  have hb1 : ∀ t, t < 6 → l.testBit t = true → f.testBit t = true ∧ ba_tu t s &&& ba_un (kd i).toNatClampNeg ≠ 0 := by
    intro t ht e
    rw [hb t ht] at e
    unfold ba_gd at e
    rw [Bool.and_eq_true, decide_eq_true_eq] at e
    exact e
  refine ⟨⟨fun j hj => ?_, fun j k hjk hk => ?_, fun j hj => ?_, fun j hj hlj k hk => ?_⟩, fun j hj hc => ?_, fun j hj hc t ht ft => ?_, by omega, hl, h0⟩
  · by_cases e : j = i
    · subst e
      rw [pk_us, ba_nus]
    · rw [pk_un e, ba_nun e]
      exact h1 j (by omega)
  · by_cases e : k = i
    · subst e
      rw [ba_nus, ba_nun (by omega)]
      have := h3 j (by omega)
      omega
    · rw [ba_nun e, ba_nun (by omega)]
      exact h2 j k hjk (by omega)
  · by_cases e : j = i
    · subst e
      rw [ba_nus]
      omega
    · rw [ba_nun e]
      have := h3 j (by omega)
      omega
  · by_cases e : j = i
    · subst e
      rw [ba_nus, ba_nun (by omega)]
      have := hL hlj k hk
      omega
    · rw [ba_nun e, ba_nun (by omega)]
      exact h4 j (by omega) hlj k hk
  · by_cases e : j = i
    · subst e
      rw [ba_nus] at hc
      omega
    · rw [ba_nun e] at hc
      obtain ⟨t, a, b, c⟩ := h5 j (by omega) hc
      refine ⟨t, a, ?_, ?_⟩
      · rw [ba_nun e]; exact b
      · rw [ba_nun e]; exact c
  · by_cases e : j = i
    · subst e
      rw [ba_nus]
      have e2 : (3 * o + s) % 3 = s := by omega
      rw [e2]
      exact (hb1 t ht ft).2
    · rw [ba_nun e] at hc ⊢
      exact h6 j (by omega) hc t ht (hb1 t ht ft).1
section
variable {ct bu pa op fr fi wr gs ap fs tk : Int32} {kd dd fd sd tp ld so wd st sh rg cs sr sc : Nat → Int32}
/-- an operation is put: what the continuation is asked at -/
def ba_PutK (post : SX → Prop) (sl : Nat → Nat) (i : Nat) (ct pa wr gs ap fs tk : Int32) (kd dd fd sd ld so wd st rg cs sr sc : Nat → Int32) : Prop :=
  ∀ o r f v sh', o ≤ i → v < 72 → ba_So kd ld (ba_nu sl i v) (i + 1) o r f (upd so i (nI v)) sh' →
    post (ct, nI (o + 1), pa, nI o, nI r, nI f, wr, gs, ap, fs, tk, kd, dd, fd, sd, ba_tp, ld, upd so i (nI v), wd, st, sh', rg, cs, sr, sc)
theorem ba_p79 {post : SX → Prop} {sl : Nat → Nat} {i o k : Nat} (hi : i < 24) (ho : o ≤ i) (ek : kd i = nI k) (hk : k ≤ 10) (S : ba_So kd ld sl i o 0 63 so sh)
    (hL : ld i ≠ 0 → ∀ k, k < i → sl k < 3 * o) (K : ba_PutK post sl i ct pa wr gs ap fs tk kd dd fd sd ld so wd st rg cs sr sc) :
    ∀ d s, s + d = 3 → (∀ x, x < s → ∀ t, t < 6 → ba_tu t x &&& ba_un k = 0) → ∀ n, d < n →
      wX_putIntoSlot_79 post (nI i) (nI (ba_un k)) n (nI s) ct (nI (o + 1)) pa (nI o) (nI 0) (nI 63) wr gs ap fs tk kd dd fd sd ba_tp ld so wd st sh rg cs sr sc := by
  intro d
  induction d with
  | zero =>
    intro s hs hz
    obtain rfl : s = 3 := by omega
    obtain ⟨s, hs3, t, ht, hne⟩ := ba_new k (by omega)
    exact absurd (hz s hs3 t ht) hne
  | succ d ih =>
    intro s hs hz n hn
    obtain ⟨m, rfl⟩ : ∃ m, n = m + 1 := ⟨n - 1, by omega⟩
    refine br_f (nI_ge (b := 3) (by omega) (by decide)) (ba_claim hi (by omega) (ba_un8 k) (by decide) ?_ ?_)
    · intro hz2
      refine br_t rfl (nm_r (nI_1 s) (ih (s + 1) (by omega) ?_ m (by omega)))
      intro x hx t ht
      rcases Nat.lt_or_ge x s with h5 | h5
      · exact hz x h5 t ht
      · obtain rfl : x = s := by omega
        have := hz2 t ht
        unfold ba_gd at this
        rw [ba_63 t ht, Bool.true_and, decide_eq_false_iff_not] at this
        exact Classical.not_not.mp this
    · intro l hl h0 hb
      refine br_f (by decide) (K o (s + 1) l (3 * o + s) sh ho (by omega) (ba_So_put S (by omega) (by omega) hl h0 ?_ hL))
      rw [ek, nI_clamp (by omega)]
      exact hb
theorem ba_p48 {post : SX → Prop} {sl : Nat → Nat} {i b k : Nat} (hi : i < 24) (hb : b ≤ i) (ek : kd i = nI k) (hk : k ≤ 10) (S : ba_Sc kd ld sl i b so sh)
    (K : ba_PutK post sl i ct pa wr gs ap fs tk kd dd fd sd ld so wd st rg cs sr sc) : wX_putIntoSlot_48 post (nI i) (nI (ba_un k)) ct (nI b) pa (-1) fr fi wr gs ap fs tk kd dd fd sd ba_tp ld so wd st sh rg cs sr sc := by
  unfold wX_putIntoSlot_48
  exact nm_r (nI_1 b) ⟨4, ba_p79 hi hb ek hk (ba_Sc_new S) (fun _ => fun k hk => S.1.2.2.1 k hk) K 3 0 rfl (fun x hx => absurd hx (by omega)) 4 (by omega)⟩
theorem ba_p22 {post : SX → Prop} {sl : Nat → Nat} {i o r f k : Nat} (hi : i < 24) (ho : o + 1 ≤ i) (ek : kd i = nI k) (hk : k ≤ 10) (S : ba_So kd ld sl i o r f so sh)
    (hL : ld i = 0) (K : ba_PutK post sl i ct pa wr gs ap fs tk kd dd fd sd ld so wd st rg cs sr sc) :
    ∀ d s, s + d = 3 → r ≤ s → ∀ n, d < n →
      wX_putIntoSlot_22 post (nI i) (nI (ba_un k)) n (nI s) ct (nI (o + 1)) pa (nI o) (nI r) (nI f) wr gs ap fs tk kd dd fd sd ba_tp ld so wd st sh rg cs sr sc := by
  intro d
  induction d with
  | zero =>
    intro s hs hr n hn
    obtain ⟨m, rfl⟩ : ∃ m, n = m + 1 := ⟨n - 1, by omega⟩
    obtain rfl : s = 3 := by omega
    refine br_t (nI_le (a := 3) (b := 3) (by omega) (by decide)) (ba_close2 (by omega) S.2.2.2.2.1 S.2.2.2.2.2 ?_)
    intro t ht hb
    exact ba_p48 hi ho ek hk (ba_So_close S ht hb) K
  | succ d ih =>
    intro s hs hr n hn
    obtain ⟨m, rfl⟩ : ∃ m, n = m + 1 := ⟨n - 1, by omega⟩
    refine br_f (nI_ge (b := 3) (by omega) (by decide)) (ba_claim hi (by omega) (ba_un8 k) S.2.2.2.2.1 ?_ ?_)
    · intro hz2
      exact br_t rfl (nm_r (nI_1 s) (ih (s + 1) (by omega) (by omega) m (by omega)))
    · intro l hl h0 hb
      refine br_f (by decide) (K o (s + 1) l (3 * o + s) sh (by omega) (by omega) (ba_So_put S hr (by omega) hl h0 ?_ (fun z => absurd hL z)))
      rw [ek, nI_clamp (by omega)]
      exact hb
end
section
variable {ct bu pa op fr fi wr gs ap fs tk : Int32} {kd dd fd sd tp ld so wd st sh rg cs sr sc : Nat → Int32}
theorem ba_putC {post : SX → Prop} {sl : Nat → Nat} {i b k : Nat} (hi : i < 24) (hb : b ≤ i) (ek : kd i = nI k) (hk : k ≤ 10) (S : ba_Sc kd ld sl i b so sh)
    (K : ba_PutK post sl i ct pa wr gs ap fs tk kd dd fd sd ld so wd st rg cs sr sc) : wpX_putIntoSlot post (ct, nI b, pa, -1, fr, fi, wr, gs, ap, fs, tk, kd, dd, fd, sd, ba_tp, ld, so, wd, st, sh, rg, cs, sr, sc) (nI i) := by
  unfold wpX_putIntoSlot
  dsimp only
  rw [nI_clamp (n := i) (by omega), ek]
  exact And.intro (vp_in_nI hi (by decide)) (ba_units hk (br_t (by decide) (ba_p48 hi hb ek hk S K)))
theorem ba_putO {post : SX → Prop} {sl : Nat → Nat} {i o r f k : Nat} (hi : i < 24) (ho : o + 1 ≤ i) (ek : kd i = nI k) (hk : k ≤ 10) (S : ba_So kd ld sl i o r f so sh) (hL : ld i = 0)
    (K : ba_PutK post sl i ct pa wr gs ap fs tk kd dd fd sd ld so wd st rg cs sr sc) : wpX_putIntoSlot post (ct, nI (o + 1), pa, nI o, nI r, nI f, wr, gs, ap, fs, tk, kd, dd, fd, sd, ba_tp, ld, so, wd, st, sh, rg, cs, sr, sc) (nI i) := by
  unfold wpX_putIntoSlot
  dsimp only
  rw [nI_clamp (n := i) (by omega), ek]
  have hr : r ≤ 3 := S.2.2.2.1
  exact And.intro (vp_in_nI hi (by decide)) (ba_units hk (br_f (nI_pos (by omega)) ⟨3 - r + 1, ba_p22 hi ho ek hk S hL K (3 - r) r (by omega) (by omega) _ (by omega)⟩))
end
end
section
/-! groups: the pure invariant -/
/-- operation k may stand in one group with operation j ahead of it -/
def ba_nc (kd dd fd sd : Nat → Int32) (j k : Nat) : Prop :=
  kd j < 9 ∧ (kd j ≤ 7 → (kd k ≠ 10 → dd j ≠ fd k) ∧ (kd k < 6 → dd j ≠ sd k) ∧ (kd k = 8 → dd j ≠ dd k)) ∧
  (kd j = 8 → kd k = 7 → fd j = fd k ∧ ¬ ((sd j - sd k) &&& 15) = 0)
/-- c valid operations -/
def ba_VO (c : Nat) (kd dd fd sd : Nat → Int32) : Prop :=
  ∀ j, j < c → ∃ k d a q : Nat, kd j = nI k ∧ k ≤ 10 ∧ dd j = nI d ∧ d ≤ 7 ∧ fd j = nI a ∧ a ≤ 7 ∧ sd j = nI q - 128 ∧ q < 256 ∧
    (k < 6 → 128 ≤ q ∧ q ≤ 135) ∧ (9 ≤ k → 128 ≤ q ∧ q ≤ 152)
def ba_GG (kd dd fd sd : Nat → Int32) (sl : Nat → Nat) (i : Nat) (st : Nat → Int32) : Prop :=
  (∀ s, s < 72 → st s = 0 ∨ st s = 1) ∧ ∀ j k, j < k → k < i → (∀ m, j ≤ m → m < k → st (sl m) = 0) → ba_nc kd dd fd sd j k
def ba_GW (kd dd : Nat → Int32) (sl : Nat → Nat) (i g w : Nat) (st : Nat → Int32) : Prop :=
  g ≤ i ∧ w < 256 ∧ (0 < g → st (sl (g - 1)) = 1) ∧ ∀ j, g ≤ j → j < i → kd j < 9 ∧ (kd j ≤ 7 → w.testBit (dd j).toNatClampNeg = true)
def ba_RD (kd dd fd sd : Nat → Int32) (sl : Nat → Nat) (i : Nat) (st : Nat → Int32) : Prop :=
  ∀ j, j < i → (∀ m, j ≤ m → m < i → st (sl m) = 0) → ba_nc kd dd fd sd j i
theorem ba_GG_stop {kd dd fd sd : Nat → Int32} {sl : Nat → Nat} {i s : Nat} {st : Nat → Int32} (h : ba_GG kd dd fd sd sl i st) : ba_GG kd dd fd sd sl i (upd st s 1) := by
  refine ⟨fun x hx => ?_, fun j k hjk hk hz => h.2 j k hjk hk (fun m h1 h2 => ?_)⟩
  · by_cases e : x = s
    · subst e
      rw [pk_us]
      exact Or.inr rfl
    · rw [pk_un e]
      exact h.1 x hx
  · have z := hz m h1 h2
    by_cases e : sl m = s
    · rw [e, pk_us] at z
      exact absurd z (by decide)
    · rw [pk_un e] at z
      exact z
theorem ba_RD_stop {kd dd fd sd : Nat → Int32} {sl : Nat → Nat} {i : Nat} {st : Nat → Int32} (h : st (sl i) = 1) : ba_RD kd dd fd sd sl (i + 1) st := by
  intro j hj hz
  have z := hz i (by omega) (by omega)
  rw [h] at z
  exact absurd z (by decide)
theorem ba_GW_new {kd dd : Nat → Int32} {sl : Nat → Nat} {i : Nat} {st : Nat → Int32} (h : 0 < i → st (sl (i - 1)) = 1) : ba_GW kd dd sl i i 0 st :=
  ⟨Nat.le_refl i, by omega, h, fun j h1 h2 => absurd h1 (by omega)⟩
theorem ba_GG_put {kd dd fd sd : Nat → Int32} {sl : Nat → Nat} {i v : Nat} {st : Nat → Int32} (h : ba_GG kd dd fd sd sl i st) (r : ba_RD kd dd fd sd sl i st) :
    ba_GG kd dd fd sd (ba_nu sl i v) (i + 1) st := by
  refine ⟨h.1, fun j k hjk hk hz => ?_⟩
  have hz' : ∀ m, j ≤ m → m < k → st (sl m) = 0 := fun m h1 h2 => by
    have z := hz m h1 h2
    rw [ba_nun (by omega)] at z
    exact z
  by_cases e : k = i
  · subst e
    exact r j hjk hz'
  · exact h.2 j k hjk (by omega) hz'
theorem ba_GW_put {kd dd : Nat → Int32} {sl : Nat → Nat} {i g w w' v : Nat} {st : Nat → Int32} (h : ba_GW kd dd sl i g w st) (hw : w' < 256) (h9 : kd i < 9)
    (hm : ∀ x, w.testBit x = true → w'.testBit x = true) (hd : kd i ≤ 7 → w'.testBit (dd i).toNatClampNeg = true) : ba_GW kd dd (ba_nu sl i v) (i + 1) g w' st := by
  obtain ⟨h1, h2, h3, h4⟩ := h
  refine ⟨by omega, hw, fun z => ?_, fun j a b => ?_⟩
  · rw [ba_nun (by omega)]
    exact h3 z
  · by_cases e : j = i
    · subst e
      exact ⟨h9, hd⟩
    · have := h4 j a (by omega)
      exact ⟨this.1, fun z => hm _ (this.2 z)⟩
theorem ba_RD_must {c i k d a b g w : Nat} {kd dd fd sd st : Nat → Int32} {sl : Nat → Nat} (V : ba_VO c kd dd fd sd) (hi : i < c) (G : ba_GW kd dd sl i g w st) (ek : kd i = nI k) (hk : k ≤ 10)
    (ed : dd i = nI d) (hd : d ≤ 7) (ea : fd i = nI a) (ha : a ≤ 7) (eb : k < 6 → sd i = nI b ∧ b ≤ 7)
    (h1 : k ≠ 10 → w.testBit a = false) (h2 : k < 6 → w.testBit b = false) (h3 : k = 8 → w.testBit d = false)
    (h4 : k = 7 → ∀ j, g ≤ j → j < i → kd j = 8 → fd j = fd i ∧ ¬ ((sd j - sd i) &&& 15) = 0) : ba_RD kd dd fd sd sl i st := by
  intro j hj hz
  obtain ⟨g1, g2, g3, g4⟩ := G
  have hg : g ≤ j := by
    rcases Nat.lt_or_ge j g with h | h
    · have z := hz (g - 1) (by omega) (by omega)
      rw [g3 (by omega)] at z
      exact absurd z (by decide)
    · exact h
  obtain ⟨n9, nw⟩ := g4 j hg hj
  refine ⟨n9, fun z7 => ⟨fun n10 e => ?_, fun l6 e => ?_, fun e8 e => ?_⟩, fun e8 e7 => ?_⟩
  · have z := nw z7
    rw [e, ea, nI_clamp (by omega), h1 (fun z => n10 (by rw [ek, z]; rfl))] at z
    exact absurd z (by decide)
  · have z := nw z7
    have k6 : k < 6 := by
      rw [ek] at l6
      exact (nI_ltI (b := 6) (by omega) (by decide)).mp l6
    obtain ⟨e1, e2⟩ := eb k6
    rw [e, e1, nI_clamp (by omega), h2 k6] at z
    exact absurd z (by decide)
  · have z := nw z7
    have k8 : k = 8 := by
      rw [ek] at e8
      exact (nI_eq (b := 8) (by omega) (by decide)).mp e8
    rw [e, ed, nI_clamp (by omega), h3 k8] at z
    exact absurd z (by decide)
  · have k7 : k = 7 := by
      rw [ek] at e7
      exact (nI_eq (b := 7) (by omega) (by decide)).mp e7
    exact h4 k7 j hg hj e8
section
variable {ct bu pa op fr fi wr gs ap fs tk : Int32} {kd dd fd sd tp ld so wd st sh rg cs sr sc : Nat → Int32}
theorem ba_endI {post : SX → Prop} {sl : Nat → Nat} {i : Nat} (hi : i ≤ 24) (hs : ∀ j, j < i → so j = nI (sl j)) (hl : ∀ j, j < i → sl j < 72) (G : ba_GG kd dd fd sd sl i st)
    (K : ∀ st', ba_GG kd dd fd sd sl i st' → ba_RD kd dd fd sd sl i st' → ba_GW kd dd sl i i 0 st' → post (ct, bu, pa, op, fr, fi, nI 0, nI i, ap, fs, tk, kd, dd, fd, sd, tp, ld, so, wd, st', sh, rg, cs, sr, sc)) : wpX_endGroup post (ct, bu, pa, op, fr, fi, wr, gs, ap, fs, tk, kd, dd, fd, sd, tp, ld, so, wd, st, sh, rg, cs, sr, sc) (nI i) := by
  cases i with
  | zero => exact ba_end0 (K st G (fun j hj => absurd hj (by omega)) (ba_GW_new (fun z => absurd z (by omega))))
  | succ i =>
    refine ba_endS (by omega) (hl i (by omega)) (hs i (by omega)) (K _ (ba_GG_stop G) (ba_RD_stop pk_us) (ba_GW_new (fun _ => ?_)))
    rw [Nat.add_sub_cancel]
    exact pk_us
theorem ba_mustI {post : Int32 → Prop} {c i g w : Nat} {sl : Nat → Nat} (hc : c ≤ 24) (V : ba_VO c kd dd fd sd) (hi : i < c) (G : ba_GW kd dd sl i g w st) (h1 : post 1)
    (h0 : ba_RD kd dd fd sd sl i st → post 0) : wpX_mustStop post (ct, bu, pa, op, fr, fi, nI w, nI g, ap, fs, tk, kd, dd, fd, sd, tp, ld, so, wd, st, sh, rg, cs, sr, sc) (nI i) := by
  obtain ⟨k, d, a, q, ek, hk, ed, hd, ea, ha, eq, hq, hb6, hb9⟩ := V i hi
  have eb : k < 6 → sd i = nI (q - 128) ∧ q - 128 ≤ 7 := fun z => by
    obtain ⟨a, b⟩ := hb6 z
    rw [eq, ba_q128 a]
    exact ⟨rfl, by omega⟩
  exact ba_must (by omega) G.1 ek hk G.2.1 ed hd ea ha eb h1 (fun a1 a2 a3 a4 => h0 (ba_RD_must V hi G ek hk ed hd ea ha eb a1 a2 a3 a4))
end
end
section
section
variable {ct bu pa op fr fi wr gs ap fs tk : Int32} {kd dd fd sd tp ld so wd st sh rg cs sr sc : Nat → Int32}
/-- the loop's invariant ahead of operation i -/
def ba_LI (i : Nat) (bu op fr fi wr gs : Int32) (kd dd fd sd ld so st sh : Nat → Int32) : Prop :=
  ∃ (sl : Nat → Nat) (b g w : Nat), bu = nI b ∧ b ≤ i ∧ gs = nI g ∧ wr = nI w ∧ ba_GG kd dd fd sd sl i st ∧ ba_GW kd dd sl i g w st ∧
    ((op = -1 ∧ ba_Sc kd ld sl i b so sh) ∨ ∃ o r f, op = nI o ∧ fr = nI r ∧ fi = nI f ∧ b = o + 1 ∧ ba_So kd ld sl i o r f so sh)
theorem ba_142 {post : SX → Prop} {J : Int32 → Int32 → Int32 → Int32 → Int32 → Int32 → Int32 → Int32 → Int32 → Int32 → Int32 → Int32 → (Nat → Int32) → (Nat → Int32) → (Nat → Int32) → (Nat → Int32) → (Nat → Int32) → (Nat → Int32) → (Nat → Int32) → (Nat → Int32) → (Nat → Int32) → (Nat → Int32) → (Nat → Int32) → (Nat → Int32) → (Nat → Int32) → (Nat → Int32) → Prop}
    {sl : Nat → Nat} {i g w o r f k : Nat} (hi : i < 24) (ek : kd i = nI k) (hk : k ≤ 10) (ho : o ≤ i) (S : ba_So kd ld sl (i + 1) o r f so sh) (G : ba_GG kd dd fd sd sl (i + 1) st)
    (W : kd i < 9 → ba_GW kd dd sl (i + 1) g w st)
    (K : ∀ bu op fr fi wr gs st, ba_LI (i + 1) bu op fr fi wr gs kd dd fd sd ld so st sh → J (nI (i + 1)) ct bu pa op fr fi wr gs ap fs tk kd dd fd sd ba_tp ld so wd st sh rg cs sr sc) :
    wX_pack_142 post J (nI i) ct (nI (o + 1)) pa (nI o) (nI r) (nI f) (nI w) (nI g) ap fs tk kd dd fd sd ba_tp ld so wd st sh rg cs sr sc := by
  unfold wX_pack_142
  rw [nI_clamp (n := i) (by omega)]
  refine And.intro (vp_in_nI hi (by decide)) (br_c (fun z9 => nm_r (nI_1 i) (K _ _ _ _ _ _ _ ?_)) (fun _ => ?_))
  · exact ⟨sl, o + 1, g, w, rfl, by omega, rfl, rfl, G, W z9, Or.inr ⟨o, r, f, rfl, rfl, rfl, rfl, S⟩⟩
  · rw [nI_1]
    refine ba_endI (by omega) S.1.1 (fun j hj => ?_) G ?_
    · have h1 := S.1.2.2.1 j hj
      have h2 : r ≤ 3 := S.2.2.2.1
      omega
    · intro st' G' R' W'
      exact nm_e (K _ _ _ _ _ _ _ ⟨sl, o + 1, i + 1, 0, rfl, by omega, rfl, rfl, G', W', Or.inr ⟨o, r, f, rfl, rfl, rfl, rfl, S⟩⟩)
theorem ba_109 {post : SX → Prop} {J : Int32 → Int32 → Int32 → Int32 → Int32 → Int32 → Int32 → Int32 → Int32 → Int32 → Int32 → Int32 → (Nat → Int32) → (Nat → Int32) → (Nat → Int32) → (Nat → Int32) → (Nat → Int32) → (Nat → Int32) → (Nat → Int32) → (Nat → Int32) → (Nat → Int32) → (Nat → Int32) → (Nat → Int32) → (Nat → Int32) → (Nat → Int32) → (Nat → Int32) → Prop}
    {sl : Nat → Nat} {i g w k d : Nat} (hi : i < 24) (ek : kd i = nI k) (hk : k ≤ 10) (ed : dd i = nI d) (hd : d ≤ 7)
    (P : ∀ p : SX → Prop, ba_PutK p sl i ct pa (nI w) (nI g) ap fs tk kd dd fd sd ld so wd st rg cs sr sc → wpX_putIntoSlot p (ct, bu, pa, op, fr, fi, nI w, nI g, ap, fs, tk, kd, dd, fd, sd, tp, ld, so, wd, st, sh, rg, cs, sr, sc) (nI i))
    (G : ba_GG kd dd fd sd sl i st) (R : ba_RD kd dd fd sd sl i st) (W : ba_GW kd dd sl i g w st)
    (K : ∀ bu op fr fi wr gs so st sh, ba_LI (i + 1) bu op fr fi wr gs kd dd fd sd ld so st sh → J (nI (i + 1)) ct bu pa op fr fi wr gs ap fs tk kd dd fd sd ba_tp ld so wd st sh rg cs sr sc) :
    wX_pack_109 post J (nI i) ct bu pa op fr fi (nI w) (nI g) ap fs tk kd dd fd sd tp ld so wd st sh rg cs sr sc := by
  unfold wX_pack_109
  refine P _ ?_
  intro o r f v sh' ho hv S
  show _ ∧ _
  rw [nI_clamp (n := i) (by omega), ek, ed, ba_sl d (by omega), ba_or]
  refine And.intro (vp_in_nI hi (by decide)) ?_
  have G' := ba_GG_put (v := v) G R
  have h2 : 2 ^ d < 2 ^ 8 := Nat.pow_lt_pow_right (by decide) (by omega)
  refine pk_lt 7 k (fun h7 => ?_) (fun h7 => And.intro (vp_in_nI hi (by decide)) (nm_e ?_))
  · refine ba_142 hi ek hk ho S G' (fun h9 => ba_GW_put W W.2.1 h9 (fun _ z => z) (fun z => ?_)) (fun _ _ _ _ _ _ _ => K _ _ _ _ _ _ _ _ _)
    rw [ek] at z
    exact absurd ((nI_leI (b := 7) (by omega) (by decide)).mp z) (by omega)
  · refine ba_142 hi ek hk ho S G' (fun h9 => ba_GW_put W (Nat.or_lt_two_pow (n := 8) W.2.1 h2) h9 (fun x z => ?_) (fun z => ?_)) (fun _ _ _ _ _ _ _ => K _ _ _ _ _ _ _ _ _)
    · rw [Nat.testBit_or, z, Bool.true_or]
    · rw [ed, nI_clamp (by omega), Nat.testBit_or, Nat.testBit_two_pow_self, Bool.or_true]
theorem ba_67 {post : SX → Prop} {c : Nat} (hc : c ≤ 24) (V : ba_VO c kd dd fd sd)
    (K : ∀ sl b bu fr fi wr gs so st sh, bu = nI b → b ≤ c → ba_Sc kd ld sl c b so sh → ba_GG kd dd fd sd sl c st → ∃ n, wX_pack_172 post n 0 (nI c) bu pa (-1) fr fi wr gs ap fs tk kd dd fd sd ba_tp ld so wd st sh rg cs sr sc) :
    ∀ d i, i + d = c → ∀ bu op fr fi wr gs so st sh, ba_LI i bu op fr fi wr gs kd dd fd sd ld so st sh → ∀ n, d < n → wX_pack_67 post n (nI i) (nI c) bu pa op fr fi wr gs ap fs tk kd dd fd sd ba_tp ld so wd st sh rg cs sr sc := by
  intro d
  induction d with
  | zero =>
    intro i hi bu op fr fi wr gs so st sh H n hn
    obtain ⟨m, rfl⟩ : ∃ m, n = m + 1 := ⟨n - 1, by omega⟩
    obtain rfl : i = c := by omega
    refine br_t (nI_le (by omega) (by omega)) ?_
    obtain ⟨sl, b, g, w, e1, hb, rfl, rfl, G, W, ⟨rfl, S⟩ | ⟨o, r, f, rfl, rfl, rfl, rfl, S⟩⟩ := H
    · exact ba_close1 (K sl b _ _ _ _ _ _ _ _ e1 hb S G)
    · refine ba_close2 (by omega) S.2.2.2.2.1 S.2.2.2.2.2 ?_
      intro t ht hbt
      exact K sl (o + 1) _ _ _ _ _ _ _ _ e1 hb (ba_So_close S ht hbt) G
  | succ d ih =>
    intro i hi bu op fr fi wr gs so st sh H n hn
    obtain ⟨m, rfl⟩ : ∃ m, n = m + 1 := ⟨n - 1, by omega⟩
    refine br_f (nI_ge (by omega) (by omega)) ?_
    refine And.intro (vp_in_nI (by omega) (by decide)) ?_
    rw [nI_clamp (n := i) (by omega)]
    obtain ⟨k, dn, a, q, ek, hk, ed, hd, -⟩ := V i (by omega)
    have KK : ∀ bu op fr fi wr gs so st sh, ba_LI (i + 1) bu op fr fi wr gs kd dd fd sd ld so st sh → wX_pack_67 post m (nI (i + 1)) (nI c) bu pa op fr fi wr gs ap fs tk kd dd fd sd ba_tp ld so wd st sh rg cs sr sc :=
      fun bu op fr fi wr gs so st sh h => ih (i + 1) (by omega) bu op fr fi wr gs so st sh h m (by omega)
    obtain ⟨sl, b, g, w, rfl, hb, rfl, rfl, G, W, ⟨rfl, S⟩ | ⟨o, r, f, rfl, rfl, rfl, rfl, S⟩⟩ := H
    · have hl : ∀ j, j < i → sl j < 72 := fun j hj => by
        have := S.1.2.2.1 j hj
        omega
      refine br_c (fun z0 => ?_) (fun z1 => ?_)
      · refine ba_mustI hc V (by omega) W ?_ ?_
        · refine br_f (by decide) (ba_endI (by omega) S.1.1 hl G ?_)
          intro st' G' R' W'
          exact ba_109 (by omega) ek hk ed hd (fun p kk => ba_putC (by omega) hb ek hk S kk) G' R' W' KK
        · intro R
          exact br_t rfl (ba_109 (by omega) ek hk ed hd (fun p kk => ba_putC (by omega) hb ek hk S kk) G R W KK)
      · refine ba_close1 (ba_endI (by omega) S.1.1 hl G ?_)
        intro st' G' R' W'
        exact ba_109 (by omega) ek hk ed hd (fun p kk => ba_putC (by omega) hb ek hk S kk) G' R' W' KK
    · have hl : ∀ j, j < i → sl j < 72 := fun j hj => by
        have h1 := S.1.2.2.1 j hj
        have h2 : r ≤ 3 := S.2.2.2.1
        omega
      refine br_c (fun z0 => ?_) (fun z1 => ?_)
      · refine ba_mustI hc V (by omega) W ?_ ?_
        · refine br_f (by decide) (ba_endI (by omega) S.1.1 hl G ?_)
          intro st' G' R' W'
          exact ba_109 (by omega) ek hk ed hd (fun p kk => ba_putO (by omega) hb ek hk S z0 kk) G' R' W' KK
        · intro R
          exact br_t rfl (ba_109 (by omega) ek hk ed hd (fun p kk => ba_putO (by omega) hb ek hk S z0 kk) G R W KK)
      · refine ba_close2 (by omega) S.2.2.2.2.1 S.2.2.2.2.2 ?_
        intro t ht hbt
        have S' := ba_So_close S ht hbt
        refine ba_endI (by omega) S'.1.1 hl G ?_
        intro st' G' R' W'
        exact ba_109 (by omega) ek hk ed hd (fun p kk => ba_putC (by omega) hb ek hk S' kk) G' R' W' KK
end
end
section
/-- what the field b of operation with kind k, second x, is coded as -/
def ba_Q (c b k : Nat) (sl : Nat → Nat) (x : Int32) (q : Nat) : Prop :=
  (k < 9 → x = nI q - 128) ∧ (9 ≤ k → ∃ z, x = nI z ∧ z ≤ 24 ∧ ((z < c ∧ q = sl z / 3 + 128) ∨ (c ≤ z ∧ q = b + 128)))
/-- operation j stands coded in its slot -/
def ba_OW (c b : Nat) (kd dd fd sd : Nat → Int32) (sl : Nat → Nat) (wd sh : Nat → Int32) (j : Nat) : Prop :=
  ∃ k d a q t : Nat, kd j = nI k ∧ k ≤ 10 ∧ dd j = nI d ∧ d ≤ 7 ∧ fd j = nI a ∧ a ≤ 7 ∧ q < 256 ∧ t < 6 ∧ sh (sl j / 3) = nI t ∧ ba_tu t (sl j % 3) &&& ba_un k ≠ 0 ∧
    wd (sl j) = nI (ba_wN (ba_num k (ba_tu t (sl j % 3))) d a q) ∧ ba_Q c b k sl (sd j) q
/-- the packed program -/
def ba_PK (c b : Nat) (kd dd fd sd : Nat → Int32) (sl : Nat → Nat) (wd st sh : Nat → Int32) : Prop :=
  b ≤ c ∧ (∀ j k, j < k → k < c → sl j < sl k) ∧ (∀ j, j < c → sl j < 3 * b) ∧ (∀ s, s < 72 → (∀ j, j < c → s ≠ sl j) → wd s = 0) ∧
  (∀ j, j < c → ba_OW c b kd dd fd sd sl wd sh j) ∧
  (∀ j, j < c → ¬ kd j < 9 → ∀ z, sd j = nI z → z < c → ∀ m, m < z → sl m < 3 * (sl z / 3)) ∧ ba_GG kd dd fd sd sl c st
/-- the targets of the jumps among the first i are leaders -/
def ba_LD (c i : Nat) (kd sd ld : Nat → Int32) : Prop := ∀ j, j < i → ¬ kd j < 9 → ∀ z, sd j = nI z → z < c → ld z ≠ 0
section
variable {ct bu pa op fr fi wr gs ap fs tk : Int32} {kd dd fd sd tp ld so wd st sh rg cs sr sc : Nat → Int32}
theorem ba_uat {post : Int32 → Prop} {s t : Nat} (hs : s < 72) (ht : t < 6) (e : sh (s / 3) = nI t) (h : post (nI (ba_tu t (s % 3)))) : wpX_unitAt post (ct, bu, pa, op, fr, fi, wr, gs, ap, fs, tk, kd, dd, fd, sd, ba_tp, ld, so, wd, st, sh, rg, cs, sr, sc) (nI s) := by
  unfold wpX_unitAt
  dsimp only
  rw [ba_r3 (a := s) (by omega), ba_d3 (a := s) (by omega), nI_clamp (n := s / 3) (by omega), e, nI_clamp (n := t) (by omega), ba_tpu t ht (s % 3) (by omega)]
  exact And.intro (by decide) (And.intro (vp_in_nI (by omega) (by decide)) (And.intro (vp_in_nI ht (by decide)) (And.intro (by decide) h)))
theorem ba_c129 {post : SX → Prop} {i s n d a q : Nat} {x6 : Int32} (hi : i < 24) (hs : s < 72) (hn : n ≤ 6) (ed : dd i = nI d) (hd : d ≤ 7) (ea : fd i = nI a) (ha : a ≤ 7) (hq : q < 256)
    (e6 : x6 + 128 = nI q) (h : post (ct, bu, pa, op, fr, fi, wr, gs, ap, fs, tk, kd, dd, fd, sd, tp, ld, so, upd wd s (nI (ba_wN n d a q)), st, sh, rg, cs, sr, sc)) : wX_code_129 post (nI i) (nI s) (nI n) x6 ct bu pa op fr fi wr gs ap fs tk kd dd fd sd tp ld so wd st sh rg cs sr sc := by
  unfold wX_code_129
  rw [nI_clamp (n := i) (by omega), nI_clamp (n := s) (by omega), ed, ea, e6, ba_word hn hd ha hq]
  exact And.intro (vp_in_nI hi (by decide)) (And.intro (vp_in_nI hi (by decide)) (And.intro (vp_in_nI hs (by decide)) (nm_e h)))
theorem ba_c88 {post : SX → Prop} {sl : Nat → Nat} {i s n d a k q c b : Nat} (hc : c ≤ 24) (hb : b ≤ c) (hi : i < 24) (hs : s < 72) (hn : n ≤ 6) (hk : k ≤ 10) (ed : dd i = nI d) (hd : d ≤ 7) (ea : fd i = nI a)
    (ha : a ≤ 7) (eq : sd i = nI q - 128) (hq : q < 256) (h9 : 9 ≤ k → 128 ≤ q ∧ q ≤ 152) (hso : ∀ j, j < c → so j = nI (sl j)) (hsl : ∀ j, j < c → sl j < 72)
    (K : ∀ q', q' < 256 → ba_Q c b k sl (sd i) q' → post (nI c, nI b, pa, op, fr, fi, wr, gs, ap, fs, tk, kd, dd, fd, sd, tp, ld, so, upd wd s (nI (ba_wN n d a q')), st, sh, rg, cs, sr, sc)) :
    wX_code_88 post (nI i) (nI k) (nI s) (nI n) (nI c) (nI b) pa op fr fi wr gs ap fs tk kd dd fd sd tp ld so wd st sh rg cs sr sc := by
  unfold wX_code_88
  rw [nI_clamp (n := i) (by omega)]
  refine And.intro (vp_in_nI hi (by decide)) (nm_e (pk_lt k 9 (fun l9 => ?_) (fun g9 => ?_)))
  · refine ba_c129 hi hs hn ed hd ea ha hq (by rw [eq, ba_128]) (K q hq ⟨fun _ => eq, fun z => absurd z (by omega)⟩)
  · obtain ⟨q1, q2⟩ := h9 g9
    have ez : sd i = nI (q - 128) := by rw [eq, ba_q128 q1]
    rw [ez]
    refine pk_le c (q - 128) (fun hz => ?_) (fun hz => ?_)
    · exact ba_c129 hi hs hn ed hd ea ha (by omega) (ba_p128 b) (K (b + 128) (by omega) ⟨fun z => absurd z (by omega), fun _ => ⟨q - 128, ez, by omega, Or.inr ⟨hz, rfl⟩⟩⟩)
    · have hl := hsl (q - 128) hz
      rw [nI_clamp (n := q - 128) (by omega), hso (q - 128) hz, ba_d3 (by omega)]
      exact And.intro (vp_in_nI (by omega) (by decide)) (And.intro (by decide) (ba_c129 hi hs hn ed hd ea ha (by omega) (ba_p128 _)
        (K (sl (q - 128) / 3 + 128) (by omega) ⟨fun z => absurd z (by omega), fun _ => ⟨q - 128, ez, by omega, Or.inl ⟨hz, rfl⟩⟩⟩)))
theorem ba_code {post : SX → Prop} {sl : Nat → Nat} {i d a k q c b t : Nat} (hc : c ≤ 24) (hb : b ≤ c) (hi : i < c) (ek : kd i = nI k) (hk : k ≤ 10) (ed : dd i = nI d) (hd : d ≤ 7) (ea : fd i = nI a)
    (ha : a ≤ 7) (eq : sd i = nI q - 128) (hq : q < 256) (h9 : 9 ≤ k → 128 ≤ q ∧ q ≤ 152) (hso : ∀ j, j < c → so j = nI (sl j)) (hsl : ∀ j, j < c → sl j < 72)
    (ht : t < 6) (et : sh (sl i / 3) = nI t) (hu : ba_tu t (sl i % 3) &&& ba_un k ≠ 0)
    (K : ∀ q', q' < 256 → ba_Q c b k sl (sd i) q' → post (nI c, nI b, pa, op, fr, fi, wr, gs, ap, fs, tk, kd, dd, fd, sd, ba_tp, ld, so, upd wd (sl i) (nI (ba_wN (ba_num k (ba_tu t (sl i % 3))) d a q')), st, sh, rg, cs, sr, sc)) :
    wpX_code post (nI c, nI b, pa, op, fr, fi, wr, gs, ap, fs, tk, kd, dd, fd, sd, ba_tp, ld, so, wd, st, sh, rg, cs, sr, sc) (nI i) := by
  have hs := hsl i hi
  have vi := vp_in_nI (n := i) (N := 24) (by omega) (by decide)
  have C : ∀ x5 : Int32, x5 = nI (ba_num k (ba_tu t (sl i % 3))) → wX_code_88 post (nI i) (nI k) (nI (sl i)) x5 (nI c) (nI b) pa op fr fi wr gs ap fs tk kd dd fd sd ba_tp ld so wd st sh rg cs sr sc := by
    intro x5 e5
    rw [e5]
    exact ba_c88 hc hb (by omega) hs (ba_num6 k (by omega) _ (ba_tu8 _ _)) hk ed hd ea ha eq hq h9 hso hsl K
  have D := ba_dec (k := k) (by omega) ht (by omega : sl i % 3 < 3) hu
  unfold wpX_code
  dsimp only
  rw [nI_clamp (n := i) (by omega), ek, hso i hi]
  refine And.intro vi (nm_e (And.intro vi (nm_e (ba_uat hs ht et ?_))))
  have h8 := ba_tu8 t (sl i % 3)
  generalize hU : ba_tu t (sl i % 3) = u at *
  refine pk_eq u 4 (fun e4 => ?_) (fun n4 => ?_)
  · obtain ⟨k9, ke⟩ := D.1 e4
    exact nm_e (C _ ((pk_sub (b := 9) k9).trans (congrArg nI (by omega))))
  · have k9 := (D.2 n4).1
    refine pk_lt k 7 (fun k7 => ?_) (fun k7 => nm_e (C _ ((pk_sub (b := 7) k7).trans ?_)))
    · refine pk_eq k 4 (fun k4 => ?_) (fun k4 => pk_eq k 5 (fun k5 => ?_) (fun k5 => pk_eq k 6 (fun k6 => ?_) (fun k6 => ?_)))
      · subst k4
        exact nm_e (C _ (by rw [ba_num, if_neg n4]; rfl))
      · subst k5
        exact nm_e (C _ (by rw [ba_num, if_neg n4]; rfl))
      · subst k6
        exact C _ (by rw [ba_num, if_neg n4]; rfl)
      · exact C _ (by rw [ba_num, if_neg n4, if_neg (by omega), if_neg k4, if_neg k5, if_neg k6]; exact nI_add k 2)
    · rw [ba_num, if_neg n4, if_pos k7]
theorem ba_172 {post : SX → Prop} {sl : Nat → Nat} {c b : Nat} (hc : c ≤ 24) (hb : b ≤ c) (V : ba_VO c kd dd fd sd) (S : ba_Sc kd ld sl c b so sh)
    (K : ∀ wd, (∀ j, j < c → ba_OW c b kd dd fd sd sl wd sh j) → (∀ s, s < 72 → (∀ j, j < c → s ≠ sl j) → wd s = 0) → post (nI c, nI b, pa, op, fr, fi, wr, gs, ap, fs, tk, kd, dd, fd, sd, ba_tp, ld, so, wd, st, sh, rg, cs, sr, sc)) :
    ∀ d i, i + d = c → ∀ wd, (∀ j, j < i → ba_OW c b kd dd fd sd sl wd sh j) → (∀ s, s < 72 → (∀ j, j < i → s ≠ sl j) → wd s = 0) → ∀ n, d < n →
      wX_pack_172 post n (nI i) (nI c) (nI b) pa op fr fi wr gs ap fs tk kd dd fd sd ba_tp ld so wd st sh rg cs sr sc := by
  intro d
  induction d with
  | zero =>
    intro i hi wd h1 h2 n hn
    obtain ⟨m, rfl⟩ : ∃ m, n = m + 1 := ⟨n - 1, by omega⟩
    obtain rfl : i = c := by omega
    exact br_t (nI_le (by omega) (by omega)) (K wd h1 h2)
  | succ d ih =>
    intro i hi wd h1 h2 n hn
    obtain ⟨m, rfl⟩ : ∃ m, n = m + 1 := ⟨n - 1, by omega⟩
    refine br_f (nI_ge (by omega) (by omega)) ?_
    obtain ⟨k, dn, a, q, ek, hk, ed, hd, ea, ha, eq, hq, hb6, hb9⟩ := V i (by omega)
    obtain ⟨⟨s1, s2, s3, s4⟩, s5⟩ := S
    obtain ⟨t, ht, et, hu⟩ := s5 i (by omega)
    rw [ek, nI_clamp (by omega)] at hu
    refine ba_code hc hb (by omega) ek hk ed hd ea ha eq hq hb9 s1 (fun j hj => ?_) ht et hu ?_
    · have := s3 j hj
      omega
    · intro q' hq' hQ
      refine nm_r (nI_1 i) (ih (i + 1) (by omega) _ ?_ ?_ m (by omega))
      · intro j hj
        by_cases e : j = i
        · subst e
          exact ⟨k, dn, a, q', t, ek, hk, ed, hd, ea, ha, hq', ht, et, hu, pk_us, hQ⟩
        · obtain ⟨k2, d2, a2, q2, t2, e1, e2, e3, e4, e5, e6, e7, e8, e9, e10, e11, e12⟩ := h1 j (by omega)
          have hlt := s2 j i (by omega) (by omega)
          exact ⟨k2, d2, a2, q2, t2, e1, e2, e3, e4, e5, e6, e7, e8, e9, e10, by rw [pk_un (by omega)]; exact e11, e12⟩
      · intro s hs hne
        have := hne i (by omega)
        rw [pk_un this]
        exact h2 s hs (fun j hj => hne j (by omega))
end
end
section
theorem ba_lt9 {k : Nat} (hk : k ≤ 10) : nI k < 9 ↔ k < 9 := nI_ltI (b := 9) (by omega) (by decide)
section
variable {ct bu pa op fr fi wr gs ap fs tk : Int32} {kd dd fd sd tp ld so wd st sh rg cs sr sc : Nat → Int32}
theorem ba_31 {post : SX → Prop} {c : Nat} (hc : c ≤ 24) (V : ba_VO c kd dd fd sd) (K : ∀ ld, ba_LD c c kd sd ld → post (nI c, bu, pa, op, fr, fi, wr, gs, ap, fs, tk, kd, dd, fd, sd, tp, ld, so, wd, st, sh, rg, cs, sr, sc)) :
    ∀ d i, i + d = c → ∀ ld, ba_LD c i kd sd ld → ∀ n, d < n → wX_findLeaders_31 post (nI c) bu pa op fr fi wr gs ap fs tk n (nI i) kd dd fd sd tp ld so wd st sh rg cs sr sc := by
  intro d
  induction d with
  | zero =>
    intro i hi ld h n hn
    obtain ⟨m, rfl⟩ : ∃ m, n = m + 1 := ⟨n - 1, by omega⟩
    obtain rfl : i = c := by omega
    exact br_t (nI_le (by omega) (by omega)) (K ld h)
  | succ d ih =>
    intro i hi ld h n hn
    obtain ⟨m, rfl⟩ : ∃ m, n = m + 1 := ⟨n - 1, by omega⟩
    refine br_f (nI_ge (by omega) (by omega)) ?_
    rw [nI_clamp (n := i) (by omega)]
    obtain ⟨k, dn, a, q, ek, hk, ed, hd, ea, ha, eq, hq, hb6, hb9⟩ := V i (by omega)
    have vi := vp_in_nI (n := i) (N := 24) (by omega) (by decide)
    refine And.intro vi (br_c (fun z9 => ?_) (fun n9 => And.intro vi ?_))
    · refine nm_r (nI_1 i) (ih (i + 1) (by omega) ld ?_ m (by omega))
      intro j hj hj9 z ez hz
      by_cases e : j = i
      · subst e
        exact absurd z9 hj9
      · exact h j (by omega) hj9 z ez hz
    · have g9 : 9 ≤ k := by
        rw [ek, ba_lt9 (by omega)] at n9
        omega
      obtain ⟨q1, q2⟩ := hb9 g9
      have es : sd i = nI (q - 128) := by rw [eq, ba_q128 q1]
      rw [es, nI_clamp (n := q - 128) (by omega), ba_vb1]
      refine pk_le c (q - 128) (fun hz => ?_) (fun hz => ?_)
      · refine nm_r (nI_1 i) (ih (i + 1) (by omega) ld ?_ m (by omega))
        intro j hj hj9 z ez hz2
        by_cases e : j = i
        · subst e
          rw [es, nI_eq (by omega) (by omega)] at ez
          omega
        · exact h j (by omega) hj9 z ez hz2
      · refine And.intro vi (And.intro (vp_in_nI (by omega) (by decide)) (nm_e (nm_r (nI_1 i) (ih (i + 1) (by omega) _ ?_ m (by omega)))))
        intro j hj hj9 z ez hz2
        by_cases e2 : z = q - 128
        · rw [e2, pk_us]
          decide
        · rw [pk_un e2]
          by_cases e : j = i
          · subst e
            rw [es, nI_eq (by omega) (by omega)] at ez
            omega
          · exact h j (by omega) hj9 z ez hz2
theorem ba_2 {post : SX → Prop} (K : ∀ ld, ∃ n, wX_findLeaders_31 post ct bu pa op fr fi wr gs ap fs tk n 0 kd dd fd sd tp ld so wd st sh rg cs sr sc) : ∀ d i, i + d = 25 → ∀ ld n, d < n → wX_findLeaders_2 post ct bu pa op fr fi wr gs ap fs tk n (nI i) kd dd fd sd tp ld so wd st sh rg cs sr sc := by
  intro d
  induction d with
  | zero =>
    intro i hi ld n hn
    obtain ⟨m, rfl⟩ : ∃ m, n = m + 1 := ⟨n - 1, by omega⟩
    obtain rfl : i = 25 := by omega
    exact br_t (by decide) (K ld)
  | succ d ih =>
    intro i hi ld n hn
    obtain ⟨m, rfl⟩ : ∃ m, n = m + 1 := ⟨n - 1, by omega⟩
    have vi := vp_in_nI (n := i) (N := 25) (by omega) (by decide)
    refine br_f (nI_nlt (a := 24) (by omega) (by decide)) (br_c (fun _ => ?_) (fun _ => ?_))
    · exact And.intro vi (nm_e (nm_r (nI_1 i) (ih (i + 1) (by omega) _ m (by omega))))
    · exact And.intro vi (nm_e (nm_r (nI_1 i) (ih (i + 1) (by omega) _ m (by omega))))
theorem ba_19 {post : SX → Prop} (K : ∀ wd st, (∀ s, s < 72 → wd s = 0) → (∀ s, s < 72 → st s = 0) → ∃ n, wX_pack_67 post n 0 ct 0 pa (-1) fr fi 0 0 ap fs tk kd dd fd sd tp ld so wd st sh rg cs sr sc) :
    ∀ d i, i + d = 72 → ∀ wd st, (∀ s, s < i → wd s = 0) → (∀ s, s < i → st s = 0) → ∀ n, d < n → wX_pack_19 post ct bu pa op fr fi wr gs ap fs tk n (nI i) kd dd fd sd tp ld so wd st sh rg cs sr sc := by
  intro d
  induction d with
  | zero =>
    intro i hi wd st h1 h2 n hn
    obtain ⟨m, rfl⟩ : ∃ m, n = m + 1 := ⟨n - 1, by omega⟩
    obtain rfl : i = 72 := by omega
    exact br_t (by decide) (K wd st h1 h2)
  | succ d ih =>
    intro i hi wd st h1 h2 n hn
    obtain ⟨m, rfl⟩ : ∃ m, n = m + 1 := ⟨n - 1, by omega⟩
    have vi := vp_in_nI (n := i) (N := 72) (by omega) (by decide)
    refine br_f (nI_ge (b := 72) (by omega) (by decide)) ?_
    rw [nI_clamp (n := i) (by omega), ba_vb0]
    refine And.intro vi (nm_e (And.intro vi (nm_e (nm_r (nI_1 i) (ih (i + 1) (by omega) _ _ ?_ ?_ m (by omega))))))
    · intro s hs
      by_cases e : s = i
      · rw [e, pk_us]
      · rw [pk_un e]
        exact h1 s (by omega)
    · intro s hs
      by_cases e : s = i
      · rw [e, pk_us]
      · rw [pk_un e]
        exact h2 s (by omega)
theorem ba_LI0 {fr fi : Int32} (h : ∀ s, s < 72 → st s = 0) : ba_LI 0 0 (-1) fr fi 0 0 kd dd fd sd ld so st sh :=
  ⟨fun _ => 0, 0, 0, 0, rfl, by omega, rfl, rfl, ⟨fun s hs => Or.inl (h s hs), fun j k _ hk => absurd hk (by omega)⟩, ba_GW_new (fun z => absurd z (by omega)),
    Or.inl ⟨rfl, ⟨fun j hj => absurd hj (by omega), fun j k _ hk => absurd hk (by omega), fun j hj => absurd hj (by omega), fun j hj => absurd hj (by omega)⟩, fun j hj => absurd hj (by omega)⟩⟩
theorem ba_pack {post : SX → Prop} {c : Nat} (hc : c ≤ 24) (V : ba_VO c kd dd fd sd)
    (K : ∀ sl b bu op fr fi wr gs ld so wd st sh, bu = nI b → ba_PK c b kd dd fd sd sl wd st sh → post (nI c, bu, 1, op, fr, fi, wr, gs, ap, fs, tk, kd, dd, fd, sd, ba_tp, ld, so, wd, st, sh, rg, cs, sr, sc)) : wpX_pack post (nI c, bu, 0, op, fr, fi, wr, gs, ap, fs, tk, kd, dd, fd, sd, ba_tp, ld, so, wd, st, sh, rg, cs, sr, sc) := by
  unfold wpX_pack
  dsimp only
  refine br_t rfl ?_
  unfold wpX_findLeaders
  dsimp only
  refine ⟨26, ba_2 ?_ 25 0 rfl ld 26 (by omega)⟩
  intro ld
  refine ⟨c + 1, ba_31 hc V ?_ c 0 (by omega) ld (fun j hj => absurd hj (by omega)) (c + 1) (by omega)⟩
  intro ld L
  refine ⟨73, ba_19 ?_ 72 0 rfl wd st (fun s hs => absurd hs (by omega)) (fun s hs => absurd hs (by omega)) 73 (by omega)⟩
  intro wd st hw hst
  refine ⟨c + 1, ba_67 hc V ?_ c 0 (by omega) 0 (-1) fr fi 0 0 so st sh (ba_LI0 hst) (c + 1) (by omega)⟩
  intro sl b bu fr fi wr gs so st sh eb hb S G
  subst eb
  refine ⟨c + 1, ba_172 hc hb V S ?_ c 0 (by omega) wd (fun j hj => absurd hj (by omega)) (fun s hs _ => hw s hs) (c + 1) (by omega)⟩
  intro wd O Z
  refine K sl b _ _ _ _ _ _ _ _ _ _ _ rfl ⟨hb, S.1.2.1, S.1.2.2.1, Z, O, ?_, G⟩
  intro j hj j9 z ez hz
  exact S.1.2.2.2 z hz (L j hj j9 z ez hz)
end
end
section
/-- before slot p stand the first q of c operations -/
def ba_At (sl : Nat → Nat) (c p q : Nat) : Prop := q ≤ c ∧ (∀ j, j < q → sl j < p) ∧ ∀ j, q ≤ j → j < c → p ≤ sl j
theorem ba_At0 {sl : Nat → Nat} {c : Nat} : ba_At sl c 0 0 := ⟨by omega, fun j hj => absurd hj (by omega), fun j _ _ => by omega⟩
theorem ba_At_skip {sl : Nat → Nat} {c p q : Nat} (h : ba_At sl c p q) (hn : ∀ j, j < c → p ≠ sl j) : ba_At sl c (p + 1) q := by
  obtain ⟨h1, h2, h3⟩ := h
  refine ⟨h1, fun j hj => ?_, fun j a b => ?_⟩
  · have := h2 j hj
    omega
  · have := h3 j a b
    have := hn j b
    omega
theorem ba_At_take {sl : Nat → Nat} {c p q j : Nat} (hm : ∀ j k, j < k → k < c → sl j < sl k) (h : ba_At sl c p q) (hj : j < c) (e : p = sl j) : j = q ∧ ba_At sl c (p + 1) (q + 1) := by
  obtain ⟨h1, h2, h3⟩ := h
  have ej : j = q := by
    rcases Nat.lt_trichotomy j q with l | l | l
    · have := h2 j l
      omega
    · exact l
    · have a := h3 q (by omega) (by omega)
      have b := hm q j l hj
      omega
  subst ej
  refine ⟨rfl, by omega, fun x hx => ?_, fun x a b => ?_⟩
  · by_cases ex : x = j
    · subst ex
      omega
    · have := h2 x (by omega)
      omega
  · have := hm j x (by omega) b
    omega
theorem ba_At_uniq {sl : Nat → Nat} {c p q r : Nat} (h : ba_At sl c p q) (h' : ba_At sl c p r) : q = r := by
  obtain ⟨h1, h2, h3⟩ := h
  obtain ⟨g1, g2, g3⟩ := h'
  rcases Nat.lt_trichotomy q r with l | l | l
  · have a := g2 q l
    have b := h3 q (by omega) (by omega)
    omega
  · exact l
  · have a := h2 r l
    have b := g3 r (by omega) (by omega)
    omega
theorem ba_At_end {sl : Nat → Nat} {c p q : Nat} (h : ba_At sl c p q) (ha : ∀ j, j < c → sl j < p) : q = c := by
  obtain ⟨h1, h2, h3⟩ := h
  rcases Nat.lt_or_ge q c with l | l
  · have a := ha q l
    have b := h3 q (by omega) l
    omega
  · omega
theorem ba_At_of {sl : Nat → Nat} {c q : Nat} (hm : ∀ j k, j < k → k < c → sl j < sl k) (h : q < c) : ba_At sl c (sl q) q := by
  refine ⟨by omega, fun j hj => hm j q hj h, fun j a b => ?_⟩
  by_cases e : j = q
  · subst e
    omega
  · have := hm q j (by omega) b
    omega
theorem ba_wz {c b : Nat} {kd dd fd sd wd st sh : Nat → Int32} {sl : Nat → Nat} {s : Nat} (P : ba_PK c b kd dd fd sd sl wd st sh) (h : wd s = 0) : ∀ j, j < c → s ≠ sl j := by
  intro j hj e
  obtain ⟨k, d, a, q, t, e1, e2, e3, e4, e5, e6, e7, e8, e9, e10, e11, e12⟩ := P.2.2.2.2.1 j hj
  rw [e, e11] at h
  exact ba_w0 (ba_num6 k (by omega) _ (ba_tu8 _ _)) e4 e6 e7 h
theorem ba_wnz {c b : Nat} {kd dd fd sd wd st sh : Nat → Int32} {sl : Nat → Nat} {s : Nat} (P : ba_PK c b kd dd fd sd sl wd st sh) (hs : s < 72) (h : ¬ wd s = 0) : ∃ j, j < c ∧ s = sl j := by
  apply Classical.byContradiction
  intro hn
  exact h (P.2.2.2.1 s hs (fun j hj e => hn ⟨j, hj, e⟩))
/-- the number of the operation that a jump with second z leads to -/
def ba_tg (c z : Nat) : Nat := if z < c then z else c
/-- the second of the word in slot s -/
def ba_dx (wd : Nat → Int32) (s : Nat) : Int32 := (wd s >>> ((10 : Int32) &&& 31)) - 128
/-- what secondAt answers of operation j -/
def ba_S2 (c b : Nat) (kd sd : Nat → Int32) (sl : Nat → Nat) (j : Nat) (x : Int32) : Prop :=
  (kd j < 9 → x = sd j) ∧ (¬ kd j < 9 → ∃ p z, x = nI p ∧ p ≤ b ∧ sd j = nI z ∧ z ≤ 24 ∧ ba_At sl c (3 * p) (ba_tg c z))
section
variable {ct bu pa op fr fi wr gs ap fs tk : Int32} {kd dd fd sd tp ld so wd st sh rg cs sr sc : Nat → Int32} {c b : Nat} {sl : Nat → Nat}
theorem ba_rb4 {post : Int32 → Prop} {p q : Nat} (hc : c ≤ 24) (P : ba_PK c b kd dd fd sd sl wd st sh) (A : ba_At sl c p q) (hp : p ≤ 72) (h : post (nI q)) :
    ∀ n s r, ba_At sl c s r → s ≤ p → 72 < n + s → wX_realsBefore_4 post (nI p) ct (nI b) pa op fr fi wr gs ap fs tk kd dd fd sd tp ld so wd st sh rg cs sr sc n (nI r) (nI s) := by
  intro n
  have hb : b ≤ c := P.1
  induction n with
  | zero => intro s r _ h1 h2; omega
  | succ n ih =>
    intro s r hA hs hn
    refine pk_le p s (fun hps => ?_) (fun hps => ?_)
    · obtain rfl : s = p := by omega
      rw [ba_At_uniq hA A]
      exact h
    · rw [ba_3m]
      refine pk_le (3 * b) s (fun hbs => ?_) (fun hbs => ?_)
      · have e1 : r = c := ba_At_end hA (fun j hj => by have := P.2.2.1 j hj; omega)
        have e2 : q = c := ba_At_end A (fun j hj => by have := P.2.2.1 j hj; omega)
        rw [e1, ← e2]
        exact h
      · rw [nI_clamp (n := s) (by omega)]
        refine And.intro (vp_in_nI (by omega) (by decide)) (br_c (fun z => ?_) (fun z => ?_))
        · exact nm_r (nI_1 s) (ih (s + 1) r (ba_At_skip hA (ba_wz P z)) (by omega) (by omega))
        · obtain ⟨j, hj, e⟩ := ba_wnz P (by omega) z
          exact nm_r (nI_1 r) (nm_r (nI_1 s) (ih (s + 1) (r + 1) (ba_At_take P.2.1 hA hj e).2 (by omega) (by omega)))
theorem ba_rb {post : Int32 → Prop} {p q : Nat} (hc : c ≤ 24) (P : ba_PK c b kd dd fd sd sl wd st sh) (A : ba_At sl c p q) (hp : p ≤ 72) (h : post (nI q)) :
    wpX_realsBefore post (ct, nI b, pa, op, fr, fi, wr, gs, ap, fs, tk, kd, dd, fd, sd, tp, ld, so, wd, st, sh, rg, cs, sr, sc) (nI p) := by
  unfold wpX_realsBefore
  dsimp only
  exact ⟨73, ba_rb4 hc P A hp h 73 0 0 ba_At0 (by omega) (by omega)⟩
theorem ba_rs4 {post : Int32 → Prop} {i : Nat} (hc : c ≤ 24) (P : ba_PK c b kd dd fd sd sl wd st sh) (hi : i < c) (h : post (nI (sl i))) :
    ∀ n s r, ba_At sl c s r → r ≤ i → 72 < n + s → wX_realSlot_4 post ct (nI b) pa op fr fi wr gs ap fs tk kd dd fd sd tp ld so wd st sh rg cs sr sc n (nI (i - r)) (nI s) := by
  intro n
  have hb : b ≤ c := P.1
  have hl := P.2.2.1 i hi
  induction n with
  | zero =>
    intro s r hA h1 h2
    have := hA.2.2 i h1 hi
    omega
  | succ n ih =>
    intro s r hA hr hn
    have hsi := hA.2.2 i hr hi
    have e3 := ba_3m b
    refine pk_le (3 * b) s (fun hbs => absurd hbs (by omega)) (fun hbs => ?_) e3
    rw [nI_clamp (n := s) (by omega)]
    refine And.intro (vp_in_nI (by omega) (by decide)) (br_c (fun z => ?_) (fun z => ?_))
    · exact nm_r (nI_1 s) (ih (s + 1) r (ba_At_skip hA (ba_wz P z)) hr (by omega))
    · obtain ⟨j, hj, e⟩ := ba_wnz P (by omega) z
      obtain ⟨e2, hA2⟩ := ba_At_take P.2.1 hA hj e
      subst e2
      refine pk_eq (i - j) 0 (fun z0 => ?_) (fun z0 => ?_)
      · obtain rfl : i = j := by omega
        rw [e]
        exact h
      · refine nm_r (e' := nI (i - (j + 1))) ?_ (nm_r (nI_1 s) (ih (s + 1) (j + 1) hA2 (by omega) (by omega)))
        rw [show i - j = i - (j + 1) + 1 by omega]
        exact pk_m1 _
theorem ba_rs {post : Int32 → Prop} {i : Nat} (hc : c ≤ 24) (P : ba_PK c b kd dd fd sd sl wd st sh) (hi : i < c) (h : post (nI (sl i))) :
    wpX_realSlot post (ct, nI b, pa, op, fr, fi, wr, gs, ap, fs, tk, kd, dd, fd, sd, tp, ld, so, wd, st, sh, rg, cs, sr, sc) (nI i) := by
  unfold wpX_realSlot
  dsimp only
  exact ⟨73, ba_rs4 hc P hi h 73 0 0 ba_At0 (by omega) (by omega)⟩
theorem ba_kat {post : Int32 → Prop} {j : Nat} (hc : c ≤ 24) (P : ba_PK c b kd dd fd sd sl wd st sh) (hj : j < c) (h : post (kd j)) : wpX_kindAt post (ct, bu, pa, op, fr, fi, wr, gs, ap, fs, tk, kd, dd, fd, sd, ba_tp, ld, so, wd, st, sh, rg, cs, sr, sc) (nI (sl j)) := by
  obtain ⟨k, d, a, q, t, e1, e2, e3, e4, e5, e6, e7, e8, e9, e10, e11, e12⟩ := P.2.2.2.2.1 j hj
  have hl := P.2.2.1 j hj
  have hb : b ≤ c := P.1
  have D := ba_dec (k := k) (by omega) e8 (by omega : sl j % 3 < 3) e10
  have hn := ba_num6 k (by omega) _ (ba_tu8 t (sl j % 3))
  have h8 := ba_tu8 t (sl j % 3)
  unfold wpX_kindAt
  dsimp only
  rw [nI_clamp (n := sl j) (by omega), e11, ba_wn hn e4 e6 e7]
  refine And.intro (vp_in_nI (by omega) (by decide)) (nm_e (ba_uat (by omega) e8 e9 ?_))
  rw [e1] at h
  generalize ba_num k (ba_tu t (sl j % 3)) = n at *
  generalize ba_tu t (sl j % 3) = u at *
  refine pk_eq u 4 (fun u4 => ?_) (fun u4 => ?_)
  · have := (D.1 u4).2
    rw [this] at h
    exact ba_ev (nI_add 9 n) h
  · obtain ⟨k9, d1, d2⟩ := D.2 u4
    refine pk_le 2 n (fun n2 => ?_) (fun n2 => ?_)
    · refine pk_eq n 6 (fun n6 => ?_) (fun n6 => ?_)
      · rw [(d1 n2).1 n6] at h
        exact h
      · rw [(d1 n2).2 n6] at h
        exact ba_ev (pk_sub (b := 2) n2) h
    · refine pk_eq u 1 (fun u1 => ?_) (fun u1 => ?_)
      · rw [(d2 n2).1 u1] at h
        exact ba_ev (nI_add 7 n) h
      · rw [(d2 n2).2 u1] at h
        exact ba_ev (nI_add 4 n) h
theorem ba_dat {post : Int32 → Prop} {j : Nat} (hc : c ≤ 24) (P : ba_PK c b kd dd fd sd sl wd st sh) (hj : j < c) (h : post (dd j)) : wpX_destAt post (ct, bu, pa, op, fr, fi, wr, gs, ap, fs, tk, kd, dd, fd, sd, tp, ld, so, wd, st, sh, rg, cs, sr, sc) (nI (sl j)) := by
  obtain ⟨k, d, a, q, t, e1, e2, e3, e4, e5, e6, e7, e8, e9, e10, e11, e12⟩ := P.2.2.2.2.1 j hj
  have hl := P.2.2.1 j hj
  have hb : b ≤ c := P.1
  have hn := ba_num6 k (by omega) _ (ba_tu8 t (sl j % 3))
  unfold wpX_destAt
  dsimp only
  rw [nI_clamp (n := sl j) (by omega), e11, ba_wd hn e4 e6 e7, ← e3]
  exact And.intro (vp_in_nI (by omega) (by decide)) h
theorem ba_fat {post : Int32 → Prop} {j : Nat} (hc : c ≤ 24) (P : ba_PK c b kd dd fd sd sl wd st sh) (hj : j < c) (h : post (fd j)) : wpX_firstAt post (ct, bu, pa, op, fr, fi, wr, gs, ap, fs, tk, kd, dd, fd, sd, tp, ld, so, wd, st, sh, rg, cs, sr, sc) (nI (sl j)) := by
  obtain ⟨k, d, a, q, t, e1, e2, e3, e4, e5, e6, e7, e8, e9, e10, e11, e12⟩ := P.2.2.2.2.1 j hj
  have hl := P.2.2.1 j hj
  have hb : b ≤ c := P.1
  have hn := ba_num6 k (by omega) _ (ba_tu8 t (sl j % 3))
  unfold wpX_firstAt
  dsimp only
  rw [nI_clamp (n := sl j) (by omega), e11, ba_wa hn e4 e6 e7, ← e5]
  exact And.intro (vp_in_nI (by omega) (by decide)) h
theorem ba_sat {post : Int32 → Prop} {j : Nat} (hc : c ≤ 24) (P : ba_PK c b kd dd fd sd sl wd st sh) (hj : j < c) (h : post (ba_dx wd (sl j))) :
    wpX_secondAt post (ct, bu, pa, op, fr, fi, wr, gs, ap, fs, tk, kd, dd, fd, sd, tp, ld, so, wd, st, sh, rg, cs, sr, sc) (nI (sl j)) := by
  have hl := P.2.2.1 j hj
  have hb : b ≤ c := P.1
  unfold wpX_secondAt
  dsimp only
  rw [nI_clamp (n := sl j) (by omega)]
  exact And.intro (vp_in_nI (by omega) (by decide)) h
theorem ba_sx {j : Nat} (hc : c ≤ 24) (P : ba_PK c b kd dd fd sd sl wd st sh) (hj : j < c) : ba_S2 c b kd sd sl j (ba_dx wd (sl j)) := by
  obtain ⟨k, d, a, q, t, e1, e2, e3, e4, e5, e6, e7, e8, e9, e10, e11, e12⟩ := P.2.2.2.2.1 j hj
  have hl := P.2.2.1 j hj
  have hb : b ≤ c := P.1
  have hn := ba_num6 k (by omega) _ (ba_tu8 t (sl j % 3))
  unfold ba_dx
  rw [e11, ba_wq hn e4 e6 e7]
  refine ⟨fun z => ?_, fun z => ?_⟩
  · rw [e1, ba_lt9 (by omega)] at z
    exact (e12.1 z).symm
  · have z' := z
    rw [e1, ba_lt9 (by omega)] at z'
    obtain ⟨y, ey, hy, ⟨g1, g2⟩ | ⟨g1, g2⟩⟩ := e12.2 (by omega)
    · refine ⟨sl y / 3, y, ?_, ?_, ey, hy, ?_⟩
      · rw [g2, ba_q128 (by omega), Nat.add_sub_cancel]
      · have := P.2.2.1 y g1
        omega
      · rw [ba_tg, if_pos g1]
        refine ⟨by omega, fun m hm => P.2.2.2.2.2.1 j hj z y ey g1 m hm, fun m a1 a2 => ?_⟩
        by_cases e : m = y
        · subst e
          omega
        · have := P.2.1 y m (by omega) a2
          omega
    · refine ⟨b, y, ?_, Nat.le_refl b, ey, hy, ?_⟩
      · rw [g2, ba_q128 (by omega), Nat.add_sub_cancel]
      · rw [ba_tg, if_neg (by omega)]
        exact ⟨Nat.le_refl c, fun m hm => P.2.2.1 m hm, fun m a1 a2 => absurd a1 (by omega)⟩
/-- the slot that skipEmpty comes to ahead of operation q -/
def ba_nx (sl : Nat → Nat) (c b q : Nat) : Nat := if q < c then sl q else 3 * b
theorem ba_sk0 {post : SX → Prop} {q : Nat} (hc : c ≤ 24) (P : ba_PK c b kd dd fd sd sl wd st sh) (h : post (ct, nI b, pa, op, fr, fi, wr, gs, nI (ba_nx sl c b q), fs, tk, kd, dd, fd, sd, tp, ld, so, wd, st, sh, rg, cs, sr, sc)) :
    ∀ n p, ba_At sl c p q → p ≤ 3 * b → 72 < n + p → wX_skipEmpty_0 post ct (nI b) pa op fr fi wr gs fs tk kd dd fd sd tp ld so wd st sh rg cs sr sc n (nI p) := by
  intro n
  have hb : b ≤ c := P.1
  induction n with
  | zero => intro p _ h1 h2; omega
  | succ n ih =>
    intro p hA hp hn
    have e3 := ba_3m b
    refine pk_le (3 * b) p (fun hbs => ?_) (fun hbs => ?_) e3
    · have eq : q = c := ba_At_end hA (fun j hj => by have := P.2.2.1 j hj; omega)
      rw [ba_nx, if_neg (by omega), show 3 * b = p by omega] at h
      exact h
    · rw [nI_clamp (n := p) (by omega)]
      refine And.intro (vp_in_nI (by omega) (by decide)) (br_c (fun z => ?_) (fun z => ?_))
      · exact nm_r (nI_1 p) (ih (p + 1) (ba_At_skip hA (ba_wz P z)) (by omega) (by omega))
      · obtain ⟨j, hj, e⟩ := ba_wnz P (by omega) z
        obtain ⟨e2, hA2⟩ := ba_At_take P.2.1 hA hj e
        subst e2
        rw [ba_nx, if_pos hj, ← e] at h
        exact h
theorem ba_skip {post : SX → Prop} {p q : Nat} (hc : c ≤ 24) (P : ba_PK c b kd dd fd sd sl wd st sh) (A : ba_At sl c p q) (hp : p ≤ 3 * b)
    (h : post (ct, nI b, pa, op, fr, fi, wr, gs, nI (ba_nx sl c b q), fs, tk, kd, dd, fd, sd, tp, ld, so, wd, st, sh, rg, cs, sr, sc)) : wpX_skipEmpty post (ct, nI b, pa, op, fr, fi, wr, gs, nI p, fs, tk, kd, dd, fd, sd, tp, ld, so, wd, st, sh, rg, cs, sr, sc) := by
  unfold wpX_skipEmpty
  dsimp only
  exact ⟨73, ba_sk0 hc P h 73 p A hp (by omega)⟩
theorem ba_nxA {q : Nat} (P : ba_PK c b kd dd fd sd sl wd st sh) (hq : q ≤ c) : ba_At sl c (ba_nx sl c b q) q ∧ ba_nx sl c b q ≤ 3 * b := by
  unfold ba_nx
  by_cases h : q < c
  · rw [if_pos h]
    exact ⟨ba_At_of P.2.1 h, Nat.le_of_lt (P.2.2.1 q h)⟩
  · rw [if_neg h]
    obtain rfl : q = c := by omega
    exact ⟨⟨Nat.le_refl q, fun j hj => P.2.2.1 j hj, fun j a1 a2 => absurd a1 (by omega)⟩, Nat.le_refl _⟩
end
end
section
/-- what the operations compute -/
def ba_cp (k : Nat) (x y : Int32) : Int32 :=
  if k = 0 then x + y else if k = 1 then x - y else if k = 2 then x &&& y else if k = 3 then x ^^^ y else if k = 4 then x * y else x <<< ((y &&& 31) &&& 31)
def ba_val (k a : Nat) (s : Int32) (rg cs : Nat → Int32) : Int32 :=
  if k = 6 then rg a + s else if k = 7 then cs ((rg a + s) &&& 15).toNatClampNeg else ba_cp k (rg a) (rg (s &&& 7).toNatClampNeg)
theorem ba_v15 (x : Int32) : vp_in (x &&& 15) 16 := pk_andIn x 4 (by decide) (by decide)
theorem ba_v7 (x : Int32) : vp_in (x &&& 7) 8 := pk_andIn x 3 (by decide) (by decide)
theorem ba_bool {x : Int32} (h : x = 0 ∨ x = 1) : narrow .boolean (.int x) = .int x ∧ fits .boolean (.int x) = true := by
  rcases h with rfl | rfl
  · exact ⟨rfl, by decide⟩
  · exact ⟨rfl, by decide⟩
theorem ba_comp {post : Int32 → Prop} {k : Nat} {x y : Int32} (hk : k ≤ 10) (h : post (ba_cp k x y)) : wpX_computed post (nI k) x y := by
  unfold wpX_computed
  unfold ba_cp at h
  refine pk_eq k 0 (fun z => by rw [if_pos z] at h; exact h) (fun z => ?_)
  rw [if_neg z] at h
  refine pk_eq k 1 (fun z => by rw [if_pos z] at h; exact h) (fun z => ?_)
  rw [if_neg z] at h
  refine pk_eq k 2 (fun z => by rw [if_pos z] at h; exact h) (fun z => ?_)
  rw [if_neg z] at h
  refine pk_eq k 3 (fun z => by rw [if_pos z] at h; exact h) (fun z => ?_)
  rw [if_neg z] at h
  exact pk_eq k 4 (fun z => by rw [if_pos z] at h; exact h) (fun z => by rw [if_neg z] at h; exact h)
/-- the first i of g copied over f -/
def ba_cy (f g : Nat → Int32) (i : Nat) : Nat → Int32 := fun y => if y < i then g y else f y
theorem ba_cy0 (f g : Nat → Int32) : ba_cy f g 0 = f := funext fun y => if_neg (by omega)
theorem ba_cyS (f g : Nat → Int32) (i : Nat) : upd (ba_cy f g i) i (g i) = ba_cy f g (i + 1) := by
  funext y
  unfold upd ba_cy
  by_cases e : y = i
  · rw [if_pos e, if_pos (by omega), e]
  · rw [if_neg e]
    by_cases l : y < i
    · rw [if_pos l, if_pos (by omega)]
    · rw [if_neg l, if_neg (by omega)]
theorem ba_cyL (f g : Nat → Int32) {i y : Nat} (h : y < i) : ba_cy f g i y = g y := if_pos h
section
variable {ct bu pa op fr fi wr gs ap fs tk : Int32} {kd dd fd sd tp ld so wd st sh rg cs sr sc : Nat → Int32} {c b : Nat} {sl : Nat → Nat}
theorem ba_t28 {post : SX → Prop} {f : Nat → Int32} (h : post (ct, bu, pa, op, fr, fi, wr, gs, ap, 0, tk, kd, dd, fd, sd, tp, ld, so, wd, st, sh, rg, cs, sr, ba_cy f cs 16)) :
    ∀ d i, i + d = 16 → ∀ n, d < n → wX_takePicture_28 post ct bu pa op fr fi wr gs ap fs tk n (nI i) kd dd fd sd tp ld so wd st sh rg cs sr (ba_cy f cs i) := by
  intro d
  induction d with
  | zero =>
    intro i hi n hn
    obtain ⟨m, rfl⟩ : ∃ m, n = m + 1 := ⟨n - 1, by omega⟩
    obtain rfl : i = 16 := by omega
    exact br_t (by decide) h
  | succ d ih =>
    intro i hi n hn
    obtain ⟨m, rfl⟩ : ∃ m, n = m + 1 := ⟨n - 1, by omega⟩
    have vi := vp_in_nI (n := i) (N := 16) (by omega) (by decide)
    refine br_f (nI_ge (b := 16) (by omega) (by decide)) ?_
    rw [nI_clamp (n := i) (by omega)]
    exact And.intro vi (And.intro vi (nm_r (ba_cyS f cs i) (nm_r (nI_1 i) (ih (i + 1) (by omega) m (by omega)))))
theorem ba_t2 {post : SX → Prop} {f : Nat → Int32} (h : ∃ n, wX_takePicture_28 post ct bu pa op fr fi wr gs ap fs tk n 0 kd dd fd sd tp ld so wd st sh rg cs (ba_cy f rg 8) sc) :
    ∀ d i, i + d = 8 → ∀ n, d < n → wX_takePicture_2 post ct bu pa op fr fi wr gs ap fs tk n (nI i) kd dd fd sd tp ld so wd st sh rg cs (ba_cy f rg i) sc := by
  intro d
  induction d with
  | zero =>
    intro i hi n hn
    obtain ⟨m, rfl⟩ : ∃ m, n = m + 1 := ⟨n - 1, by omega⟩
    obtain rfl : i = 8 := by omega
    exact br_t (by decide) h
  | succ d ih =>
    intro i hi n hn
    obtain ⟨m, rfl⟩ : ∃ m, n = m + 1 := ⟨n - 1, by omega⟩
    have vi := vp_in_nI (n := i) (N := 8) (by omega) (by decide)
    refine br_f (nI_ge (b := 8) (by omega) (by decide)) ?_
    rw [nI_clamp (n := i) (by omega)]
    exact And.intro vi (And.intro vi (nm_r (ba_cyS f rg i) (nm_r (nI_1 i) (ih (i + 1) (by omega) m (by omega)))))
theorem ba_take {post : SX → Prop} (h : post (ct, bu, pa, op, fr, fi, wr, gs, ap, 0, tk, kd, dd, fd, sd, tp, ld, so, wd, st, sh, rg, cs, ba_cy sr rg 8, ba_cy sc cs 16)) : wpX_takePicture post (ct, bu, pa, op, fr, fi, wr, gs, ap, fs, tk, kd, dd, fd, sd, tp, ld, so, wd, st, sh, rg, cs, sr, sc) := by
  unfold wpX_takePicture
  dsimp only
  have H2 := ba_t28 (f := sc) (fs := fs) h 16 0 rfl 17 (by omega)
  rw [ba_cy0] at H2
  have H := ba_t2 (f := sr) ⟨17, H2⟩ 8 0 rfl 9 (by omega)
  rw [ba_cy0] at H
  exact ⟨9, H⟩
theorem ba_j38 {post : SX → Prop} {p q z : Nat} (hc : c ≤ 24) (P : ba_PK c b kd dd fd sd sl wd st sh) (hp : p ≤ b) (hq : q < c) (A : ba_At sl c (3 * p) z)
    (h : post (ct, nI b, pa, op, fr, fi, wr, gs, nI (3 * p), fs, if z = q + 1 then tk else tk + 1, kd, dd, fd, sd, tp, ld, so, wd, st, sh, rg, cs, sr, sc)) : wX_jump_38 post (nI p) (nI (q + 1)) ct (nI b) pa op fr fi wr gs ap fs tk kd dd fd sd tp ld so wd st sh rg cs sr sc := by
  unfold wX_jump_38
  have hb : b ≤ c := P.1
  have hz : z ≤ c := A.1
  rw [ba_3m]
  refine nm_e (ba_rb hc P A (by omega) (pk_eq z (q + 1) (fun e => ?_) (fun e => nm_e ?_)))
  · rw [if_pos e] at h
    exact h
  · rw [if_neg e] at h
    exact h
theorem ba_jump {post : SX → Prop} {k p q z : Nat} {x : Int32} (hc : c ≤ 24) (P : ba_PK c b kd dd fd sd sl wd st sh) (hp : p ≤ b) (hq : q < c) (hk : k ≤ 10) (A : ba_At sl c (3 * p) z)
    (h0 : k = 9 → x = 0 → post (ct, nI b, pa, op, fr, fi, wr, gs, nI (sl q + 1), 1, tk, kd, dd, fd, sd, tp, ld, so, wd, st, sh, rg, cs, sr, sc))
    (h1 : ¬ (k = 9 ∧ x = 0) → post (ct, nI b, pa, op, fr, fi, wr, gs, nI (3 * p), 1, if z = q + 1 then tk else tk + 1, kd, dd, fd, sd, tp, ld, so, wd, st, sh, rg, cs, sr, sc)) : wpX_jump post (ct, nI b, pa, op, fr, fi, wr, gs, nI (sl q), fs, tk, kd, dd, fd, sd, tp, ld, so, wd, st, sh, rg, cs, sr, sc) (nI k) x (nI p) := by
  unfold wpX_jump
  dsimp only
  have hb : b ≤ c := P.1
  have hl := P.2.2.1 q hq
  refine ba_rb hc P (ba_At_of P.2.1 hq) (by omega) (nm_r (nI_1 q) (pk_eq k 9 (fun k9 => br_c (fun x0 => ?_) (fun x0 => ?_)) (fun k9 => ?_)))
  · exact nm_r (nI_1 _) (h0 k9 x0)
  · exact ba_j38 hc P hp hq A (h1 (fun z => x0 z.2))
  · exact ba_j38 hc P hp hq A (h1 (fun z => k9 z.1))
theorem ba_c151 {post : SX → Prop} {s : Nat} (hs : s < 72) (h01 : st s = 0 ∨ st s = 1) (h : post (ct, bu, pa, op, fr, fi, wr, gs, nI (s + 1), st s, tk, kd, dd, fd, sd, tp, ld, so, wd, st, sh, rg, cs, sr, sc)) : wX_carryOut_151 post ct bu pa op fr fi wr gs (nI s) fs tk kd dd fd sd tp ld so wd st sh rg cs sr sc := by
  unfold wX_carryOut_151
  rw [nI_clamp (n := s) (by omega)]
  have B := ba_bool h01
  exact And.intro (vp_in_nI hs (by decide)) (nm_e (And.intro B.1 (And.intro B.2 (nm_r (nI_1 s) h))))
theorem ba_carry {post : SX → Prop} {q k d a p z : Nat} (hc : c ≤ 24) (P : ba_PK c b kd dd fd sd sl wd st sh) (hq : q < c) (ek : kd q = nI k) (hk : k ≤ 10) (ed : dd q = nI d) (hd : d ≤ 7) (ea : fd q = nI a) (ha : a ≤ 7)
    (h7 : k ≤ 7 → post (ct, nI b, pa, op, fr, fi, wr, gs, nI (sl q + 1), st (sl q), tk, kd, dd, fd, sd, ba_tp, ld, so, wd, st, sh, upd rg d (ba_val k a (sd q) sr sc), cs, sr, sc))
    (h8 : k = 8 → post (ct, nI b, pa, op, fr, fi, wr, gs, nI (sl q + 1), st (sl q), tk, kd, dd, fd, sd, ba_tp, ld, so, wd, st, sh, rg, upd cs ((sr a + sd q) &&& 15).toNatClampNeg (sr d), sr, sc))
    (h0 : k = 9 → sr a = 0 → post (ct, nI b, pa, op, fr, fi, wr, gs, nI (sl q + 1), 1, tk, kd, dd, fd, sd, ba_tp, ld, so, wd, st, sh, rg, cs, sr, sc))
    (hx : 9 ≤ k → ba_dx wd (sl q) = nI p ∧ p ≤ b ∧ ba_At sl c (3 * p) z)
    (h1 : 9 ≤ k → ¬ (k = 9 ∧ sr a = 0) → post (ct, nI b, pa, op, fr, fi, wr, gs, nI (3 * p), 1, if z = q + 1 then tk else tk + 1, kd, dd, fd, sd, ba_tp, ld, so, wd, st, sh, rg, cs, sr, sc)) :
    wpX_carryOut post (ct, nI b, pa, op, fr, fi, wr, gs, nI (sl q), fs, tk, kd, dd, fd, sd, ba_tp, ld, so, wd, st, sh, rg, cs, sr, sc) := by
  have hb : b ≤ c := P.1
  have hl := P.2.2.1 q hq
  have h01 := P.2.2.2.2.2.2.1 (sl q) (by omega)
  unfold wpX_carryOut
  dsimp only
  refine ba_kat hc P hq (ba_dat hc P hq (ba_fat hc P hq ?_))
  rw [ek, ed, ea, nI_clamp (n := a) (by omega)]
  refine And.intro (vp_in_nI (by omega) (by decide)) (nm_e (ba_sat hc P hq ?_))
  rw [nI_clamp (n := d) (by omega)]
  have vd := vp_in_nI (n := d) (N := 8) (by omega) (by decide)
  refine pk_lt k 9 (fun k9 => ?_) (fun k9 => ?_)
  · rw [(ba_sx hc P hq).1 (by rw [ek, ba_lt9 (by omega)]; exact k9)]
    refine pk_eq k 8 (fun k8 => ?_) (fun k8 => ?_)
    · exact And.intro vd (And.intro (ba_v15 _) (nm_e (ba_c151 (by omega) h01 (h8 k8))))
    · have h := h7 (by omega)
      unfold ba_val at h
      refine pk_eq k 7 (fun k7 => ?_) (fun k7 => pk_eq k 6 (fun k6 => ?_) (fun k6 => ?_))
      · rw [if_neg (by omega), if_pos k7] at h
        exact And.intro (ba_v15 _) (And.intro vd (nm_e (ba_c151 (by omega) h01 h)))
      · rw [if_pos k6] at h
        exact And.intro vd (nm_e (ba_c151 (by omega) h01 h))
      · rw [if_neg k6, if_neg k7] at h
        exact And.intro (ba_v7 _) (ba_comp hk (And.intro vd (nm_e (ba_c151 (by omega) h01 h))))
  · obtain ⟨e1, e2, e5⟩ := hx k9
    rw [e1]
    exact ba_jump hc P e2 hq hk e5 (fun k9 x0 => h0 k9 x0) (fun hn => h1 k9 hn)
end
section
variable {ct pl jp : Int32} {rg cs kd dd fd sd : Nat → Int32} {c : Nat}
theorem ba_ytg {post : Int32 → Prop} {q z : Nat} (hc : c ≤ 24) (hq : q < c) (ez : sd q = nI z) (hz : z ≤ 24) (h : post (nI (ba_tg c z))) : wpY_target post (nI c, pl, jp, rg, cs, kd, dd, fd, sd) (nI q) := by
  unfold wpY_target
  dsimp only
  rw [nI_clamp (n := q) (by omega), ez]
  unfold ba_tg at h
  have vq := vp_in_nI (n := q) (N := 24) (by omega) (by decide)
  refine And.intro vq (pk_le z c (fun hl => And.intro vq ?_) (fun hl => ?_))
  · by_cases e : z < c
    · rw [if_pos e] at h
      exact h
    · rw [if_neg e] at h
      rw [show z = c by omega]
      exact h
  · rw [if_neg (by omega)] at h
    exact h
theorem ba_y106 {post : Int32 → SY → Prop} {q z : Nat} (hc : c ≤ 24) (hq : q < c) (ez : sd q = nI z) (hz : z ≤ 24)
    (h : post (nI (ba_tg c z)) (nI c, pl, if ba_tg c z = q + 1 then jp else jp + 1, rg, cs, kd, dd, fd, sd)) : wY_step_106 post (nI q) (nI c) pl jp rg cs kd dd fd sd := by
  unfold wY_step_106
  have ht : ba_tg c z ≤ c := by
    unfold ba_tg
    split <;> omega
  rw [nI_1]
  refine ba_ytg hc hq ez hz (pk_eq (ba_tg c z) (q + 1) (fun e => ?_) (fun e => nm_e ?_))
  · rw [if_pos e] at h
    exact ba_ytg hc hq ez hz h
  · rw [if_neg e] at h
    exact ba_ytg hc hq ez hz h
theorem ba_yres {post : Int32 → Prop} {q k a : Nat} (hc : c ≤ 24) (hq : q < c) (ek : kd q = nI k) (hk : k ≤ 10) (ea : fd q = nI a) (ha : a ≤ 7) (h : post (ba_val k a (sd q) rg cs)) :
    wpY_result post (nI c, pl, jp, rg, cs, kd, dd, fd, sd) (nI q) := by
  unfold wpY_result
  dsimp only
  rw [nI_clamp (n := q) (by omega), ek, ea, nI_clamp (n := a) (by omega)]
  have vq := vp_in_nI (n := q) (N := 24) (by omega) (by decide)
  have va := vp_in_nI (n := a) (N := 8) (by omega) (by decide)
  unfold ba_val at h
  refine And.intro vq (And.intro va (nm_e (And.intro vq (pk_eq k 6 (fun k6 => ?_) (fun k6 => And.intro vq (pk_eq k 7 (fun k7 => ?_) (fun k7 => ?_)))))))
  · rw [if_pos k6] at h
    exact And.intro vq h
  · rw [if_neg k6, if_pos k7] at h
    exact And.intro vq (And.intro (ba_v15 _) h)
  · rw [if_neg k6, if_neg k7] at h
    unfold ba_cp at h
    refine And.intro vq (And.intro (ba_v7 _) (nm_e (And.intro vq ?_)))
    refine pk_eq k 0 (fun z => by rw [if_pos z] at h; exact h) (fun z => And.intro vq ?_)
    rw [if_neg z] at h
    refine pk_eq k 1 (fun z => by rw [if_pos z] at h; exact h) (fun z => And.intro vq ?_)
    rw [if_neg z] at h
    refine pk_eq k 2 (fun z => by rw [if_pos z] at h; exact h) (fun z => And.intro vq ?_)
    rw [if_neg z] at h
    refine pk_eq k 3 (fun z => by rw [if_pos z] at h; exact h) (fun z => And.intro vq ?_)
    rw [if_neg z] at h
    exact pk_eq k 4 (fun z => by rw [if_pos z] at h; exact h) (fun z => by rw [if_neg z] at h; exact h)
theorem ba_ystep {post : Int32 → SY → Prop} {q k d a : Nat} (hc : c ≤ 24) (hq : q < c) (ek : kd q = nI k) (hk : k ≤ 10) (ed : dd q = nI d) (hd : d ≤ 7) (ea : fd q = nI a) (ha : a ≤ 7)
    (h7 : k ≤ 7 → post (nI (q + 1)) (nI c, pl, jp, upd rg d (ba_val k a (sd q) rg cs), cs, kd, dd, fd, sd))
    (h8 : k = 8 → post (nI (q + 1)) (nI c, pl, jp, rg, upd cs ((rg a + sd q) &&& 15).toNatClampNeg (rg d), kd, dd, fd, sd))
    (h0 : k = 9 → rg a = 0 → post (nI (q + 1)) (nI c, pl, jp, rg, cs, kd, dd, fd, sd))
    (h1 : 9 ≤ k → ¬ (k = 9 ∧ rg a = 0) → ∃ z, sd q = nI z ∧ z ≤ 24 ∧ post (nI (ba_tg c z)) (nI c, pl, if ba_tg c z = q + 1 then jp else jp + 1, rg, cs, kd, dd, fd, sd)) :
    wpY_step post (nI c, pl, jp, rg, cs, kd, dd, fd, sd) (nI q) := by
  unfold wpY_step
  dsimp only
  rw [nI_clamp (n := q) (by omega), ek, ed, ea, nI_clamp (n := a) (by omega), nI_clamp (n := d) (by omega), nI_1]
  have vq := vp_in_nI (n := q) (N := 24) (by omega) (by decide)
  have va := vp_in_nI (n := a) (N := 8) (by omega) (by decide)
  have vd := vp_in_nI (n := d) (N := 8) (by omega) (by decide)
  refine And.intro vq (pk_le 8 k (fun k8 => And.intro vq (pk_eq k 8 (fun e8 => ?_) (fun n8 => And.intro vq (pk_eq k 10 (fun e10 => ?_) (fun n10 => And.intro vq (And.intro va (br_c (fun z => ?_) (fun z => ?_)))))))) (fun k8 => And.intro vq ?_))
  · exact And.intro vq (And.intro va (And.intro vq (And.intro vq (And.intro vd (And.intro (ba_v15 _) (nm_e (h8 e8)))))))
  · obtain ⟨y, e1, e2, e3⟩ := h1 (by omega) (by omega)
    exact ba_y106 hc hq e1 e2 e3
  · exact h0 (by omega) z
  · obtain ⟨y, e1, e2, e3⟩ := h1 (by omega) (fun w => z w.2)
    exact ba_y106 hc hq e1 e2 e3
  · exact ba_yres hc hq ek hk ea ha (And.intro vd (nm_e (h7 (by omega))))
end
end
section
/-- the picture was taken ahead of operation m, and the state differs from it by what m .. q - 1 wrote alone -/
def ba_PM (kd dd fd sd : Nat → Int32) (sl : Nat → Nat) (st : Nat → Int32) (m q : Nat) (rg cs sr sc : Nat → Int32) : Prop :=
  m ≤ q ∧ (∀ x, m ≤ x → x < q → st (sl x) = 0) ∧ (∀ r, r < 8 → (∀ x, m ≤ x → x < q → kd x ≤ 7 → dd x ≠ nI r) → sr r = rg r) ∧
  (∀ y, y < 16 → (∀ x, m ≤ x → x < q → kd x = 8 → ((sr (fd x).toNatClampNeg + sd x) &&& 15) ≠ nI y) → sc y = cs y)
def ba_PI (kd dd fd sd : Nat → Int32) (sl : Nat → Nat) (st : Nat → Int32) (q : Nat) (fs : Int32) (rg cs sr sc : Nat → Int32) : Prop :=
  fs = 0 → ∃ m, ba_PM kd dd fd sd sl st m q rg cs sr sc
theorem ba_PI1 {kd dd fd sd : Nat → Int32} {sl : Nat → Nat} {st : Nat → Int32} {q : Nat} {rg cs sr sc : Nat → Int32} : ba_PI kd dd fd sd sl st q 1 rg cs sr sc :=
  fun z => absurd z (by decide)
theorem ba_PM0 {kd dd fd sd : Nat → Int32} {sl : Nat → Nat} {st : Nat → Int32} {q : Nat} {rg cs sr sc : Nat → Int32} (h1 : ∀ y, y < 8 → sr y = rg y) (h2 : ∀ y, y < 16 → sc y = cs y) :
    ba_PM kd dd fd sd sl st q q rg cs sr sc :=
  ⟨Nat.le_refl q, fun x a b => absurd a (by omega), fun r hr _ => h1 r hr, fun y hy _ => h2 y hy⟩
theorem ba_m15 {u v w : Int32} (h : (u + v) &&& 15 = (u + w) &&& 15) : (v - w) &&& 15 = 0 := by
  rw [pk_and (u + v) 4 (by decide), pk_and (u + w) 4 (by decide), nI_eq (by omega) (by omega), Int32.toBitVec_add, Int32.toBitVec_add, BitVec.toNat_add, BitVec.toNat_add] at h
  rw [pk_and (v - w) 4 (by decide), Int32.toBitVec_sub, BitVec.toNat_sub, ba_eq0 (by omega)]
  have h1 := u.toBitVec.isLt
  have h2 := v.toBitVec.isLt
  have h3 := w.toBitVec.isLt
  omega
section
variable {kd dd fd sd st rg cs sr sc : Nat → Int32} {sl : Nat → Nat} {c m q : Nat}
/-- no operation of the picture's stretch stands against operation q -/
theorem ba_ncs (G : ba_GG kd dd fd sd sl c st) (hq : q < c) (M : ba_PM kd dd fd sd sl st m q rg cs sr sc) : ∀ x, m ≤ x → x < q → ba_nc kd dd fd sd x q :=
  fun x h1 h2 => G.2 x q h2 hq (fun y a b => M.2.1 y (by omega) b)
theorem ba_see {a : Nat} (G : ba_GG kd dd fd sd sl c st) (hq : q < c) (M : ba_PM kd dd fd sd sl st m q rg cs sr sc) (n10 : kd q ≠ 10) (ea : fd q = nI a) (ha : a ≤ 7) : sr a = rg a := by
  refine M.2.2.1 a (by omega) (fun x h1 h2 h7 e => ?_)
  exact ((ba_ncs G hq M x h1 h2).2.1 h7).1 n10 (e.trans ea.symm)
theorem ba_valE {k a s : Nat} (G : ba_GG kd dd fd sd sl c st) (hq : q < c) (M : ba_PM kd dd fd sd sl st m q rg cs sr sc) (ek : kd q = nI k) (hk : k ≤ 7) (ea : fd q = nI a) (ha : a ≤ 7)
    (es : k < 6 → sd q = nI s ∧ s ≤ 7) : ba_val k a (sd q) sr sc = ba_val k a (sd q) rg cs := by
  have n10 : kd q ≠ 10 := by
    rw [ek]
    intro z
    have := (nI_eq (b := 10) (by omega) (by decide)).mp z
    omega
  have e1 := ba_see G hq M n10 ea ha
  unfold ba_val
  by_cases k6 : k = 6
  · rw [if_pos k6, if_pos k6, e1]
  · rw [if_neg k6, if_neg k6]
    by_cases k7 : k = 7
    · rw [if_pos k7, if_pos k7]
      obtain ⟨y, hy, ey⟩ := pk_andE (rg a + sd q) 4 (m := 15) (by decide)
      rw [e1, ey, nI_clamp (by omega)]
      refine M.2.2.2 y (by omega) (fun x h1 h2 h8 e => ?_)
      obtain ⟨f1, f2⟩ := (ba_ncs G hq M x h1 h2).2.2 h8 (by rw [ek, k7]; rfl)
      rw [f1, ea, nI_clamp (by omega), e1, ← ey] at e
      exact f2 (ba_m15 e)
    · rw [if_neg k7, if_neg k7, e1]
      obtain ⟨e2, hs⟩ := es (by omega)
      have e3 : sr s = rg s := by
        refine M.2.2.1 s (by omega) (fun x h1 h2 h7 e => ?_)
        refine ((ba_ncs G hq M x h1 h2).2.1 h7).2.1 ?_ (e.trans e2.symm)
        rw [ek]
        exact nI_lt (b := 6) (by omega) (by decide)
      rw [e2, pk_andN (by omega) 3 (by decide), Nat.mod_eq_of_lt (by omega), nI_clamp (by omega), e3]
theorem ba_seeD {d : Nat} (G : ba_GG kd dd fd sd sl c st) (hq : q < c) (M : ba_PM kd dd fd sd sl st m q rg cs sr sc) (e8 : kd q = 8) (ed : dd q = nI d) (hd : d ≤ 7) : sr d = rg d := by
  refine M.2.2.1 d (by omega) (fun x h1 h2 h7 e => ?_)
  exact ((ba_ncs G hq M x h1 h2).2.1 h7).2.2 e8 (e.trans ed.symm)
theorem ba_PM_reg {d : Nat} {v : Int32} (M : ba_PM kd dd fd sd sl st m q rg cs sr sc) (h7 : kd q ≤ 7) (ed : dd q = nI d) (hz : st (sl q) = 0) :
    ba_PM kd dd fd sd sl st m (q + 1) (upd rg d v) cs sr sc := by
  obtain ⟨m1, m2, m3, m4⟩ := M
  refine ⟨by omega, fun x a b => ?_, fun r hr hx => ?_, fun y hy hx => m4 y hy (fun x a b => hx x a (by omega))⟩
  · by_cases e : x = q
    · rw [e]
      exact hz
    · exact m2 x a (by omega)
  · have hd : r ≠ d := fun e => hx q (by omega) (by omega) h7 (by rw [ed, e])
    rw [pk_un hd]
    exact m3 r hr (fun x a b => hx x a (by omega))
theorem ba_PM_cell {a : Nat} {v : Int32} (M : ba_PM kd dd fd sd sl st m q rg cs sr sc) (h8 : kd q = 8) (ea : fd q = nI a) (ha : a ≤ 7) (hz : st (sl q) = 0) :
    ba_PM kd dd fd sd sl st m (q + 1) rg (upd cs ((sr a + sd q) &&& 15).toNatClampNeg v) sr sc := by
  obtain ⟨m1, m2, m3, m4⟩ := M
  refine ⟨by omega, fun x a b => ?_, fun r hr hx => m3 r hr (fun x a b => hx x a (by omega)), fun y hy hx => ?_⟩
  · by_cases e : x = q
    · rw [e]
      exact hz
    · exact m2 x a (by omega)
  · have hd : y ≠ ((sr a + sd q) &&& 15).toNatClampNeg := fun e => by
      refine hx q (by omega) (by omega) h8 ?_
      obtain ⟨z, hz, ez⟩ := pk_andE (sr a + sd q) 4 (m := 15) (by decide)
      rw [ez, nI_clamp (by omega)] at e
      rw [ea, nI_clamp (by omega), ez, e]
    rw [pk_un hd]
    exact m4 y hy (fun x a b => hx x a (by omega))
end
section
variable {ct bu pa op fr fi wr gs ap fs tk : Int32} {kd dd fd sd tp ld so wd st sh rg cs sr sc : Nat → Int32} {c b m q : Nat} {sl : Nat → Nat} {pl : Int32}
/-- one operation, on both sides -/
theorem ba_step (hc : c ≤ 24) (V : ba_VO c kd dd fd sd) (P : ba_PK c b kd dd fd sd sl wd st sh) (hq : q < c) (M : ba_PM kd dd fd sd sl st m q rg cs sr sc) :
    ∃ p' q' fs' tk' rg' cs', ba_At sl c p' q' ∧ p' ≤ 3 * b ∧ ba_PI kd dd fd sd sl st q' fs' rg' cs' sr sc ∧
      (∀ post : SX → Prop, post (ct, nI b, pa, op, fr, fi, wr, gs, nI p', fs', tk', kd, dd, fd, sd, ba_tp, ld, so, wd, st, sh, rg', cs', sr, sc) → wpX_carryOut post (ct, nI b, pa, op, fr, fi, wr, gs, nI (sl q), fs, tk, kd, dd, fd, sd, ba_tp, ld, so, wd, st, sh, rg, cs, sr, sc)) ∧
      (∀ post : Int32 → SY → Prop, post (nI q') (nI c, pl, tk', rg', cs', kd, dd, fd, sd) → wpY_step post (nI c, pl, tk, rg, cs, kd, dd, fd, sd) (nI q)) := by
  obtain ⟨k, d, a, x, ek, hk, ed, hd, ea, ha, ex, hx, hx6, hx9⟩ := V q hq
  have G := P.2.2.2.2.2.2
  have hl := P.2.2.1 q hq
  have A1 : ba_At sl c (sl q + 1) (q + 1) := (ba_At_take P.2.1 (ba_At_of P.2.1 hq) hq rfl).2
  have kk : ∀ y : Nat, y ≤ 10 → kd q = nI y → k = y := fun y hy e => by
    rw [ek] at e
    exact (nI_eq (by omega) (by omega)).mp e
  rcases Nat.lt_or_ge k 9 with k9 | k9
  · rcases Nat.lt_or_ge k 8 with k8 | k8
    · have es : k < 6 → sd q = nI (x - 128) ∧ x - 128 ≤ 7 := fun z => by
        obtain ⟨a, b⟩ := hx6 z
        rw [ex, ba_q128 a]
        exact ⟨rfl, by omega⟩
      have ev := ba_valE G hq M ek (by omega) ea ha es
      refine ⟨sl q + 1, q + 1, st (sl q), tk, upd rg d (ba_val k a (sd q) rg cs), cs, A1, by omega, fun z => ⟨m, ba_PM_reg M ?_ ed z⟩, fun post h => ?_, fun post h => ?_⟩
      · rw [ek]
        exact nI_le (b := 7) (by omega) (by decide)
      · refine ba_carry (p := 0) (z := 0) hc P hq ek hk ed hd ea ha (fun _ => ?_) (fun z => ?_) (fun z => ?_) (fun z => ?_) (fun z => ?_)
        · rw [ev]
          exact h
        all_goals exact absurd z (by omega)
      · refine ba_ystep hc hq ek hk ed hd ea ha (fun _ => h) (fun z => ?_) (fun z => ?_) (fun z => ?_)
        all_goals exact absurd z (by omega)
    · have e8 : k = 8 := by omega
      have f8 : kd q = 8 := by rw [ek, e8]; rfl
      have n10 : kd q ≠ 10 := by rw [f8]; decide
      have e1 := ba_see G hq M n10 ea ha
      have e2 := ba_seeD G hq M f8 ed hd
      refine ⟨sl q + 1, q + 1, st (sl q), tk, rg, upd cs ((sr a + sd q) &&& 15).toNatClampNeg (sr d), A1, by omega, fun z => ⟨m, ba_PM_cell M f8 ea ha z⟩, fun post h => ?_, fun post h => ?_⟩
      · refine ba_carry (p := 0) (z := 0) hc P hq ek hk ed hd ea ha (fun z => ?_) (fun z => h) (fun z => ?_) (fun z => ?_) (fun z => ?_)
        all_goals exact absurd z (by omega)
      · refine ba_ystep hc hq ek hk ed hd ea ha (fun z => ?_) (fun _ => ?_) (fun z => ?_) (fun z => ?_)
        · exact absurd z (by omega)
        · rw [← e1, ← e2]
          exact h
        · exact absurd z (by omega)
        · exact absurd z (by omega)
  · have n9 : ¬ kd q < 9 := by
      rw [ek, ba_lt9 (by omega)]
      omega
    obtain ⟨p, z, f1, f2, f3, f4, f5⟩ := (ba_sx hc P hq).2 n9
    by_cases h0 : k = 9 ∧ sr a = 0
    · have e1 : sr a = rg a := ba_see G hq M (fun z => by have := kk 10 (by omega) z; omega) ea ha
      refine ⟨sl q + 1, q + 1, 1, tk, rg, cs, A1, by omega, ba_PI1, fun post h => ?_, fun post h => ?_⟩
      · refine ba_carry (p := p) (z := ba_tg c z) hc P hq ek hk ed hd ea ha (fun z => ?_) (fun z => ?_) (fun _ _ => h) (fun _ => ⟨f1, f2, f5⟩) (fun _ z => absurd h0 z)
        all_goals exact absurd z (by omega)
      · refine ba_ystep hc hq ek hk ed hd ea ha (fun z => ?_) (fun z => ?_) (fun _ _ => h) (fun _ z => absurd ⟨h0.1, e1 ▸ h0.2⟩ z)
        all_goals exact absurd z (by omega)
    · have h0' : ¬ (k = 9 ∧ rg a = 0) := fun w => by
        have e1 : sr a = rg a := ba_see G hq M (fun z => by have := kk 10 (by omega) z; omega) ea ha
        exact h0 ⟨w.1, e1.trans w.2⟩
      refine ⟨3 * p, ba_tg c z, 1, if ba_tg c z = q + 1 then tk else tk + 1, rg, cs, f5, by omega, ba_PI1, fun post h => ?_, fun post h => ?_⟩
      · refine ba_carry (p := p) (z := ba_tg c z) hc P hq ek hk ed hd ea ha (fun z => ?_) (fun z => ?_) (fun w1 w2 => absurd ⟨w1, w2⟩ h0) (fun _ => ⟨f1, f2, f5⟩) (fun _ _ => h)
        all_goals exact absurd z (by omega)
      · refine ba_ystep hc hq ek hk ed hd ea ha (fun z => ?_) (fun z => ?_) (fun w1 w2 => absurd ⟨w1, w2⟩ h0') (fun _ _ => ⟨z, f3, f4, h⟩)
        all_goals exact absurd z (by omega)
/-- the reference's turns at the end of the program -/
theorem ba_idle {post : Int32 → SY → Prop} {N : Nat} {x2 : Int32} (hc : c ≤ 24) (hN : N ≤ 400) (h : post x2 (nI c, nI c, tk, rg, cs, kd, dd, fd, sd)) :
    ∀ d x, x + d = N → ∀ n, d < n → wY_run_17 post (nI N) n x2 (nI x) (nI c) (nI c) tk rg cs kd dd fd sd := by
  intro d
  induction d with
  | zero =>
    intro x hx n hn
    obtain ⟨m, rfl⟩ : ∃ m, n = m + 1 := ⟨n - 1, by omega⟩
    exact br_t (nI_le (by omega) (by omega)) h
  | succ d ih =>
    intro x hx n hn
    obtain ⟨m, rfl⟩ : ∃ m, n = m + 1 := ⟨n - 1, by omega⟩
    exact br_f (nI_ge (by omega) (by omega)) (br_t (nI_le (by omega) (by omega)) (nm_r (nI_1 x) (ih (x + 1) (by omega) m (by omega))))
end
section
variable {ct bu pa op fr fi wr gs ap fs tk : Int32} {kd dd fd sd tp ld so wd st sh rg cs sr sc : Nat → Int32} {c b : Nat} {sl : Nat → Nat}
theorem ba_run {N : Nat} (hc : c ≤ 24) (V : ba_VO c kd dd fd sd) (P : ba_PK c b kd dd fd sd sl wd st sh) (hN : N ≤ 400) :
    ∀ d x y, x + d = N → ∀ p q fs tk rg cs sr sc, ba_At sl c p q → p ≤ 3 * b → ba_PI kd dd fd sd sl st q fs rg cs sr sc →
      ∃ r p' q' fs' tk' rg' cs' sr' sc', ba_At sl c p' q' ∧ p' ≤ 3 * b ∧ ba_PI kd dd fd sd sl st q' fs' rg' cs' sr' sc' ∧
        (∀ post : Int32 → SX → Prop, post r (nI c, nI b, pa, op, fr, fi, wr, gs, nI p', fs', tk', kd, dd, fd, sd, ba_tp, ld, so, wd, st, sh, rg', cs', sr', sc') → ∀ n, d < n →
          wX_run_21 post (nI N) n (nI y) (nI x) (nI c) (nI b) pa op fr fi wr gs (nI p) fs tk kd dd fd sd ba_tp ld so wd st sh rg cs sr sc) ∧
        (∀ post : Int32 → SY → Prop, post r (nI c, nI q', tk', rg', cs', kd, dd, fd, sd) → ∀ n, d < n →
          wY_run_17 post (nI N) n (nI y) (nI x) (nI c) (nI q) tk rg cs kd dd fd sd) := by
  intro d
  induction d with
  | zero =>
    intro x y hx p q fs tk rg cs sr sc A hp I
    refine ⟨nI y, p, q, fs, tk, rg, cs, sr, sc, A, hp, I, fun post h n hn => ?_, fun post h n hn => ?_⟩
    · obtain ⟨m, rfl⟩ : ∃ m, n = m + 1 := ⟨n - 1, by omega⟩
      exact br_t (nI_le (by omega) (by omega)) h
    · obtain ⟨m, rfl⟩ : ∃ m, n = m + 1 := ⟨n - 1, by omega⟩
      exact br_t (nI_le (by omega) (by omega)) h
  | succ d ih =>
    intro x y hx p q fs tk rg cs sr sc A hp I
    have hqc : q ≤ c := A.1
    have hbc : b ≤ c := P.1
    have e3 := ba_3m b
    rcases Nat.lt_or_ge q c with hq | hq
    · -- an operation is carried out
      have hl := P.2.2.1 q hq
      have enx : ba_nx sl c b q = sl q := if_pos hq
      have hXb : ∀ (post : Int32 → SX → Prop) (n : Nat) (sr' sc' : Nat → Int32), (fs = 0 → sr' = sr ∧ sc' = sc) → (¬ fs = 0 → sr' = ba_cy sr rg 8 ∧ sc' = ba_cy sc cs 16) →
          wX_run_57 post (wX_run_21 post (nI N) n) (nI N) (nI y) (nI x) (nI c) (nI b) pa op fr fi wr gs (nI (sl q)) 0 tk kd dd fd sd ba_tp ld so wd st sh rg cs sr' sc' →
          wX_run_21 post (nI N) (n + 1) (nI y) (nI x) (nI c) (nI b) pa op fr fi wr gs (nI p) fs tk kd dd fd sd ba_tp ld so wd st sh rg cs sr sc := by
        intro post n sr' sc' i0 i1 h
        refine br_f (nI_ge (by omega) (by omega)) (ba_skip hc P A hp ?_)
        rw [enx]
        refine pk_lt (sl q) (3 * b) (fun _ => ?_) (fun z => absurd z (by omega)) rfl e3
        by_cases z : fs = 0
        · obtain ⟨a1, a2⟩ := i0 z
          subst a1 a2 z
          exact br_t rfl h
        · obtain ⟨a1, a2⟩ := i1 z
          subst a1 a2
          exact br_f z (ba_take h)
      obtain ⟨sr', sc', mm, M, i0, i1⟩ : ∃ sr' sc' mm, ba_PM kd dd fd sd sl st mm q rg cs sr' sc' ∧ (fs = 0 → sr' = sr ∧ sc' = sc) ∧ (¬ fs = 0 → sr' = ba_cy sr rg 8 ∧ sc' = ba_cy sc cs 16) := by
        by_cases z : fs = 0
        · obtain ⟨mm, M⟩ := I z
          exact ⟨sr, sc, mm, M, fun _ => ⟨rfl, rfl⟩, fun n => absurd z n⟩
        · exact ⟨ba_cy sr rg 8, ba_cy sc cs 16, q, ba_PM0 (fun y hy => ba_cyL _ _ hy) (fun y hy => ba_cyL _ _ hy), fun n => absurd n z, fun _ => ⟨rfl, rfl⟩⟩
      obtain ⟨p1, q1, fs1, tk1, rg1, cs1, A1, hp1, I1, X1, Y1⟩ := ba_step (ct := nI c) (pa := pa) (op := op) (fr := fr) (fi := fi) (wr := wr) (gs := gs) (fs := 0) (tk := tk) (ld := ld) (so := so) (pl := nI q) hc V P hq M
      obtain ⟨r, p2, q2, fs2, tk2, rg2, cs2, sr2, sc2, A2, hp2, I2, X2, Y2⟩ := ih (x + 1) (y + 1) (by omega) p1 q1 fs1 tk1 rg1 cs1 sr' sc' A1 hp1 I1
      refine ⟨r, p2, q2, fs2, tk2, rg2, cs2, sr2, sc2, A2, hp2, I2, fun post h n hn => ?_, fun post h n hn => ?_⟩
      · obtain ⟨m, rfl⟩ : ∃ m, n = m + 1 := ⟨n - 1, by omega⟩
        refine hXb post m sr' sc' i0 i1 ?_
        unfold wX_run_57
        refine X1 _ ?_
        exact nm_r (nI_1 y) (nm_r (nI_1 x) (X2 post h m (by omega)))
      · obtain ⟨m, rfl⟩ : ∃ m, n = m + 1 := ⟨n - 1, by omega⟩
        refine br_f (nI_ge (by omega) (by omega)) (br_f (nI_ge (by omega) (by omega)) (br_f (nI_ge (b := 24) (by omega) (by decide)) (Y1 _ ?_)))
        exact nm_r (nI_1 y) (nm_r (nI_1 x) (Y2 post h m (by omega)))
    · obtain rfl : q = c := by omega
      have enx : ba_nx sl q b q = 3 * b := if_neg (by omega)
      obtain ⟨NA, Np⟩ := ba_nxA P hqc
      rw [enx] at NA Np
      refine ⟨nI y, 3 * b, q, fs, tk, rg, cs, sr, sc, NA, Np, I, fun post h n hn => ?_, fun post h n hn => ?_⟩
      · obtain ⟨m, rfl⟩ : ∃ m, n = m + 1 := ⟨n - 1, by omega⟩
        refine br_f (nI_ge (by omega) (by omega)) (ba_skip hc P A hp ?_)
        rw [enx]
        exact pk_lt (3 * b) (3 * b) (fun z => absurd z (by omega)) (fun _ => h) rfl e3
      · exact ba_idle hc hN h (d + 1) x (by omega) n hn
end
end
section
/-- what holds of two related states (the program of c operations, place q) -/
def ba_F (c q : Nat) (bu pa ap fs : Int32) (kd dd fd sd wd st sh rg cs sr sc : Nat → Int32) : Prop :=
  c ≤ 24 ∧ q ≤ c ∧ ba_VO c kd dd fd sd ∧
  ((pa = 0 ∧ ap = 0 ∧ q = 0 ∧ (fs = 0 → (∀ y, y < 8 → sr y = rg y) ∧ (∀ y, y < 16 → sc y = cs y))) ∨
   (pa = 1 ∧ ∃ sl b p, bu = nI b ∧ ap = nI p ∧ p ≤ 3 * b ∧ ba_PK c b kd dd fd sd sl wd st sh ∧ ba_At sl c p q ∧ ba_PI kd dd fd sd sl st q fs rg cs sr sc))
def i_Rel (k : Nat) (u : SX) (v : SY) : Prop := match u, v with
  | (ct, bu, pa, op, fr, fi, wr, gs, ap, fs, tk, kd, dd, fd, sd, tp, ld, so, wd, st, sh, rg, cs, sr, sc), (ct', pl, jp, rg', cs', kd', dd', fd', sd') =>
    (ct' = ct ∧ jp = tk ∧ rg' = rg ∧ cs' = cs ∧ kd' = kd ∧ dd' = dd ∧ fd' = fd ∧ sd' = sd ∧ tp = ba_tp ∧ k = k) ∧
    ∃ c q, ct = nI c ∧ pl = nI q ∧ ba_F c q bu pa ap fs kd dd fd sd wd st sh rg cs sr sc
theorem i_up {k : Nat} {u : SX} {v : SY} (h : i_Rel k u v) : i_Rel (k + 5) u v := by
  obtain ⟨ct, bu, pa, op, fr, fi, wr, gs, ap, fs, tk, kd, dd, fd, sd, tp, ld, so, wd, st, sh, rg, cs, sr, sc⟩ := u
  obtain ⟨ct', pl, jp, rg', cs', kd', dd', fd', sd'⟩ := v
  obtain ⟨⟨h1, h2, h3, h4, h5, h6, h7, h8, h9, _⟩, h⟩ := h
  exact ⟨⟨h1, h2, h3, h4, h5, h6, h7, h8, h9, rfl⟩, h⟩
theorem ba_el {k : Nat} {u : SX} {v : SY} {P : SX → SY → Prop}
    (h : ∀ (c q : Nat) (bu pa op fr fi wr gs ap fs tk : Int32) (kd dd fd sd ld so wd st sh rg cs sr sc : Nat → Int32), ba_F c q bu pa ap fs kd dd fd sd wd st sh rg cs sr sc →
      P (nI c, bu, pa, op, fr, fi, wr, gs, ap, fs, tk, kd, dd, fd, sd, ba_tp, ld, so, wd, st, sh, rg, cs, sr, sc) (nI c, nI q, tk, rg, cs, kd, dd, fd, sd)) (I : i_Rel k u v) : P u v := by
  obtain ⟨ct, bu, pa, op, fr, fi, wr, gs, ap, fs, tk, kd, dd, fd, sd, tp, ld, so, wd, st, sh, rg, cs, sr, sc⟩ := u
  obtain ⟨ct', pl, jp, rg', cs', kd', dd', fd', sd'⟩ := v
  obtain ⟨⟨h1, h2, h3, h4, h5, h6, h7, h8, h9, _⟩, c, q, e1, e2, F⟩ := I
  subst h1 h2 h3 h4 h5 h6 h7 h8 h9 e1 e2
  exact h c q _ _ _ _ _ _ _ _ _ _ _ _ _ _ _ _ _ _ _ _ _ _ _ F
section
variable {ct bu pa op fr fi wr gs ap fs tk : Int32} {kd dd fd sd tp ld so wd st sh rg cs sr sc : Nat → Int32} {pl jp : Int32}
theorem ba_in {k c q : Nat} (F : ba_F c q bu pa ap fs kd dd fd sd wd st sh rg cs sr sc) : i_Rel k (nI c, bu, pa, op, fr, fi, wr, gs, ap, fs, tk, kd, dd, fd, sd, ba_tp, ld, so, wd, st, sh, rg, cs, sr, sc) (nI c, nI q, tk, rg, cs, kd, dd, fd, sd) :=
  ⟨⟨rfl, rfl, rfl, rfl, rfl, rfl, rfl, rfl, rfl, rfl⟩, c, q, rfl, rfl, F⟩
/-- pack, from related states -/
theorem ba_packF {post : SX → Prop} {c q : Nat} (F : ba_F c q bu pa ap fs kd dd fd sd wd st sh rg cs sr sc)
    (K : ∀ sl b p bu op fr fi wr gs ap ld so wd st sh, bu = nI b → ap = nI p → p ≤ 3 * b → ba_PK c b kd dd fd sd sl wd st sh → ba_At sl c p q → ba_PI kd dd fd sd sl st q fs rg cs sr sc →
      post (nI c, bu, 1, op, fr, fi, wr, gs, ap, fs, tk, kd, dd, fd, sd, ba_tp, ld, so, wd, st, sh, rg, cs, sr, sc)) : wpX_pack post (nI c, bu, pa, op, fr, fi, wr, gs, ap, fs, tk, kd, dd, fd, sd, ba_tp, ld, so, wd, st, sh, rg, cs, sr, sc) := by
  obtain ⟨hc, hq, V, ⟨e1, e2, e3, hI⟩ | ⟨e1, sl, b, p, e2, e3, hp, P, A, I⟩⟩ := F
  · subst e1 e2 e3
    refine ba_pack hc V ?_
    intro sl b bu op fr fi wr gs ld so wd st sh eb P
    refine K sl b 0 _ _ _ _ _ _ _ _ _ _ _ _ eb rfl (by omega) P ba_At0 ?_
    intro z
    obtain ⟨h1, h2⟩ := hI z
    exact ⟨0, ba_PM0 h1 h2⟩
  · subst e1
    unfold wpX_pack
    dsimp only
    exact br_f (by decide) (K sl b p _ _ _ _ _ _ _ _ _ _ _ _ e2 e3 hp P A I)
theorem ba_F1 {c q b p : Nat} {sl : Nat → Nat} (hc : c ≤ 24) (V : ba_VO c kd dd fd sd) (hp : p ≤ 3 * b) (P : ba_PK c b kd dd fd sd sl wd st sh) (A : ba_At sl c p q) (I : ba_PI kd dd fd sd sl st q fs rg cs sr sc) :
    ba_F c q (nI b) 1 (nI p) fs kd dd fd sd wd st sh rg cs sr sc := ⟨hc, A.1, V, Or.inr ⟨rfl, sl, b, p, rfl, rfl, hp, P, A, I⟩⟩
theorem ba_F0 {c : Nat} (hc : c ≤ 24) (V : ba_VO c kd dd fd sd) : ba_F c 0 bu 0 0 1 kd dd fd sd wd st sh rg cs sr sc :=
  ⟨hc, by omega, V, Or.inl ⟨rfl, rfl, rfl, fun z => absurd z (by decide)⟩⟩
end
theorem i_vc0 : wpX_init (fun u => wpY_init (fun v => i_Rel 0 u v)) := by
  unfold wpX_init wpY_init
  refine nm_e (nm_e (nm_e (nm_e (nm_e (nm_e ?_)))))
  exact ba_in (c := 0) (q := 0) ⟨by omega, by omega, fun j hj => absurd hj (by omega), Or.inl ⟨rfl, rfl, rfl, fun _ => ⟨fun _ _ => rfl, fun _ _ => rfl⟩⟩⟩
theorem i_vc_count {k : Nat} {u : SX} {v : SY} (I : i_Rel k u v) (hk : k + 5 ≤ 2560) : wpX_count (fun r => wpY_count (fun r' => r' = r ∧ i_Rel (k + 5) u v) v) u := by
  refine ba_el (P := fun u v => wpX_count (fun r => wpY_count (fun r' => r' = r ∧ i_Rel (k + 5) u v) v) u) ?_ I
  intro c q bu pa op fr fi wr gs ap fs tk kd dd fd sd ld so wd st sh rg cs sr sc F
  exact ⟨rfl, ba_in F⟩
theorem i_vc_jumps {k : Nat} {u : SX} {v : SY} (I : i_Rel k u v) (hk : k + 5 ≤ 2560) : wpX_jumps (fun r => wpY_jumps (fun r' => r' = r ∧ i_Rel (k + 5) u v) v) u := by
  refine ba_el (P := fun u v => wpX_jumps (fun r => wpY_jumps (fun r' => r' = r ∧ i_Rel (k + 5) u v) v) u) ?_ I
  intro c q bu pa op fr fi wr gs ap fs tk kd dd fd sd ld so wd st sh rg cs sr sc F
  exact ⟨rfl, ba_in F⟩
theorem i_vc_retract {k : Nat} {u : SX} {v : SY} (I : i_Rel k u v) (hk : k + 5 ≤ 2560) : wpX_retract (fun r u' => wpY_retract (fun r' v' => r' = r ∧ i_Rel (k + 5) u' v') v) u := by
  refine ba_el (P := fun u v => wpX_retract (fun r u' => wpY_retract (fun r' v' => r' = r ∧ i_Rel (k + 5) u' v') v) u) ?_ I
  intro c q bu pa op fr fi wr gs ap fs tk kd dd fd sd ld so wd st sh rg cs sr sc F
  unfold wpX_retract
  dsimp only
  refine pk_eq c 0 (fun e => ?_) (fun e => ?_) rfl rfl (by have := F.1; omega)
  · subst e
    exact br_t rfl ⟨rfl, ba_in F⟩
  · have hc := F.1
    have V := F.2.2.1
    have n0 : ¬ nI c = 0 := nI_ne0 (by omega) (by omega)
    have es := ba_s1 (n := c) (by omega)
    refine nm_r es (br_f n0 (nm_r es ⟨rfl, ba_in (ba_F0 (by omega) (fun j hj => V j (by omega)))⟩))
theorem i_vc_clear {k : Nat} {u : SX} {v : SY} (I : i_Rel k u v) (hk : k + 5 ≤ 2560) : wpX_clear (fun r u' => wpY_clear (fun r' v' => r' = r ∧ i_Rel (k + 5) u' v') v) u := by
  refine ba_el (P := fun u v => wpX_clear (fun r u' => wpY_clear (fun r' v' => r' = r ∧ i_Rel (k + 5) u' v') v) u) ?_ I
  intro c q bu pa op fr fi wr gs ap fs tk kd dd fd sd ld so wd st sh rg cs sr sc F
  exact ⟨rfl, ba_in (c := 0) (q := 0) (ba_F0 (by omega) (fun j hj => absurd hj (by omega)))⟩
end
section
section
variable {ct pl jp : Int32} {rg cs kd dd fd sd : Nat → Int32} {c : Nat}
theorem ba_ymiss1 {post : Int32 → Prop} {x : Int32} (h : x < 0 ∨ nI c ≤ x) (h1 : post 1) : wpY_missing post (nI c, pl, jp, rg, cs, kd, dd, fd, sd) x := by
  unfold wpY_missing
  dsimp only
  refine br_c (fun _ => h1) (fun n => ?_)
  rcases h with h | h
  · exact absurd h n
  · exact br_t h h1
theorem ba_ymiss0 {post : Int32 → Prop} {i : Nat} (hc : c ≤ 24) (hi : i < c) (h : post 0) : wpY_missing post (nI c, pl, jp, rg, cs, kd, dd, fd, sd) (nI i) := by
  unfold wpY_missing
  dsimp only
  exact br_f (nI_pos (by omega)) (br_f (nI_ge (by omega) (by omega)) (br_t (nI_lt (b := 24) (by omega) (by decide)) h))
theorem ba_ykind1 {post : Int32 → Prop} {x : Int32} (h : x < 0 ∨ nI c ≤ x) (h1 : post (-1)) : wpY_kindOf post (nI c, pl, jp, rg, cs, kd, dd, fd, sd) x := by
  unfold wpY_kindOf
  dsimp only
  exact ba_ymiss1 h (br_f (by decide) h1)
theorem ba_ykind {post : Int32 → Prop} {i : Nat} (hc : c ≤ 24) (hi : i < c) (h : post (kd i)) : wpY_kindOf post (nI c, pl, jp, rg, cs, kd, dd, fd, sd) (nI i) := by
  unfold wpY_kindOf
  dsimp only
  rw [nI_clamp (n := i) (by omega)]
  exact ba_ymiss0 hc hi (br_t rfl (And.intro (vp_in_nI (by omega) (by decide)) h))
theorem ba_yfield1 {post : Int32 → Prop} {x y : Int32} (h : x < 0 ∨ nI c ≤ x) (h1 : post (-1000)) : wpY_fieldOf post (nI c, pl, jp, rg, cs, kd, dd, fd, sd) x y := by
  unfold wpY_fieldOf
  dsimp only
  exact ba_ymiss1 h (br_f (by decide) h1)
theorem ba_yfield2 {post : Int32 → Prop} {i : Nat} {y : Int32} (hc : c ≤ 24) (hi : i < c) (h : y < 0 ∨ ¬ y ≤ 2) (h1 : post (-1000)) : wpY_fieldOf post (nI c, pl, jp, rg, cs, kd, dd, fd, sd) (nI i) y := by
  unfold wpY_fieldOf
  dsimp only
  refine ba_ymiss0 hc hi (br_t rfl (br_c (fun _ => h1) (fun n => ?_)))
  rcases h with h | h
  · exact absurd h n
  · exact br_f h h1
theorem ba_yfield {post : Int32 → Prop} {i : Nat} {y : Int32} (hc : c ≤ 24) (hi : i < c) (y0 : ¬ y < 0) (y2 : y ≤ 2) (h0 : y = 0 → post (dd i)) (h1 : y = 1 → post (fd i))
    (h2 : ¬ y = 0 → ¬ y = 1 → kd i < 9 → post (sd i)) (h3 : ¬ y = 0 → ¬ y = 1 → ¬ kd i < 9 → ∃ z, sd i = nI z ∧ z ≤ 24 ∧ post (nI (ba_tg c z))) : wpY_fieldOf post (nI c, pl, jp, rg, cs, kd, dd, fd, sd) (nI i) y := by
  unfold wpY_fieldOf
  dsimp only
  rw [nI_clamp (n := i) (by omega)]
  have vi := vp_in_nI (n := i) (N := 24) (by omega) (by decide)
  refine ba_ymiss0 hc hi (br_t rfl (br_f y0 (br_t y2 (br_c (fun e => And.intro vi (h0 e)) (fun n0 => br_c (fun e => And.intro vi (h1 e)) (fun n1 => And.intro vi (br_c (fun e => And.intro vi (h2 n0 n1 e)) (fun n9 => ?_))))))))
  obtain ⟨z, e1, e2, e3⟩ := h3 n0 n1 n9
  exact ba_ytg hc hi e1 e2 e3
theorem ba_ynr {post : Int32 → Prop} {x : Int32} (h1 : (x < 0 ∨ ¬ x ≤ 7) → post 1) (h0 : ¬ x < 0 → x ≤ 7 → post 0) : wpY_noRegister post (ct, pl, jp, rg, cs, kd, dd, fd, sd) x := by
  unfold wpY_noRegister
  dsimp only
  exact br_c (fun e => h1 (Or.inl e)) (fun e => br_c (fun f => h0 e f) (fun f => h1 (Or.inr f)))
end
theorem ba_in8 {x : Int32} (h0 : ¬ x < 0) (h7 : x ≤ 7) : ∃ d, d ≤ 7 ∧ x = nI d := nI_of2 (M := 7) (n := 7) (by decide) h0 h7
theorem ba_in16 {x : Int32} (h0 : ¬ x < 0) (h : x ≤ 15) : ∃ d, d ≤ 15 ∧ x = nI d := nI_of2 (M := 15) (n := 15) (by decide) h0 h
theorem ba_Ffs {c q : Nat} {bu pa ap fs : Int32} {kd dd fd sd wd st sh rg cs sr sc rg' cs' : Nat → Int32} (F : ba_F c q bu pa ap fs kd dd fd sd wd st sh rg cs sr sc) :
    ba_F c q bu pa ap 1 kd dd fd sd wd st sh rg' cs' sr sc := by
  obtain ⟨hc, hq, V, ⟨e1, e2, e3, hI⟩ | ⟨e1, sl, b, p, e2, e3, hp, P, A, I⟩⟩ := F
  · exact ⟨hc, hq, V, Or.inl ⟨e1, e2, e3, fun z => absurd z (by decide)⟩⟩
  · exact ⟨hc, hq, V, Or.inr ⟨e1, sl, b, p, e2, e3, hp, P, A, ba_PI1⟩⟩
theorem ba_Fre {c q : Nat} {bu pa ap fs : Int32} {kd dd fd sd wd st sh rg cs sr sc : Nat → Int32} (F : ba_F c q bu pa ap fs kd dd fd sd wd st sh rg cs sr sc) :
    ba_F c 0 bu pa 0 1 kd dd fd sd wd st sh rg cs sr sc := by
  obtain ⟨hc, hq, V, ⟨e1, e2, e3, hI⟩ | ⟨e1, sl, b, p, e2, e3, hp, P, A, I⟩⟩ := F
  · exact ⟨hc, by omega, V, Or.inl ⟨e1, rfl, rfl, fun z => absurd z (by decide)⟩⟩
  · exact ⟨hc, by omega, V, Or.inr ⟨e1, sl, b, 0, e2, rfl, by omega, P, ba_At0, ba_PI1⟩⟩
theorem i_vc_kindOf {k : Nat} {u : SX} {v : SY} (I : i_Rel k u v) (hk : k + 5 ≤ 2560) (v1 : Int32) : wpX_kindOf (fun r u' => wpY_kindOf (fun r' => r' = r ∧ i_Rel (k + 5) u' v) v v1) u v1 := by
  refine ba_el (P := fun u v => wpX_kindOf (fun r u' => wpY_kindOf (fun r' => r' = r ∧ i_Rel (k + 5) u' v) v v1) u v1) ?_ I
  intro c q bu pa op fr fi wr gs ap fs tk kd dd fd sd ld so wd st sh rg cs sr sc F
  have hc := F.1
  have V := F.2.2.1
  unfold wpX_kindOf
  dsimp only
  rcases pk_ix v1 (n := c) (by omega) with h | h | ⟨i, hi, rfl⟩
  · exact br_t h (ba_ykind1 (Or.inl h) ⟨rfl, ba_in F⟩)
  · exact br_c (fun _ => ba_ykind1 (Or.inr h) ⟨rfl, ba_in F⟩) (fun _ => br_f (Int32.not_lt.mpr h) (ba_ykind1 (Or.inr h) ⟨rfl, ba_in F⟩))
  · refine br_f (nI_pos (by omega)) (br_t (nI_lt hi (by omega)) (ba_packF F ?_))
    intro sl b p bu op fr fi wr gs ap ld so wd st sh eb ea hp P A J
    subst eb ea
    exact ba_rs hc P hi (ba_kat hc P hi (ba_ykind hc hi ⟨rfl, ba_in (ba_F1 hc V hp P A J)⟩))
theorem i_vc_fieldOf {k : Nat} {u : SX} {v : SY} (I : i_Rel k u v) (hk : k + 5 ≤ 2560) (v1 : Int32) (v2 : Int32) : wpX_fieldOf (fun r u' => wpY_fieldOf (fun r' => r' = r ∧ i_Rel (k + 5) u' v) v v1 v2) u v1 v2 := by
  refine ba_el (P := fun u v => wpX_fieldOf (fun r u' => wpY_fieldOf (fun r' => r' = r ∧ i_Rel (k + 5) u' v) v v1 v2) u v1 v2) ?_ I
  intro c q bu pa op fr fi wr gs ap fs tk kd dd fd sd ld so wd st sh rg cs sr sc F
  have hc := F.1
  have V := F.2.2.1
  unfold wpX_fieldOf
  dsimp only
  rcases pk_ix v1 (n := c) (by omega) with h | h | ⟨i, hi, rfl⟩
  · exact br_t h (ba_yfield1 (Or.inl h) ⟨rfl, ba_in F⟩)
  · exact br_c (fun _ => ba_yfield1 (Or.inr h) ⟨rfl, ba_in F⟩) (fun _ => br_t h (ba_yfield1 (Or.inr h) ⟨rfl, ba_in F⟩))
  · refine br_f (nI_pos (by omega)) (br_f (nI_ge hi (by omega)) ?_)
    refine br_c (fun y0 => ba_yfield2 hc hi (Or.inl y0) ⟨rfl, ba_in F⟩) (fun y0 => br_c (fun y2 => ba_packF F ?_) (fun y2 => ba_yfield2 hc hi (Or.inr y2) ⟨rfl, ba_in F⟩))
    intro sl b p bu op fr fi wr gs ap ld so wd st sh eb ea hp P A J
    subst eb ea
    have FF := ba_F1 hc V hp P A J
    refine ba_rs hc P hi (br_c (fun e0 => ba_dat hc P hi ?_) (fun n0 => br_c (fun e1 => ba_fat hc P hi ?_) (fun n1 => ba_sat hc P hi (ba_kat hc P hi (br_c (fun k9 => ?_) (fun k9 => ?_))))))
    · exact ba_yfield hc hi y0 y2 (fun _ => ⟨rfl, ba_in FF⟩) (fun z => absurd (e0.symm.trans z) (by decide)) (fun z => absurd e0 z) (fun z => absurd e0 z)
    · exact ba_yfield hc hi y0 y2 (fun z => absurd z n0) (fun _ => ⟨rfl, ba_in FF⟩) (fun _ z => absurd e1 z) (fun _ z => absurd e1 z)
    · rw [(ba_sx hc P hi).1 k9]
      exact ba_yfield hc hi y0 y2 (fun z => absurd z n0) (fun z => absurd z n1) (fun _ _ _ => ⟨rfl, ba_in FF⟩) (fun _ _ z => absurd k9 z)
    · obtain ⟨p', z, e1, e2, e3, e4, e5⟩ := (ba_sx hc P hi).2 k9
      have hb : b ≤ c := P.1
      rw [e1, ba_3m]
      refine ba_rb hc P e5 (by omega) ?_
      exact ba_yfield hc hi y0 y2 (fun z => absurd z n0) (fun z => absurd z n1) (fun _ _ z => absurd z k9) (fun _ _ _ => ⟨z, e3, e4, rfl, ba_in FF⟩)
theorem i_vc_setRegister {k : Nat} {u : SX} {v : SY} (I : i_Rel k u v) (hk : k + 5 ≤ 2560) (v1 : Int32) (v2 : Int32) : wpX_setRegister (fun r u' => wpY_setRegister (fun r' v' => r' = r ∧ i_Rel (k + 5) u' v') v v1 v2) u v1 v2 := by
  refine ba_el (P := fun u v => wpX_setRegister (fun r u' => wpY_setRegister (fun r' v' => r' = r ∧ i_Rel (k + 5) u' v') v v1 v2) u v1 v2) ?_ I
  intro c q bu pa op fr fi wr gs ap fs tk kd dd fd sd ld so wd st sh rg cs sr sc F
  unfold wpX_setRegister wpY_setRegister
  dsimp only
  refine br_c (fun h0 => ba_ynr (fun _ => br_f (by decide) ⟨rfl, ba_in F⟩) (fun n => absurd h0 n)) (fun h0 => br_c (fun h7 => ?_) (fun h7 => ba_ynr (fun _ => br_f (by decide) ⟨rfl, ba_in F⟩) (fun _ n => absurd n h7)))
  obtain ⟨d, hd, rfl⟩ := ba_in8 h0 h7
  have vd := vp_in_nI (n := d) (N := 8) (by omega) (by decide)
  exact And.intro vd (nm_e (ba_ynr (fun z => absurd z (fun z => z.elim h0 (fun z => z h7))) (fun _ _ => br_t rfl (And.intro vd (nm_e ⟨rfl, ba_in (ba_Ffs F)⟩)))))
theorem i_vc_setCell {k : Nat} {u : SX} {v : SY} (I : i_Rel k u v) (hk : k + 5 ≤ 2560) (v1 : Int32) (v2 : Int32) : wpX_setCell (fun r u' => wpY_setCell (fun r' v' => r' = r ∧ i_Rel (k + 5) u' v') v v1 v2) u v1 v2 := by
  refine ba_el (P := fun u v => wpX_setCell (fun r u' => wpY_setCell (fun r' v' => r' = r ∧ i_Rel (k + 5) u' v') v v1 v2) u v1 v2) ?_ I
  intro c q bu pa op fr fi wr gs ap fs tk kd dd fd sd ld so wd st sh rg cs sr sc F
  unfold wpX_setCell wpY_setCell
  dsimp only
  refine br_c (fun h0 => br_t h0 ⟨rfl, ba_in F⟩) (fun h0 => br_c (fun h7 => ?_) (fun h7 => br_f h0 (br_f h7 ⟨rfl, ba_in F⟩)))
  obtain ⟨d, hd, rfl⟩ := ba_in16 h0 h7
  have vd := vp_in_nI (n := d) (N := 16) (by omega) (by decide)
  exact And.intro vd (nm_e (br_f h0 (br_t h7 (And.intro vd (nm_e ⟨rfl, ba_in (ba_Ffs F)⟩)))))
theorem i_vc_register {k : Nat} {u : SX} {v : SY} (I : i_Rel k u v) (hk : k + 5 ≤ 2560) (v1 : Int32) : wpX_register (fun r => wpY_register (fun r' => r' = r ∧ i_Rel (k + 5) u v) v v1) u v1 := by
  refine ba_el (P := fun u v => wpX_register (fun r => wpY_register (fun r' => r' = r ∧ i_Rel (k + 5) u v) v v1) u v1) ?_ I
  intro c q bu pa op fr fi wr gs ap fs tk kd dd fd sd ld so wd st sh rg cs sr sc F
  unfold wpX_register wpY_register
  dsimp only
  refine br_c (fun h0 => ba_ynr (fun _ => br_f (by decide) ⟨rfl, ba_in F⟩) (fun n => absurd h0 n)) (fun h0 => br_c (fun h7 => ?_) (fun h7 => ba_ynr (fun _ => br_f (by decide) ⟨rfl, ba_in F⟩) (fun _ n => absurd n h7)))
  obtain ⟨d, hd, rfl⟩ := ba_in8 h0 h7
  have vd := vp_in_nI (n := d) (N := 8) (by omega) (by decide)
  exact And.intro vd (ba_ynr (fun z => absurd z (fun z => z.elim h0 (fun z => z h7))) (fun _ _ => br_t rfl (And.intro vd ⟨rfl, ba_in F⟩)))
theorem i_vc_cell {k : Nat} {u : SX} {v : SY} (I : i_Rel k u v) (hk : k + 5 ≤ 2560) (v1 : Int32) : wpX_cell (fun r => wpY_cell (fun r' => r' = r ∧ i_Rel (k + 5) u v) v v1) u v1 := by
  refine ba_el (P := fun u v => wpX_cell (fun r => wpY_cell (fun r' => r' = r ∧ i_Rel (k + 5) u v) v v1) u v1) ?_ I
  intro c q bu pa op fr fi wr gs ap fs tk kd dd fd sd ld so wd st sh rg cs sr sc F
  unfold wpX_cell wpY_cell
  dsimp only
  refine br_c (fun h0 => br_t h0 ⟨rfl, ba_in F⟩) (fun h0 => br_c (fun h7 => ?_) (fun h7 => br_f h0 (br_f h7 ⟨rfl, ba_in F⟩)))
  obtain ⟨d, hd, rfl⟩ := ba_in16 h0 h7
  have vd := vp_in_nI (n := d) (N := 16) (by omega) (by decide)
  exact And.intro vd (br_f h0 (br_t h7 (And.intro vd ⟨rfl, ba_in F⟩)))
theorem i_vc_restart {k : Nat} {u : SX} {v : SY} (I : i_Rel k u v) (hk : k + 5 ≤ 2560) : wpX_restart (fun u' => wpY_restart (fun v' => i_Rel (k + 5) u' v') v) u := by
  refine ba_el (P := fun u v => wpX_restart (fun u' => wpY_restart (fun v' => i_Rel (k + 5) u' v') v) u) ?_ I
  intro c q bu pa op fr fi wr gs ap fs tk kd dd fd sd ld so wd st sh rg cs sr sc F
  exact ba_in (q := 0) (op := op) (fr := fr) (fi := fi) (wr := wr) (gs := gs) (ld := ld) (so := so) (ba_Fre F)
theorem i_vc_place {k : Nat} {u : SX} {v : SY} (I : i_Rel k u v) (hk : k + 5 ≤ 2560) : wpX_place (fun r u' => wpY_place (fun r' => r' = r ∧ i_Rel (k + 5) u' v) v) u := by
  refine ba_el (P := fun u v => wpX_place (fun r u' => wpY_place (fun r' => r' = r ∧ i_Rel (k + 5) u' v) v) u) ?_ I
  intro c q bu pa op fr fi wr gs ap fs tk kd dd fd sd ld so wd st sh rg cs sr sc F
  have hc := F.1
  have hq := F.2.1
  have V := F.2.2.1
  unfold wpX_place
  dsimp only
  refine ba_packF F ?_
  intro sl b p bu op fr fi wr gs ap ld so wd st sh eb ea hp P A J
  subst eb ea
  have hb : b ≤ c := P.1
  refine ba_rb hc P A (by omega) ?_
  have FF := ba_F1 hc V hp P A J
  unfold wpY_place
  dsimp only
  refine pk_le c q (fun h => ⟨congrArg nI ?_, ba_in FF⟩) (fun h => ⟨rfl, ba_in FF⟩)
  omega
theorem i_vc_over {k : Nat} {u : SX} {v : SY} (I : i_Rel k u v) (hk : k + 5 ≤ 2560) : wpX_over (fun r u' => wpY_over (fun r' => r' = r ∧ i_Rel (k + 5) u' v) v) u := by
  refine ba_el (P := fun u v => wpX_over (fun r u' => wpY_over (fun r' => r' = r ∧ i_Rel (k + 5) u' v) v) u) ?_ I
  intro c q bu pa op fr fi wr gs ap fs tk kd dd fd sd ld so wd st sh rg cs sr sc F
  have hc := F.1
  have hq := F.2.1
  have V := F.2.2.1
  unfold wpX_over
  dsimp only
  refine ba_packF F ?_
  intro sl b p bu op fr fi wr gs ap ld so wd st sh eb ea hp P A J
  subst eb ea
  have hb : b ≤ c := P.1
  refine ba_skip hc P A hp ?_
  obtain ⟨NA, Np⟩ := ba_nxA P hq
  have FF := ba_F1 hc V Np P NA J
  have e3 := ba_3m b
  refine pk_lt (ba_nx sl c b q) (3 * b) (fun h => ?_) (fun h => ?_) rfl e3
  · have hqc : q < c := by
      rcases Nat.lt_or_ge q c with z | z
      · exact z
      · rw [ba_nx, if_neg (by omega)] at h
        omega
    exact br_f (nI_ge hqc (by omega)) ⟨rfl, ba_in FF⟩
  · have hqc : c ≤ q := by
      rcases Nat.lt_or_ge q c with z | z
      · have := P.2.2.1 q z
        rw [ba_nx, if_pos z] at h
        omega
      · exact z
    exact br_t (nI_le hqc (by omega)) ⟨rfl, ba_in FF⟩
theorem ba_in400 {x : Int32} (h0 : ¬ x < 0) (h : x ≤ 400) : ∃ d, d ≤ 400 ∧ x = nI d := nI_of2 (M := 400) (n := 400) (by decide) h0 h
theorem i_vc_run {k : Nat} {u : SX} {v : SY} (I : i_Rel k u v) (hk : k + 5 ≤ 2560) (v1 : Int32) : wpX_run (fun r u' => wpY_run (fun r' v' => r' = r ∧ i_Rel (k + 5) u' v') v v1) u v1 := by
  refine ba_el (P := fun u v => wpX_run (fun r u' => wpY_run (fun r' v' => r' = r ∧ i_Rel (k + 5) u' v') v v1) u v1) ?_ I
  intro c q bu pa op fr fi wr gs ap fs tk kd dd fd sd ld so wd st sh rg cs sr sc F
  have hc := F.1
  have hq := F.2.1
  have V := F.2.2.1
  unfold wpX_run wpY_run
  dsimp only
  refine br_c (fun h0 => br_t h0 ⟨rfl, ba_in F⟩) (fun h0 => br_c (fun h7 => ?_) (fun h7 => br_f h0 (br_f h7 ⟨rfl, ba_in F⟩)))
  refine ba_packF F ?_
  intro sl b p bu op fr fi wr gs ap ld so wd st sh eb ea hp P A J
  subst eb ea
  obtain ⟨N, hN, rfl⟩ := ba_in400 h0 h7
  obtain ⟨r, p', q', fs', tk', rg', cs', sr', sc', A', hp', J', X, Y⟩ := ba_run (pa := 1) (op := op) (fr := fr) (fi := fi) (wr := wr) (gs := gs) (ld := ld) (so := so) hc V P hN N 0 0 (by omega) p q fs tk rg cs sr sc A hp J
  exact ⟨N + 1, X _ (br_f h0 (br_t h7 ⟨N + 1, Y _ ⟨rfl, ba_in (ba_F1 hc V hp' P A' J')⟩ _ (by omega)⟩)) _ (by omega)⟩
end
section
def ba_lo (k : Nat) : Int32 := if 9 ≤ k then 0 else if 6 ≤ k then -128 else 0
def ba_hi (k : Nat) : Int32 := if 9 ≤ k then 24 else if 6 ≤ k then 127 else 7
theorem ba_qx {x : Int32} (h1 : -128 ≤ x.toInt) (h2 : x.toInt ≤ 127) : ∃ q : Nat, q < 256 ∧ x = nI q - 128 ∧ (q : Int) = x.toInt + 128 := by
  refine ⟨(x.toInt + 128).toNat, by omega, ?_, by omega⟩
  apply Int32.toInt_inj.mp
  rw [Int32.toInt_sub, nI_toInt (by omega), show (128 : Int32).toInt = 128 from by decide, Int.bmod_eq_of_le (by omega) (by omega)]
  omega
theorem ba_VOS {c k d a : Nat} {x : Int32} {kd dd fd sd : Nat → Int32} (V : ba_VO c kd dd fd sd) (hk : k ≤ 10) (hd : d ≤ 7) (ha : a ≤ 7) (hl : ¬ x < ba_lo k) (hh : x ≤ ba_hi k) :
    ba_VO (c + 1) (upd kd c (nI k)) (upd dd c (nI d)) (upd fd c (nI a)) (upd sd c x) := by
  intro j hj
  by_cases e : j = c
  · subst e
    rw [pk_us, pk_us, pk_us, pk_us]
    rw [Int32.lt_iff_toInt_lt] at hl
    rw [Int32.le_iff_toInt_le] at hh
    have b0 : (0 : Int32).toInt = 0 := by decide
    have b1 : (-128 : Int32).toInt = -128 := by decide
    have b2 : (24 : Int32).toInt = 24 := by decide
    have b3 : (127 : Int32).toInt = 127 := by decide
    have b4 : (7 : Int32).toInt = 7 := by decide
    unfold ba_lo at hl
    unfold ba_hi at hh
    by_cases k9 : 9 ≤ k
    · rw [if_pos k9] at hl hh
      rw [b0] at hl
      rw [b2] at hh
      obtain ⟨q, h1, h2, h3⟩ := ba_qx (x := x) (by omega) (by omega)
      exact ⟨k, d, a, q, rfl, hk, rfl, hd, rfl, ha, h2, h1, fun z => absurd z (by omega), fun _ => ⟨by omega, by omega⟩⟩
    · rw [if_neg k9] at hl hh
      by_cases k6 : 6 ≤ k
      · rw [if_pos k6] at hl hh
        rw [b1] at hl
        rw [b3] at hh
        obtain ⟨q, h1, h2, h3⟩ := ba_qx (x := x) (by omega) (by omega)
        exact ⟨k, d, a, q, rfl, hk, rfl, hd, rfl, ha, h2, h1, fun z => absurd z (by omega), fun z => absurd z k9⟩
      · rw [if_neg k6] at hl hh
        rw [b0] at hl
        rw [b4] at hh
        obtain ⟨q, h1, h2, h3⟩ := ba_qx (x := x) (by omega) (by omega)
        exact ⟨k, d, a, q, rfl, hk, rfl, hd, rfl, ha, h2, h1, fun _ => ⟨by omega, by omega⟩, fun z => absurd z k9⟩
  · rw [pk_un e, pk_un e, pk_un e, pk_un e]
    exact V j (by omega)
section
variable {ct bu pa op fr fi wr gs ap fs tk : Int32} {kd dd fd sd tp ld so wd st sh rg cs sr sc : Nat → Int32} {c k d a : Nat} {x : Int32}
theorem ba_x83 {post : Int32 → SX → Prop} {lo hi : Int32} (hc : c ≤ 24) (h3 : (x < lo ∨ ¬ x ≤ hi) → post (-3) (nI c, bu, pa, op, fr, fi, wr, gs, ap, fs, tk, kd, dd, fd, sd, tp, ld, so, wd, st, sh, rg, cs, sr, sc)) (h4 : ¬ x < lo → x ≤ hi → c = 24 → post (-4) (nI c, bu, pa, op, fr, fi, wr, gs, ap, fs, tk, kd, dd, fd, sd, tp, ld, so, wd, st, sh, rg, cs, sr, sc))
    (h : ¬ x < lo → x ≤ hi → c < 24 → post (nI c) (nI (c + 1), bu, 0, op, fr, fi, wr, gs, 0, 1, 0, upd kd c (nI k), upd dd c (nI d), upd fd c (nI a), upd sd c x, tp, ld, so, wd, st, sh, rg, cs, sr, sc)) :
    wX_emit_83 post (nI k) (nI d) (nI a) x lo hi (nI c) bu pa op fr fi wr gs ap fs tk kd dd fd sd tp ld so wd st sh rg cs sr sc := by
  unfold wX_emit_83
  rw [nI_clamp (n := c) (by omega)]
  refine br_c (fun e => h3 (Or.inl e)) (fun e1 => br_c (fun e2 => pk_eq c 24 (fun e => h4 e1 e2 e) (fun e => ?_)) (fun e => h3 (Or.inr e)))
  have vc := vp_in_nI (n := c) (N := 24) (by omega) (by decide)
  have h' := h e1 e2 (by omega)
  rw [← nI_pred c] at h'
  exact And.intro vc (nm_e (And.intro vc (nm_e (And.intro vc (nm_e (And.intro vc (nm_e (nm_r (nI_1 c) h'))))))))
theorem ba_x53 {post : Int32 → SX → Prop} {x2 x3 : Int32} (hk : k ≤ 10) (h : wX_emit_83 post (nI k) x2 x3 x (ba_lo k) (ba_hi k) ct bu pa op fr fi wr gs ap fs tk kd dd fd sd tp ld so wd st sh rg cs sr sc) :
    (nI k < 6 → wX_emit_52 post (nI k) x2 x3 x ct bu pa op fr fi wr gs ap fs tk kd dd fd sd tp ld so wd st sh rg cs sr sc) ∧ (¬ nI k < 6 → (8 < nI k → wX_emit_52 post (nI k) x2 x3 x ct bu pa op fr fi wr gs ap fs tk kd dd fd sd tp ld so wd st sh rg cs sr sc) ∧ (¬ 8 < nI k → wX_emit_53 post (nI k) x2 x3 x (-128) ct bu pa op fr fi wr gs ap fs tk kd dd fd sd tp ld so wd st sh rg cs sr sc)) := by
  unfold ba_lo ba_hi at h
  unfold wX_emit_52 wX_emit_53 wX_emit_68
  refine pk_lt k 6 (fun k6 => ?_) (fun k6 => pk_lt 8 k (fun k8 => ?_) (fun k8 => ?_))
  · rw [if_neg (by omega), if_neg (by omega), if_neg (by omega), if_neg (by omega)] at h
    exact br_f (nI_ge (b := 6) (by omega) (by decide)) (br_t (nI_lt (b := 9) (by omega) (by decide)) h)
  · rw [if_pos (by omega), if_pos (by omega)] at h
    exact br_t (nI_le (a := 6) (by omega) (by omega)) (br_f (nI_nlt (b := 9) (by omega) (by omega)) h)
  · rw [if_neg (by omega), if_pos (by omega), if_neg (by omega), if_pos (by omega)] at h
    exact br_t (nI_le (a := 6) (by omega) (by omega)) (br_t (nI_lt (b := 9) (by omega) (by decide)) h)
end
section
variable {ct pl jp : Int32} {rg cs kd dd fd sd : Nat → Int32} {c k d a : Nat} {x : Int32}
theorem ba_ybad {post : Int32 → Prop} (hk : k ≤ 10) (h1 : (x < ba_lo k ∨ ¬ x ≤ ba_hi k) → post 1) (h0 : ¬ x < ba_lo k → x ≤ ba_hi k → post 0) : wpY_badNumber post (ct, pl, jp, rg, cs, kd, dd, fd, sd) (nI k) x := by
  unfold wpY_badNumber
  dsimp only
  unfold ba_lo ba_hi at h1 h0
  refine pk_le 6 k (fun k6 => pk_le 9 k (fun k9 => ?_) (fun k9 => ?_)) (fun k6 => ?_)
  · rw [if_pos k9, if_pos k9] at h1 h0
    exact br_c (fun e => h1 (Or.inl e)) (fun e => br_c (fun f => h0 e f) (fun f => h1 (Or.inr f)))
  · rw [if_neg (by omega), if_pos k6, if_neg (by omega), if_pos k6] at h1 h0
    exact br_c (fun e => h1 (Or.inl e)) (fun e => br_c (fun f => h0 e f) (fun f => h1 (Or.inr f)))
  · rw [if_neg (by omega), if_neg (by omega), if_neg (by omega), if_neg (by omega)] at h1 h0
    exact br_c (fun e => h1 (Or.inl e)) (fun e => br_c (fun f => h0 e f) (fun f => h1 (Or.inr f)))
theorem ba_yemit2 {post : Int32 → SY → Prop} {x2 x3 : Int32} (hk : k ≤ 10) (hr : (x2 < 0 ∨ ¬ x2 ≤ 7) ∨ (x3 < 0 ∨ ¬ x3 ≤ 7)) (h : post (-2) (ct, pl, jp, rg, cs, kd, dd, fd, sd)) : wpY_emit post (ct, pl, jp, rg, cs, kd, dd, fd, sd) (nI k) x2 x3 x := by
  unfold wpY_emit
  dsimp only
  refine br_f (nI_pos (by omega)) (br_t (nI_le (b := 10) (by omega) (by decide)) (ba_ynr (fun _ => br_f (by decide) h) (fun a1 a2 => br_t rfl (ba_ynr (fun _ => br_f (by decide) h) (fun b1 b2 => ?_)))))
  rcases hr with (z | z) | (z | z)
  · exact absurd z a1
  · exact absurd a2 z
  · exact absurd z b1
  · exact absurd b2 z
theorem ba_yemit {post : Int32 → SY → Prop} (hc : c ≤ 24) (hk : k ≤ 10) (hd : d ≤ 7) (ha : a ≤ 7) (h3 : (x < ba_lo k ∨ ¬ x ≤ ba_hi k) → post (-3) (nI c, pl, jp, rg, cs, kd, dd, fd, sd))
    (h4 : ¬ x < ba_lo k → x ≤ ba_hi k → c = 24 → post (-4) (nI c, pl, jp, rg, cs, kd, dd, fd, sd))
    (h : ¬ x < ba_lo k → x ≤ ba_hi k → c < 24 → post (nI c) (nI (c + 1), 0, 0, rg, cs, upd kd c (nI k), upd dd c (nI d), upd fd c (nI a), upd sd c x)) :
    wpY_emit post (nI c, pl, jp, rg, cs, kd, dd, fd, sd) (nI k) (nI d) (nI a) x := by
  unfold wpY_emit
  dsimp only
  rw [nI_clamp (n := c) (by omega)]
  have vc : c < 24 → vp_in (nI c) 24 := fun z => vp_in_nI z (by decide)
  have rr : ∀ y, y ≤ 7 → ¬ (nI y < 0 ∨ ¬ nI y ≤ 7) := fun y hy z => z.elim (nI_pos (by omega)) (fun n => n (nI_le (b := 7) hy (by decide)))
  refine br_f (nI_pos (by omega)) (br_t (nI_le (b := 10) (by omega) (by decide)) (ba_ynr (fun z => absurd z (rr d hd)) (fun _ _ => br_t rfl (ba_ynr (fun z => absurd z (rr a ha)) (fun _ _ => br_t rfl (ba_ybad hk (fun z => br_f (by decide) (h3 z)) (fun e1 e2 => br_t rfl ?_)))))))
  refine pk_lt c 24 (fun l => ?_) (fun l => h4 e1 e2 (by omega))
  exact And.intro (vc l) (nm_e (And.intro (vc l) (nm_e (And.intro (vc l) (nm_e (And.intro (vc l) (nm_e (nm_r (nI_1 c) (h e1 e2 l)))))))))
end
theorem ba_in10 {x : Int32} (h0 : ¬ x < 0) (h : x ≤ 10) : ∃ d, d ≤ 10 ∧ x = nI d := nI_of2 (M := 10) (n := 10) (by decide) h0 h
theorem i_vc_emit {k : Nat} {u : SX} {v : SY} (I : i_Rel k u v) (hk : k + 5 ≤ 2560) (v1 : Int32) (v2 : Int32) (v3 : Int32) (v4 : Int32) : wpX_emit (fun r u' => wpY_emit (fun r' v' => r' = r ∧ i_Rel (k + 5) u' v') v v1 v2 v3 v4) u v1 v2 v3 v4 := by
  refine ba_el (P := fun u v => wpX_emit (fun r u' => wpY_emit (fun r' v' => r' = r ∧ i_Rel (k + 5) u' v') v v1 v2 v3 v4) u v1 v2 v3 v4) ?_ I
  intro c q bu pa op fr fi wr gs ap fs tk kd dd fd sd ld so wd st sh rg cs sr sc F
  have hc := F.1
  have V := F.2.2.1
  unfold wpX_emit
  dsimp only
  refine br_c (fun h0 => br_t h0 ⟨rfl, ba_in F⟩) (fun h0 => br_c (fun h10 => ?_) (fun h10 => br_f h0 (br_f h10 ⟨rfl, ba_in F⟩)))
  obtain ⟨kk, hkk, rfl⟩ := ba_in10 h0 h10
  refine br_c (fun d0 => ba_yemit2 hkk (Or.inl (Or.inl d0)) ⟨rfl, ba_in F⟩) (fun d0 => br_c (fun d7 => ba_yemit2 hkk (Or.inl (Or.inr (Int32.not_le.mpr d7))) ⟨rfl, ba_in F⟩) (fun d7 => ?_))
  refine br_c (fun a0 => ba_yemit2 hkk (Or.inr (Or.inl a0)) ⟨rfl, ba_in F⟩) (fun a0 => br_c (fun a7 => ?_) (fun a7 => ba_yemit2 hkk (Or.inr (Or.inr a7)) ⟨rfl, ba_in F⟩))
  obtain ⟨d, hd, rfl⟩ := ba_in8 d0 (Int32.not_lt.mp d7)
  obtain ⟨a, ha, rfl⟩ := ba_in8 a0 a7
  refine ba_x53 hkk (ba_x83 hc (fun z => ?_) (fun z1 z2 z3 => ?_) (fun z1 z2 z3 => ?_))
  · exact ba_yemit hc hkk hd ha (fun _ => ⟨rfl, ba_in F⟩) (fun e1 e2 => absurd z (fun z => z.elim e1 (fun n => n e2))) (fun e1 e2 => absurd z (fun z => z.elim e1 (fun n => n e2)))
  · exact ba_yemit hc hkk hd ha (fun z => absurd z (fun z => z.elim z1 (fun n => n z2))) (fun _ _ _ => ⟨rfl, ba_in F⟩) (fun _ _ z => absurd z (by omega))
  · exact ba_yemit hc hkk hd ha (fun z => absurd z (fun z => z.elim z1 (fun n => n z2))) (fun _ _ z => absurd z (by omega)) (fun _ _ _ => ⟨rfl, ba_in (c := c + 1) (q := 0) (ba_F0 (by omega) (ba_VOS V hkk hd ha z1 z2))⟩)
end
