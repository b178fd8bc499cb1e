section
/-! pure rows to paste: stores, nI and lN arithmetic, masks, shifts, narrowing, branches by naturals (pk_le, pk_lt, pk_eq), loops (lp1 .. lp16: the measure of the state; rp1 ..: recursion), negatives. Take what you need -/
theorem pk_us {f : Nat → Int32} {k : Nat} {x : Int32} : upd f k x k = x := if_pos rfl
theorem pk_un {f : Nat → Int32} {k j : Nat} {x : Int32} (h : j ≠ k) : upd f k x j = f j := if_neg h
theorem pk_uLs {f : Nat → Int64} {k : Nat} {x : Int64} : vp_updL f k x k = x := if_pos rfl
theorem pk_uLn {f : Nat → Int64} {k j : Nat} {x : Int64} (h : j ≠ k) : vp_updL f k x j = f j := if_neg h
theorem pk_sub {a b : Nat} (h : b ≤ a) : nI a - nI b = nI (a - b) := by
  obtain ⟨c, rfl⟩ : ∃ c, a = c + b := ⟨a - b, by omega⟩
  rw [← nI_add, Int32.add_sub_cancel, Nat.add_sub_cancel]
theorem pk_m1 (n : Nat) : nI (n + 1) + (-1) = nI n := by
  rw [← nI_1, Int32.add_assoc, show (1 : Int32) + (-1) = 0 from rfl, Int32.add_zero]
theorem pk_mul (a b : Nat) : nI a * nI b = nI (a * b) := (Int32.ofNat_mul a b).symm
theorem pk_div {a d : Nat} (ha : a < 2 ^ 31) (h0 : 0 < d) (hd : d < 2 ^ 31) : nI a / nI d = nI (a / d) := by
  apply Int32.toInt_inj.mp
  rw [lg_idiv_nonneg (by rw [nI_toInt ha]; omega) (by rw [nI_toInt hd]; omega), nI_toInt ha, nI_toInt hd, nI_toInt (Nat.lt_of_le_of_lt (Nat.div_le_self a d) ha)]
  first | rfl | exact (Int.natCast_ediv _ _).symm
theorem pk_rem {a d : Nat} (ha : a < 2 ^ 31) (h0 : 0 < d) (hd : d < 2 ^ 31) : nI a - nI a / nI d * nI d = nI (a % d) := by
  rw [pk_div ha h0 hd, pk_mul, pk_sub (Nat.div_mul_le_self a d)]
  exact congrArg nI (by have := Nat.div_add_mod' a d; omega)
theorem pk_sub_toInt {a b : Nat} (ha : a < 2 ^ 30) (hb : b < 2 ^ 30) : (nI a - nI b).toInt = (a : Int) - b := by
  rw [Int32.toInt_sub, nI_toInt (by omega), nI_toInt (by omega)]
  exact Int.bmod_eq_of_le (by omega) (by omega)
theorem pk_sneg {a b : Nat} (hb : b < 2 ^ 30) (h : a < b) : nI a - nI b < 0 := by
  rw [Int32.lt_iff_toInt_lt, pk_sub_toInt (by omega) hb, show (0 : Int32).toInt = 0 from by decide]
  omega
theorem pk_ix (x : Int32) {n : Nat} (hn : n < 2 ^ 31) : x < 0 ∨ nI n ≤ x ∨ ∃ j : Nat, j < n ∧ x = nI j := by
  by_cases h : x < 0
  · exact Or.inl h
  · obtain ⟨j, hj, rfl⟩ := nI_of h
    by_cases h2 : j < n
    · exact Or.inr (Or.inr ⟨j, h2, rfl⟩)
    · exact Or.inr (Or.inl (nI_le (by omega) hj))
theorem pk_le {x y : Int32} {A B : Prop} (a b : Nat) (f : a ≤ b → A) (g : b < a → B) (hx : x = nI a := by rfl) (hy : y = nI b := by rfl) (ha : a < 2 ^ 31 := by omega) (hb : b < 2 ^ 31 := by omega) : (x ≤ y → A) ∧ (¬ x ≤ y → B) := by
  subst hx hy
  rw [nI_leI ha hb]
  exact ⟨f, fun z => g (by omega)⟩
theorem pk_lt {x y : Int32} {A B : Prop} (a b : Nat) (f : a < b → A) (g : b ≤ a → B) (hx : x = nI a := by rfl) (hy : y = nI b := by rfl) (ha : a < 2 ^ 31 := by omega) (hb : b < 2 ^ 31 := by omega) : (x < y → A) ∧ (¬ x < y → B) := by
  subst hx hy
  rw [nI_ltI ha hb]
  exact ⟨f, fun z => g (by omega)⟩
theorem pk_eq {x y : Int32} {A B : Prop} (a b : Nat) (f : a = b → A) (g : a ≠ b → B) (hx : x = nI a := by rfl) (hy : y = nI b := by rfl) (ha : a < 2 ^ 31 := by omega) (hb : b < 2 ^ 31 := by omega) : (x = y → A) ∧ (¬ x = y → B) := by
  subst hx hy
  rw [nI_eq ha hb]
  exact ⟨f, g⟩
theorem pk_in {x : Int32} (n N : Nat) (h : n < N) (hx : x = nI n := by rfl) (hN : N < 2 ^ 31 := by omega) : vp_in x N := by
  subst hx
  exact vp_in_nI h hN
theorem pk_cl {x : Int32} (n : Nat) (hx : x = nI n := by rfl) (h : n < 2 ^ 31 := by omega) : x.toNatClampNeg = n := by
  subst hx
  exact nI_clamp h
theorem pk_tn {n : Nat} (h : n < 2 ^ 32) : (nI n).toBitVec.toNat = n := Nat.mod_eq_of_lt h
theorem pk_and (x : Int32) {m : Int32} (k : Nat) (hm : m.toBitVec.toNat = 2 ^ k - 1) : x &&& m = nI (x.toBitVec.toNat % 2 ^ k) := by
  apply Int32.toBitVec_inj.mp
  apply BitVec.eq_of_toNat_eq
  rw [Int32.toBitVec_and, BitVec.toNat_and, hm, Nat.and_two_pow_sub_one_eq_mod]
  show _ = (BitVec.ofNat 32 _).toNat
  rw [BitVec.toNat_ofNat]
  exact (Nat.mod_eq_of_lt (Nat.lt_of_le_of_lt (Nat.mod_le _ _) x.toBitVec.isLt)).symm
theorem pk_andN {n : Nat} (h : n < 2 ^ 32) {m : Int32} (k : Nat) (hm : m.toBitVec.toNat = 2 ^ k - 1) : nI n &&& m = nI (n % 2 ^ k) := by
  rw [pk_and _ k hm, pk_tn h]
theorem pk_andE (x : Int32) {m : Int32} (k : Nat) (hm : m.toBitVec.toNat = 2 ^ k - 1) : ∃ j : Nat, j < 2 ^ k ∧ x &&& m = nI j := ⟨_, Nat.mod_lt _ (Nat.two_pow_pos k), pk_and x k hm⟩
theorem pk_andIn (x : Int32) {m : Int32} (k : Nat) (hm : m.toBitVec.toNat = 2 ^ k - 1) (hk : k ≤ 30) : vp_in (x &&& m) (2 ^ k) := by
  obtain ⟨j, hj, e⟩ := pk_andE x k hm
  rw [e]
  exact vp_in_nI hj (Nat.lt_of_le_of_lt (Nat.pow_le_pow_right (by decide) hk) (by decide))
theorem pk_shl (a s : Int32) (k : Nat) (hs : (s.toBitVec.smod 32).toNat = k) : (a <<< s).toBitVec.toNat = a.toBitVec.toNat * 2 ^ k % 2 ^ 32 := by
  show (a.toBitVec <<< (s.toBitVec.smod 32).toNat).toNat = _
  rw [hs, BitVec.toNat_shiftLeft, Nat.shiftLeft_eq]
theorem pk_shlN {n : Nat} (s : Int32) (k : Nat) (hs : (s.toBitVec.smod 32).toNat = k) (h : n * 2 ^ k < 2 ^ 32) : nI n <<< s = nI (n * 2 ^ k) := by
  apply Int32.toBitVec_inj.mp
  apply BitVec.eq_of_toNat_eq
  have hn : n < 2 ^ 32 := Nat.lt_of_le_of_lt (Nat.le_mul_of_pos_right n (Nat.two_pow_pos k)) h
  rw [pk_shl _ _ k hs, pk_tn hn, pk_tn h, Nat.mod_eq_of_lt h]
theorem pk_shr (a s : Int32) (k : Nat) (hs : (s.toBitVec.smod 32).toNat = k) : (a >>> s).toInt = a.toInt >>> k := by
  show (a.toBitVec.sshiftRight (s.toBitVec.smod 32).toNat).toInt = _
  rw [hs, BitVec.toInt_sshiftRight]
  rfl
theorem pk_shrN {n : Nat} (h : n < 2 ^ 31) (s : Int32) (k : Nat) (hs : (s.toBitVec.smod 32).toNat = k) : nI n >>> s = nI (n / 2 ^ k) := by
  apply Int32.toInt_inj.mp
  have h2 : n / 2 ^ k ≤ n := Nat.div_le_self _ _
  rw [pk_shr _ _ k hs, nI_toInt h, nI_toInt (by omega), Int.shiftRight_eq_div_pow]
  rfl
theorem pk_ushr (x s : Int32) (k : Nat) (hs : ((s.toUInt32 &&& Int32.toUInt32 31).toBitVec % 32).toNat = k) : (x.toUInt32 >>> (s.toUInt32 &&& Int32.toUInt32 31)).toInt32.toBitVec.toNat = x.toBitVec.toNat / 2 ^ k := by
  have e : (x.toUInt32 >>> (s.toUInt32 &&& Int32.toUInt32 31)).toInt32.toBitVec = x.toBitVec >>> k := by
    rw [← hs]
    exact UInt32.toBitVec_shiftRight _ _
  rw [e, BitVec.toNat_ushiftRight, Nat.shiftRight_eq_div_pow]
theorem pk_ushrN {n : Nat} (hn : n < 2 ^ 32) (s : Int32) (k : Nat) (hs : ((s.toUInt32 &&& Int32.toUInt32 31).toBitVec % 32).toNat = k) : ((nI n).toUInt32 >>> (s.toUInt32 &&& Int32.toUInt32 31)).toInt32 = nI (n / 2 ^ k) := by
  apply Int32.toBitVec_inj.mp
  apply BitVec.eq_of_toNat_eq
  rw [pk_ushr _ s k hs, pk_tn hn, pk_tn (Nat.lt_of_le_of_lt (Nat.div_le_self _ _) hn)]
theorem pk_lT {n : Nat} (h : n < 2 ^ 63) : (lN n).toInt = (n : Int) := lg_ofNat_toInt h
theorem pk_lLT {a b : Nat} (ha : a < 2 ^ 63) (hb : b < 2 ^ 63) : lN a < lN b ↔ a < b := by
  rw [Int64.lt_iff_toInt_lt, pk_lT ha, pk_lT hb]; omega
theorem pk_lLE {a b : Nat} (ha : a < 2 ^ 63) (hb : b < 2 ^ 63) : lN a ≤ lN b ↔ a ≤ b := by
  rw [Int64.le_iff_toInt_le, pk_lT ha, pk_lT hb]; omega
theorem pk_lEQ {a b : Nat} (ha : a < 2 ^ 63) (hb : b < 2 ^ 63) : lN a = lN b ↔ a = b := by
  rw [← Int64.toInt_inj, pk_lT ha, pk_lT hb]; omega
theorem pk_lOf {x : Int64} (h : ¬ x < 0) : ∃ k : Nat, k < 2 ^ 63 ∧ x = lN k := by
  rw [Int64.lt_iff_toInt_lt] at h
  have h0 : (0 : Int64).toInt = 0 := by decide
  have hx := Int64.toInt_lt x
  refine ⟨x.toInt.toNat, by omega, Int64.toInt_inj.mp ?_⟩
  rw [pk_lT (by omega)]
  omega
theorem pk_lDiv {a b : Nat} (ha : a < 2 ^ 63) (h0 : 0 < b) (hb : b < 2 ^ 63) : lN a / lN b = lN (a / b) := by
  apply Int64.toInt_inj.mp
  rw [lg_ldiv_nonneg (by rw [pk_lT ha]; omega) (by rw [pk_lT hb]; omega), pk_lT ha, pk_lT hb, pk_lT (Nat.lt_of_le_of_lt (Nat.div_le_self a b) ha)]
  rfl
theorem pk_lRem {a b : Nat} (ha : a < 2 ^ 63) (h0 : 0 < b) (hb : b < 2 ^ 63) : lN a - lN a / lN b * lN b = lN (a % b) := by
  rw [pk_lDiv ha h0 hb, lN_mul, lN_sub (Nat.div_mul_le_self a b)]
  exact congrArg lN (by have := Nat.div_add_mod' a b; omega)
theorem pk_loop {σ : Type} (W : Nat → Nat → σ → Prop) (I : Nat → σ → Prop) (e i0 : Nat) (s : σ) (hi : i0 ≤ e) (h0 : I i0 s) (hx : ∀ n s, I e s → W (n + 1) e s)
    (hs : ∀ n i s, i < e → I i s → (∀ s', I (i + 1) s' → W n (i + 1) s') → W (n + 1) i s) : ∃ n, W n i0 s :=
  ⟨e + 1, loop_i W I e hx hs (e + 1) i0 s hi (by omega) h0⟩
theorem pk_loopD {σ : Type} (W : Nat → Nat → σ → Prop) (I : Nat → σ → Prop) (hx : ∀ n s, I 0 s → W (n + 1) 0 s)
    (hs : ∀ n i s, I (i + 1) s → (∀ s', I i s' → W n i s') → W (n + 1) (i + 1) s) : ∀ (e : Nat) (s : σ), I e s → W (e + 1) e s := by
  intro e
  induction e with
  | zero => exact fun s h => hx 0 s h
  | succ e ih => exact fun s h => hs (e + 1) e s h (fun s' h' => ih s' h')
theorem nx_and (a b : Nat) : nI a &&& nI b = nI (a &&& b) := by
  apply Int32.toBitVec_inj.1
  show BitVec.ofNat 32 a &&& BitVec.ofNat 32 b = BitVec.ofNat 32 (a &&& b)
  apply BitVec.eq_of_getLsbD_eq
  intro i hi
  simp [hi]
theorem nx_xor (a b : Nat) : nI a ^^^ nI b = nI (a ^^^ b) := by
  apply Int32.toBitVec_inj.1
  show BitVec.ofNat 32 a ^^^ BitVec.ofNat 32 b = BitVec.ofNat 32 (a ^^^ b)
  apply BitVec.eq_of_getLsbD_eq
  intro i hi
  simp [hi]
end
section
/-! the field of 12289 numbers, its numbers as ints, arrays as lifts -/
abbrev Kq : Type := Fin 12289
def kq_n (n : Nat) : Kq := Fin.ofNat 12289 n
def kq_i (z : Int) : Kq := Fin.ofNat 12289 (z % 12289).toNat
def kq_c (z : Kq) : Int32 := nI z.val
def kq_f (f : Nat → Kq) : Nat → Int32 := fun j => kq_c (f j)
def kq_r (R : Nat → Nat → Kq) : Nat → Int32 := fun j => kq_c (R (j / 32) (j % 32))
def kq_u (f : Nat → Kq) (k : Nat) (x : Kq) : Nat → Kq := fun j => if j = k then x else f j
def kq_w (R : Nat → Nat → Kq) (r i : Nat) (x : Kq) : Nat → Nat → Kq := fun a b => if a = r ∧ b = i then x else R a b
def kq_s (R : Nat → Nat → Kq) (r : Nat) (g : Nat → Kq) : Nat → Nat → Kq := fun a b => if a = r then g b else R a b

theorem kq_n_add (a b : Nat) : kq_n (a + b) = kq_n a + kq_n b := Fin.ext (by
  show (a + b) % 12289 = (a % 12289 + b % 12289) % 12289
  omega)
theorem kq_n_mul (a b : Nat) : kq_n (a * b) = kq_n a * kq_n b := Fin.ext (by
  show (a * b) % 12289 = ((a % 12289) * (b % 12289)) % 12289
  exact Nat.mul_mod a b 12289)
theorem kq_n_v (z : Kq) : kq_n z.val = z := Fin.ext (Nat.mod_eq_of_lt z.isLt)
theorem kq_n_0 : kq_n 0 = 0 := rfl
theorem kq_n_1 : kq_n 1 = 1 := rfl
theorem kq_n_s (n : Nat) : kq_n (n + 1) = kq_n n + 1 := kq_n_add n 1
theorem kq_n_sub {a b : Nat} (h : b ≤ a) : kq_n (a - b) = kq_n a - kq_n b := by
  have e := kq_n_add (a - b) b
  rw [Nat.sub_add_cancel h] at e
  rw [e]; grind
theorem kq_n_small {n : Nat} (h : n < 12289) : (kq_n n).val = n := Nat.mod_eq_of_lt h
theorem kq_i_n (n : Nat) : kq_i (n : Int) = kq_n n := Fin.ext (by
  show ((n : Int) % 12289).toNat % 12289 = n % 12289
  omega)
theorem kq_i_add (a b : Int) : kq_i (a + b) = kq_i a + kq_i b := Fin.ext (by
  show ((a + b) % 12289).toNat % 12289 = ((a % 12289).toNat % 12289 + (b % 12289).toNat % 12289) % 12289
  omega)
theorem kq_i_0 : kq_i 0 = 0 := rfl
theorem kq_i_neg (a : Int) : kq_i (-a) = - kq_i a := by
  have h := kq_i_add (-a) a
  rw [Int.add_left_neg, kq_i_0] at h
  grind
theorem kq_i_sub (a b : Int) : kq_i (a - b) = kq_i a - kq_i b := by
  rw [Int.sub_eq_add_neg, kq_i_add, kq_i_neg]; grind
theorem kq_i_mul (a b : Int) : kq_i (a * b) = kq_i a * kq_i b := Fin.ext (by
  show ((a * b) % 12289).toNat % 12289 = (((a % 12289).toNat % 12289) * ((b % 12289).toNat % 12289)) % 12289
  rw [Int.mul_emod]
  obtain ⟨n, hn⟩ := Int.eq_ofNat_of_zero_le (Int.emod_nonneg a (by decide : (12289 : Int) ≠ 0))
  obtain ⟨m, hm⟩ := Int.eq_ofNat_of_zero_le (Int.emod_nonneg b (by decide : (12289 : Int) ≠ 0))
  have h1 := Int.emod_lt_of_pos a (by decide : (0 : Int) < 12289)
  have h2 := Int.emod_lt_of_pos b (by decide : (0 : Int) < 12289)
  rw [hn] at h1
  rw [hm] at h2
  rw [hn, hm, Int.toNat_natCast, Int.toNat_natCast, Nat.mod_eq_of_lt (show n < 12289 by omega), Nat.mod_eq_of_lt (show m < 12289 by omega), ← Int.natCast_mul]
  generalize n * m = q
  omega)
theorem kq_i_v (z : Kq) : kq_i (z.val : Int) = z := by rw [kq_i_n, kq_n_v]
theorem kq_ext {a b : Kq} (h : a.val = b.val) : a = b := Fin.ext h

theorem kq_c_toInt (z : Kq) : (kq_c z).toInt = (z.val : Int) := nI_toInt (by have := z.isLt; omega)
theorem kq_c_inj {a b : Kq} : kq_c a = kq_c b ↔ a = b := by
  constructor
  · intro h
    exact Fin.ext ((nI_eq (by have := a.isLt; omega) (by have := b.isLt; omega)).mp h)
  · intro h; rw [h]
theorem kq_c_0 : kq_c 0 = 0 := rfl
theorem kq_c_1 : kq_c 1 = 1 := rfl
theorem kq_c_2 : kq_c 2 = 2 := rfl
theorem kq_c_n {n : Nat} (h : n < 12289) : kq_c (kq_n n) = nI n := congrArg nI (kq_n_small h)
theorem kq_c_eq0 (a : Kq) : (kq_c a = 0) = (a = 0) := propext (kq_c_inj (b := 0))
theorem kq_c_eq1 (a : Kq) : (kq_c a = 1) = (a = 1) := propext (kq_c_inj (b := 1))
theorem kq_c_eqc (a b : Kq) : (kq_c a = kq_c b) = (a = b) := propext kq_c_inj

theorem kq_f_at (f : Nat → Kq) (j : Nat) : kq_f f j = kq_c (f j) := rfl
theorem kq_f_u (f : Nat → Kq) (k : Nat) (x : Kq) : upd (kq_f f) k (kq_c x) = kq_f (kq_u f k x) := by
  funext j
  show (if j = k then kq_c x else kq_c (f j)) = kq_c (if j = k then x else f j)
  by_cases h : j = k
  · rw [if_pos h, if_pos h]
  · rw [if_neg h, if_neg h]
theorem kq_f_0 : kq_f (fun _ => 0) = (fun _ => 0) := rfl
theorem kq_r_0 : kq_r (fun _ _ => 0) = (fun _ => 0) := rfl
theorem kq_u_s (f : Nat → Kq) (k : Nat) (x : Kq) : kq_u f k x k = x := if_pos rfl
theorem kq_u_n {f : Nat → Kq} {k j : Nat} {x : Kq} (h : j ≠ k) : kq_u f k x j = f j := if_neg h
theorem kq_r_at (R : Nat → Nat → Kq) {r i : Nat} (h : i < 32) : kq_r R (r * 32 + i) = kq_c (R r i) := by
  show kq_c (R ((r * 32 + i) / 32) ((r * 32 + i) % 32)) = _
  rw [show (r * 32 + i) / 32 = r by omega, show (r * 32 + i) % 32 = i by omega]
theorem kq_r_at' (R : Nat → Nat → Kq) {r i : Nat} (h : i < 32) : kq_r R (32 * r + i) = kq_c (R r i) := by
  rw [Nat.mul_comm]; exact kq_r_at R h
theorem kq_r_w (R : Nat → Nat → Kq) {r i : Nat} (h : i < 32) (x : Kq) : upd (kq_r R) (r * 32 + i) (kq_c x) = kq_r (kq_w R r i x) := by
  funext j
  show (if j = r * 32 + i then kq_c x else kq_c (R (j / 32) (j % 32))) = kq_c (if j / 32 = r ∧ j % 32 = i then x else R (j / 32) (j % 32))
  by_cases e : j = r * 32 + i
  · rw [if_pos e, if_pos (by omega)]
  · rw [if_neg e, if_neg (by omega)]
theorem kq_r_w' (R : Nat → Nat → Kq) {r i : Nat} (h : i < 32) (x : Kq) : upd (kq_r R) (32 * r + i) (kq_c x) = kq_r (kq_w R r i x) := by
  rw [Nat.mul_comm]; exact kq_r_w R h x
theorem kq_r_ext {R S : Nat → Nat → Kq} (h : ∀ a b, b < 32 → R a b = S a b) : kq_r R = kq_r S := by
  funext j
  exact congrArg kq_c (h _ _ (Nat.mod_lt _ (by decide)))
theorem kq_s_s (R : Nat → Nat → Kq) (r : Nat) (g : Nat → Kq) : kq_s R r g r = g := by funext b; exact if_pos rfl
theorem kq_s_n {R : Nat → Nat → Kq} {r a : Nat} {g : Nat → Kq} (h : a ≠ r) : kq_s R r g a = R a := by funext b; exact if_neg h

theorem zb_t {c A B : Prop} (h : c) : ((c → A) ∧ (¬ c → B)) = A := propext ⟨fun k => k.1 h, fun a => ⟨fun _ => a, fun n => absurd h n⟩⟩
theorem zb_f {c A B : Prop} (h : ¬ c) : ((c → A) ∧ (¬ c → B)) = B := propext ⟨fun k => k.2 h, fun b => ⟨fun x => absurd x h, fun _ => b⟩⟩
theorem zb_ne : (¬ (12289 : Int32) = 0) = True := by decide
theorem zb_neL : (¬ (12289 : Int64) = 0) = True := by decide
theorem zb_in {n N : Nat} (h : n < N) (hN : N < 2 ^ 31) : vp_in (nI n) N = True := eq_true (vp_in_nI h hN)

theorem kq_rem {m : Nat} (h : m < 2 ^ 31) : nI m - nI m / 12289 * 12289 = kq_c (kq_n m) :=
  pk_rem (d := 12289) h (by decide) (by decide)
theorem kq_mlt (a b : Kq) : a.val * b.val ≤ 150994944 :=
  Nat.le_trans (Nat.mul_le_mul (Nat.le_of_lt_succ a.isLt) (Nat.le_of_lt_succ b.isLt)) (by decide)
theorem kq_nm (a b : Kq) : kq_n (a.val * b.val) = a * b := by rw [kq_n_mul, kq_n_v, kq_n_v]
theorem kq_c_m (a b : Kq) : kq_c a * kq_c b = nI (a.val * b.val) := pk_mul _ _
theorem kq_mul (a b : Kq) : kq_c a * kq_c b - kq_c a * kq_c b / 12289 * 12289 = kq_c (a * b) := by
  have := kq_mlt a b
  rw [kq_c_m, kq_rem (by omega), kq_nm]
theorem kq_mac (s a b : Kq) : (kq_c s + kq_c a * kq_c b) - (kq_c s + kq_c a * kq_c b) / 12289 * 12289 = kq_c (s + a * b) := by
  have := kq_mlt a b
  have := s.isLt
  rw [kq_c_m, show kq_c s + nI (a.val * b.val) = nI (s.val + a.val * b.val) from nI_add _ _, kq_rem (by omega), kq_n_add, kq_nm, kq_n_v]
theorem kq_mca (a b s : Kq) : (kq_c a * kq_c b + kq_c s) - (kq_c a * kq_c b + kq_c s) / 12289 * 12289 = kq_c (a * b + s) := by
  have := kq_mlt a b
  have := s.isLt
  rw [kq_c_m, show nI (a.val * b.val) + kq_c s = nI (a.val * b.val + s.val) from nI_add _ _, kq_rem (by omega), kq_n_add, kq_nm, kq_n_v]
theorem kq_add (a b : Kq) : (kq_c a + kq_c b) - (kq_c a + kq_c b) / 12289 * 12289 = kq_c (a + b) := by
  have := a.isLt
  have := b.isLt
  rw [show kq_c a + kq_c b = nI (a.val + b.val) from nI_add _ _, kq_rem (by omega), kq_n_add, kq_n_v, kq_n_v]
theorem kq_lin3 (a b c : Kq) (k l : Nat) (hk : k ≤ 100) (hl : l ≤ 100) : ((kq_c a + nI k * kq_c b) + nI l * kq_c c) - ((kq_c a + nI k * kq_c b) + nI l * kq_c c) / 12289 * 12289 = kq_c (a + kq_n k * b + kq_n l * c) := by
  have h1 := a.isLt
  have h2 : k * b.val ≤ 100 * 12288 := Nat.mul_le_mul hk (Nat.le_of_lt_succ b.isLt)
  have h3 : l * c.val ≤ 100 * 12288 := Nat.mul_le_mul hl (Nat.le_of_lt_succ c.isLt)
  have e : (kq_c a + nI k * kq_c b) + nI l * kq_c c = nI (a.val + k * b.val + l * c.val) := by
    rw [show nI k * kq_c b = nI (k * b.val) from pk_mul _ _, show nI l * kq_c c = nI (l * c.val) from pk_mul _ _, show kq_c a + nI (k * b.val) = nI (a.val + k * b.val) from nI_add _ _, nI_add]
  rw [e, kq_rem (by omega), kq_n_add, kq_n_add, kq_n_mul, kq_n_mul, kq_n_v, kq_n_v, kq_n_v]
theorem kq_nmul (n : Nat) (hn : n ≤ 1000) (b : Kq) : (nI n * kq_c b) - (nI n * kq_c b) / 12289 * 12289 = kq_c (kq_n n * b) := by
  have h2 : n * b.val ≤ 1000 * 12288 := Nat.mul_le_mul hn (Nat.le_of_lt_succ b.isLt)
  rw [show nI n * kq_c b = nI (n * b.val) from pk_mul _ _, kq_rem (by omega), kq_n_mul, kq_n_v]
theorem kq_muln (n : Nat) (hn : n ≤ 1000) (b : Kq) : (kq_c b * nI n) - (kq_c b * nI n) / 12289 * 12289 = kq_c (b * kq_n n) := by
  have h2 : b.val * n ≤ 12288 * 1000 := Nat.mul_le_mul (Nat.le_of_lt_succ b.isLt) hn
  rw [show kq_c b * nI n = nI (b.val * n) from pk_mul _ _, kq_rem (by omega), kq_n_mul, kq_n_v]

theorem xw_plus (post : Int32 → Prop) (a b : Kq) : wpX_plus post (kq_c a) (kq_c b) = post (kq_c (a + b)) := by
  have e : kq_c a + kq_c b = nI (a.val + b.val) := nI_add _ _
  have ha := a.isLt
  have hb := b.isLt
  unfold wpX_plus
  simp only [forall_eq, e]
  by_cases h : a.val + b.val < 12289
  · rw [zb_t (show nI (a.val + b.val) < 12289 from nI_lt (b := 12289) h (by decide))]
    exact congrArg post (congrArg nI (Nat.mod_eq_of_lt h).symm)
  · rw [zb_f (show ¬ nI (a.val + b.val) < 12289 from nI_nlt (b := 12289) (by omega) (by omega)), show nI (a.val + b.val) - 12289 = nI (a.val + b.val - 12289) from pk_sub (b := 12289) (by omega)]
    refine congrArg post (congrArg nI ?_)
    show _ = (a.val + b.val) % 12289
    omega
theorem xw_minus (post : Int32 → Prop) (a b : Kq) : wpX_minus post (kq_c a) (kq_c b) = post (kq_c (a - b)) := by
  have ha := a.isLt
  have hb := b.isLt
  unfold wpX_minus
  simp only [forall_eq]
  by_cases h : b.val ≤ a.val
  · have e : kq_c a - kq_c b = nI (a.val - b.val) := pk_sub h
    rw [e, zb_t (nI_pos' (by omega))]
    refine congrArg post (congrArg nI ?_)
    show _ = (12289 - b.val + a.val) % 12289
    omega
  · have hn : kq_c a - kq_c b < 0 := pk_sneg (a := a.val) (b := b.val) (by omega) (by omega)
    rw [zb_f (Int32.not_le.mpr hn)]
    have e : kq_c a - kq_c b + 12289 = nI (a.val + 12289 - b.val) := by
      rw [← pk_sub (a := a.val + 12289) (b := b.val) (by omega), ← nI_add]
      show nI a.val - nI b.val + nI 12289 = nI a.val + nI 12289 - nI b.val
      grind
    rw [e]
    refine congrArg post (congrArg nI ?_)
    show _ = (12289 - b.val + a.val) % 12289
    omega
theorem kq_of_toInt {x : Int32} {z : Kq} (h : x.toInt = (z.val : Int)) : x = kq_c z := Int32.toInt_inj.mp (by rw [h, kq_c_toInt])
theorem kq_tmod (a : Int) : (0 ≤ a.tmod 12289 ∧ (((kq_i a).val : Int) = a.tmod 12289)) ∨ (a.tmod 12289 < 0 ∧ (((kq_i a).val : Int) = a.tmod 12289 + 12289)) := by
  have e : ((kq_i a).val : Int) = a % 12289 := by
    show ((((a % 12289).toNat % 12289 : Nat)) : Int) = a % 12289
    omega
  rw [e, Int.tmod_eq_emod]
  by_cases h : 0 ≤ a ∨ (12289 : Int) ∣ a
  · rw [if_pos h]; left; omega
  · rw [if_neg h]
    right
    have h0 : ¬ (12289 : Int) ∣ a := fun z => h (Or.inr z)
    have h1 : a % 12289 ≠ 0 := fun z => h0 (Int.dvd_of_emod_eq_zero z)
    omega
theorem xw_normal (post : Int32 → Prop) (x : Int32) : wpX_normal post x = post (kq_c (kq_i x.toInt)) := by
  unfold wpX_normal
  simp only [forall_eq, zb_ne, true_and]
  have e : (x - x / 12289 * 12289).toInt = x.toInt.tmod 12289 := rem_toInt x 12289
  have hv := (kq_i x.toInt).isLt
  rcases kq_tmod x.toInt with ⟨h1, h2⟩ | ⟨h1, h2⟩
  · rw [zb_t (Int32.le_iff_toInt_le.mpr (by rw [e]; exact h1)), kq_of_toInt (x := x - x / 12289 * 12289) (z := kq_i x.toInt) (by rw [e, h2])]
  · rw [zb_f (by rw [Int32.le_iff_toInt_le, e]; show ¬ (0 : Int) ≤ _; omega), kq_of_toInt (x := x - x / 12289 * 12289 + 12289) (z := kq_i x.toInt) ?_]
    have k : (12289 : Int32).toInt = 12289 := by decide
    rw [Jvm.Kit.i32_add (by rw [e, k]; omega) (by rw [e, k]; omega), e, k, h2]
theorem yw_reduced (post : Int32 → Prop) (u : SY) (x : Int64) : wpY_reduced post u x = post (kq_c (kq_i x.toInt)) := by
  obtain ⟨p, q⟩ := u
  unfold wpY_reduced
  simp only [forall_eq, zb_neL, true_and]
  have e : (x - x / 12289 * 12289).toInt = x.toInt.tmod 12289 := Jvm.Kit.i64_rem x 12289
  have hv := (kq_i x.toInt).isLt
  rcases kq_tmod x.toInt with ⟨h1, h2⟩ | ⟨h1, h2⟩
  · rw [zb_t (Int64.le_iff_toInt_le.mpr (by rw [e]; exact h1)), kq_of_toInt (x := (x - x / 12289 * 12289).toInt32) (z := kq_i x.toInt) ?_]
    rw [Jvm.Kit.i32_of_i64 (by rw [e]; omega) (by rw [e]; omega), e, h2]
  · have k : (12289 : Int64).toInt = 12289 := by decide
    have e2 : (x - x / 12289 * 12289 + 12289).toInt = x.toInt.tmod 12289 + 12289 := by
      rw [Jvm.Kit.i64_add (by rw [e, k]; omega) (by rw [e, k]; omega), e, k]
    rw [zb_f (by rw [Int64.le_iff_toInt_le, e]; show ¬ (0 : Int) ≤ _; omega), kq_of_toInt (x := (x - x / 12289 * 12289 + 12289).toInt32) (z := kq_i x.toInt) ?_]
    rw [Jvm.Kit.i32_of_i64 (by rw [e2]; omega) (by rw [e2]; omega), e2, h2]
end
section
/-! sums, products of series, the ring of series -/
def qs_m : Nat → (Nat → Kq) → Kq
  | 0, _ => 0
  | n + 1, f => qs_m n f + f n
theorem qs_m_0 (f : Nat → Kq) : qs_m 0 f = 0 := rfl
theorem qs_m_s (n : Nat) (f : Nat → Kq) : qs_m (n + 1) f = qs_m n f + f n := rfl
theorem qs_congr {n : Nat} {f g : Nat → Kq} (h : ∀ i, i < n → f i = g i) : qs_m n f = qs_m n g := by
  induction n with
  | zero => rfl
  | succ n ih => rw [qs_m_s, qs_m_s, ih (fun i hi => h i (by omega)), h n (by omega)]
theorem qs_zero {n : Nat} {f : Nat → Kq} (h : ∀ i, i < n → f i = 0) : qs_m n f = 0 := by
  induction n with
  | zero => rfl
  | succ n ih => rw [qs_m_s, ih (fun i hi => h i (by omega)), h n (by omega)]; grind
theorem qs_add (n : Nat) (f g : Nat → Kq) : qs_m n (fun i => f i + g i) = qs_m n f + qs_m n g := by
  induction n with
  | zero => rw [qs_m_0, qs_m_0, qs_m_0]; grind
  | succ n ih => rw [qs_m_s, qs_m_s, qs_m_s, ih]; grind
theorem qs_sub (n : Nat) (f g : Nat → Kq) : qs_m n (fun i => f i - g i) = qs_m n f - qs_m n g := by
  induction n with
  | zero => rw [qs_m_0, qs_m_0, qs_m_0]; grind
  | succ n ih => rw [qs_m_s, qs_m_s, qs_m_s, ih]; grind
theorem qs_mulL (n : Nat) (c : Kq) (f : Nat → Kq) : qs_m n (fun i => c * f i) = c * qs_m n f := by
  induction n with
  | zero => rw [qs_m_0, qs_m_0]; grind
  | succ n ih => rw [qs_m_s, qs_m_s, ih]; grind
theorem qs_mulR (n : Nat) (c : Kq) (f : Nat → Kq) : qs_m n (fun i => f i * c) = qs_m n f * c := by
  induction n with
  | zero => rw [qs_m_0, qs_m_0]; grind
  | succ n ih => rw [qs_m_s, qs_m_s, ih]; grind
theorem qs_swap (n m : Nat) (F : Nat → Nat → Kq) : qs_m n (fun i => qs_m m (fun j => F i j)) = qs_m m (fun j => qs_m n (fun i => F i j)) := by
  induction n with
  | zero => exact (qs_zero (fun i _ => rfl)).symm
  | succ n ih => rw [qs_m_s, ih, ← qs_add]; rfl
theorem qs_app (a b : Nat) (f : Nat → Kq) : qs_m (a + b) f = qs_m a f + qs_m b (fun i => f (a + i)) := by
  induction b with
  | zero => rw [qs_m_0]; show qs_m a f = _; grind
  | succ b ih => rw [← Nat.add_assoc, qs_m_s, qs_m_s, ih]; grind
theorem qs_front (n : Nat) (f : Nat → Kq) : qs_m (n + 1) f = f 0 + qs_m n (fun i => f (i + 1)) := by
  induction n with
  | zero => rw [qs_m_s, qs_m_0, qs_m_0]; grind
  | succ n ih => rw [qs_m_s, ih, qs_m_s]; grind
theorem qs_rev (n : Nat) (f : Nat → Kq) : qs_m n f = qs_m n (fun i => f (n - 1 - i)) := by
  induction n with
  | zero => rfl
  | succ n ih =>
    rw [qs_front n (fun i => f (n + 1 - 1 - i)), qs_m_s, ih]
    have e : qs_m n (fun i => f (n - 1 - i)) = qs_m n (fun i => f (n + 1 - 1 - (i + 1))) :=
      qs_congr (fun i hi => congrArg f (by omega))
    rw [e]
    show _ + f n = f n + _
    grind
theorem qs_one {n k : Nat} {f : Nat → Kq} (hk : k < n) (h : ∀ i, i < n → i ≠ k → f i = 0) : qs_m n f = f k := by
  induction n with
  | zero => omega
  | succ n ih =>
    rw [qs_m_s]
    by_cases e : k = n
    · rw [qs_zero (fun i hi => h i (by omega) (by omega)), e]; grind
    · rw [ih (by omega) (fun i hi => h i (by omega)), h n (by omega) (by omega)]; grind
theorem qs_ext {n m : Nat} {f : Nat → Kq} (hnm : n ≤ m) (h : ∀ i, n ≤ i → i < m → f i = 0) : qs_m m f = qs_m n f := by
  obtain ⟨d, rfl⟩ := Nat.exists_eq_add_of_le hnm
  rw [qs_app, qs_zero (n := d) (fun i hi => h (n + i) (by omega) (by omega))]; grind
theorem qs_tri (n : Nat) (F : Nat → Nat → Kq) : qs_m n (fun i => qs_m (i + 1) (fun j => F j (i - j))) = qs_m n (fun j => qs_m (n - j) (fun i => F j i)) := by
  induction n with
  | zero => rfl
  | succ n ih =>
    rw [qs_m_s, ih, qs_m_s n (fun j => qs_m (n + 1 - j) (fun i => F j i)), qs_m_s n (fun j => F j (n - j))]
    have e : qs_m n (fun j => qs_m (n + 1 - j) (fun i => F j i)) = qs_m n (fun j => qs_m (n - j) (fun i => F j i)) + qs_m n (fun j => F j (n - j)) := by
      rw [← qs_add]
      refine qs_congr (fun j hj => ?_)
      rw [show n + 1 - j = (n - j) + 1 by omega]; rfl
    have e2 : qs_m (n + 1 - n) (fun i => F n i) = F n (n - n) := by
      rw [show n + 1 - n = 0 + 1 by omega, qs_m_s, qs_m_0, Nat.sub_self]; grind
    rw [e, e2]; grind
theorem qs_even (n : Nat) (f : Nat → Kq) : qs_m (2 * n) f = qs_m n (fun i => f (2 * i)) + qs_m n (fun i => f (2 * i + 1)) := by
  induction n with
  | zero => show (0 : Kq) = 0 + 0; decide
  | succ n ih => rw [show 2 * (n + 1) = 2 * n + 1 + 1 by omega, qs_m_s, qs_m_s, ih, qs_m_s, qs_m_s]; grind

def qs_c (f g : Nat → Kq) : Nat → Kq := fun n => qs_m (n + 1) (fun i => f i * g (n - i))
def qs_k (c : Kq) : Nat → Kq := fun i => if i = 0 then c else 0
theorem qs_k_0 (c : Kq) : qs_k c 0 = c := rfl
theorem qs_k_s (c : Kq) {i : Nat} (h : i ≠ 0) : qs_k c i = 0 := if_neg h
theorem qs_c_comm (f g : Nat → Kq) : qs_c f g = qs_c g f := by
  funext n
  show qs_m (n + 1) (fun i => f i * g (n - i)) = qs_m (n + 1) (fun i => g i * f (n - i))
  rw [qs_rev]
  refine qs_congr (fun i hi => ?_)
  show f (n + 1 - 1 - i) * g (n - (n + 1 - 1 - i)) = _
  rw [show n + 1 - 1 - i = n - i by omega, show n - (n - i) = i by omega]; grind
theorem qs_c_assoc (f g h : Nat → Kq) : qs_c (qs_c f g) h = qs_c f (qs_c g h) := by
  funext n
  have e1 : qs_c (qs_c f g) h n = qs_m (n + 1) (fun i => qs_m (i + 1) (fun j => f j * g (i - j) * h (n - j - (i - j)))) := by
    refine qs_congr (fun i hi => ?_)
    show qs_c f g i * h (n - i) = _
    rw [show qs_c f g i * h (n - i) = qs_m (i + 1) (fun j => f j * g (i - j) * h (n - i)) from (qs_mulR _ _ _).symm]
    refine qs_congr (fun j hj => ?_)
    rw [show n - j - (i - j) = n - i by omega]
  have e2 : qs_c f (qs_c g h) n = qs_m (n + 1) (fun j => qs_m (n + 1 - j) (fun i => f j * g i * h (n - j - i))) := by
    refine qs_congr (fun j hj => ?_)
    show f j * qs_c g h (n - j) = _
    rw [show n + 1 - j = n - j + 1 by omega, show f j * qs_c g h (n - j) = qs_m (n - j + 1) (fun i => f j * (g i * h (n - j - i))) from (qs_mulL _ _ _).symm]
    refine qs_congr (fun i hi => ?_)
    grind
  rw [e1, e2]
  exact qs_tri (n + 1) (fun j i => f j * g i * h (n - j - i))
theorem qs_c_add (f g h : Nat → Kq) : qs_c f (fun i => g i + h i) = fun i => qs_c f g i + qs_c f h i := by
  funext n
  show qs_m (n + 1) (fun i => f i * (g (n - i) + h (n - i))) = qs_m (n + 1) (fun i => f i * g (n - i)) + qs_m (n + 1) (fun i => f i * h (n - i))
  rw [← qs_add]
  exact qs_congr (fun i hi => by grind)
theorem qs_c_k (c : Kq) (f : Nat → Kq) : qs_c (qs_k c) f = fun i => c * f i := by
  funext n
  show qs_m (n + 1) (fun i => qs_k c i * f (n - i)) = _
  rw [qs_one (k := 0) (by omega) (fun i _ h0 => by rw [qs_k_s c h0]; grind)]
  rfl
theorem qs_c_em {k : Nat} {f f' g g' : Nat → Kq} (hf : ∀ i, i < k → f i = f' i) (hg : ∀ i, i < k → g i = g' i) : ∀ n, n < k → qs_c f g n = qs_c f' g' n :=
  fun n hn => qs_congr (fun i hi => by rw [hf i (by omega), hg (n - i) (by omega)])
def qs_p (f : Nat → Kq) : Nat → Nat → Kq
  | 0 => qs_k 1
  | n + 1 => qs_c (qs_p f n) f
abbrev qs_T : Type := Nat → Kq
theorem qs_k_add (a b : Kq) : qs_k (a + b) = fun i => qs_k a i + qs_k b i := by
  funext i
  unfold qs_k
  by_cases h : i = 0
  · rw [if_pos h, if_pos h, if_pos h]
  · rw [if_neg h, if_neg h, if_neg h]; grind
theorem qs_k_neg (a : Kq) : qs_k (- a) = fun i => - qs_k a i := by
  funext i
  unfold qs_k
  by_cases h : i = 0
  · rw [if_pos h, if_pos h]
  · rw [if_neg h, if_neg h]; grind
theorem qs_k_z (i : Nat) : qs_k 0 i = 0 := by
  unfold qs_k
  by_cases h : i = 0
  · rw [if_pos h]
  · rw [if_neg h]
def qs_R : Lean.Grind.CommRing qs_T where
  add := fun f g i => f i + g i
  mul := fun f g => qs_c f g
  natCast := ⟨fun n => qs_k (kq_n n)⟩
  ofNat := fun n => ⟨qs_k (kq_n n)⟩
  nsmul := ⟨fun n f => qs_c (qs_k (kq_n n)) f⟩
  npow := ⟨fun f n => qs_p f n⟩
  neg := fun f i => - f i
  sub := fun f g i => f i - g i
  intCast := ⟨fun z => qs_k (kq_i z)⟩
  zsmul := ⟨fun z f => qs_c (qs_k (kq_i z)) f⟩
  add_zero := fun a => funext fun i => by
    show a i + qs_k 0 i = a i
    rw [qs_k_z]; grind
  add_comm := fun a b => funext fun i => by
    show a i + b i = b i + a i
    grind
  add_assoc := fun a b c => funext fun i => by
    show a i + b i + c i = a i + (b i + c i)
    grind
  mul_assoc := fun a b c => qs_c_assoc a b c
  mul_comm := fun a b => qs_c_comm a b
  mul_one := fun a => by
    show qs_c a (qs_k 1) = a
    rw [qs_c_comm, qs_c_k]
    funext i; grind
  one_mul := fun a => by
    show qs_c (qs_k 1) a = a
    rw [qs_c_k]
    funext i; grind
  left_distrib := fun a b c => qs_c_add a b c
  right_distrib := fun a b c => by
    show qs_c (fun i => a i + b i) c = fun i => qs_c a c i + qs_c b c i
    rw [qs_c_comm, qs_c_add, qs_c_comm c a, qs_c_comm c b]
  mul_zero := fun a => by
    show qs_c a (qs_k 0) = qs_k 0
    rw [qs_c_comm, qs_c_k]
    funext i; rw [qs_k_z]; grind
  zero_mul := fun a => by
    show qs_c (qs_k 0) a = qs_k 0
    rw [qs_c_k]
    funext i; rw [qs_k_z]; grind
  pow_zero := fun _ => rfl
  pow_succ := fun _ _ => rfl
  ofNat_succ := fun n => by
    show qs_k (kq_n (n + 1)) = fun i => qs_k (kq_n n) i + qs_k 1 i
    rw [kq_n_s, qs_k_add]
  neg_add_cancel := fun a => funext fun i => by
    show - a i + a i = qs_k 0 i
    rw [qs_k_z]; grind
  sub_eq_add_neg := fun a b => funext fun i => by
    show a i - b i = a i + - b i
    grind
  neg_zsmul := fun z a => by
    show qs_c (qs_k (kq_i (-z))) a = fun i => - (qs_c (qs_k (kq_i z)) a i)
    rw [qs_c_k, qs_c_k, kq_i_neg]
    funext i; grind
  zsmul_natCast_eq_nsmul := fun n a => by
    show qs_c (qs_k (kq_i (n : Int))) a = qs_c (qs_k (kq_n n)) a
    rw [kq_i_n]
  intCast_ofNat := fun n => by
    show qs_k (kq_i (n : Int)) = qs_k (kq_n n)
    rw [kq_i_n]
  intCast_neg := fun z => by
    show qs_k (kq_i (-z)) = fun i => - qs_k (kq_i z) i
    rw [kq_i_neg, qs_k_neg]
end
section
/-! orders of series, derivatives, what Newton's steps do; all series are endless, what lies behind 32 is never looked at -/
theorem ra_inv {R : Type} [Lean.Grind.CommRing R] (a g : R) : 1 - a * ((2 - a * g) * g) = (1 - a * g) * (1 - a * g) := by grind
theorem ra_uni {R : Type} [Lean.Grind.CommRing R] (a g h : R) : g - h = g * (1 - a * h) - h * (1 - a * g) := by grind
theorem ra_sq {R : Type} [Lean.Grind.CommRing R] (r s t : R) : r - s * t = t * ((r * r - s) + s * (1 - r * t)) + (1 - r * t) * (r - s * t) := by grind
theorem ra_sq2 {R : Type} [Lean.Grind.CommRing R] (c r s t : R) (h : 2 * c = 1) : (c * (r + s * t)) * (c * (r + s * t)) - s = c * c * ((r - s * t) * (r - s * t)) - s * (1 - r * t) := by grind
theorem ra_dif {R : Type} [Lean.Grind.CommRing R] (r m s : R) : (r - m) * (r + m) = (r * r - s) - (m * m - s) := by grind
theorem ra_exp {R : Type} [Lean.Grind.CommRing R] (E D e d l s w : R) (hw : w = l * E - e) (hd : d = s - l) : s * (E * (1 + D)) - (e * (1 + D) + E * d) = E * (D * d) + w * (1 + D) := by grind
theorem ra_log {R : Type} [Lean.Grind.CommRing R] (l E e t : R) : l * E - e = (l - e * t) * E - e * (1 - E * t) := by grind
theorem ra_dd {R : Type} [Lean.Grind.CommRing R] (s l E e : R) : (s - l) * E = (s * E - e) - (l * E - e) := by grind
theorem ra_lu {R : Type} [Lean.Grind.CommRing R] (l m S d : R) : (l - m) * S = (l * S - d) - (m * S - d) := by grind

def qs_o (k : Nat) (f : Nat → Kq) : Prop := ∀ i, i < k → f i = 0
theorem qs_o_le {k l : Nat} {f : Nat → Kq} (h : qs_o k f) (hl : l ≤ k) : qs_o l f := fun i hi => h i (by omega)
theorem qs_o_0 (f : Nat → Kq) : qs_o 0 f := fun i hi => by omega
theorem qs_o_add {k : Nat} {f g : Nat → Kq} (hf : qs_o k f) (hg : qs_o k g) : qs_o k (fun i => f i + g i) := fun i hi => by
  show f i + g i = 0
  rw [hf i hi, hg i hi]; grind
theorem qs_o_sub {k : Nat} {f g : Nat → Kq} (hf : qs_o k f) (hg : qs_o k g) : qs_o k (fun i => f i - g i) := fun i hi => by
  show f i - g i = 0
  rw [hf i hi, hg i hi]; grind
theorem qs_o_mul {a b : Nat} {f g : Nat → Kq} (hf : qs_o a f) (hg : qs_o b g) : qs_o (a + b) (qs_c f g) := fun n hn =>
  qs_zero (fun i hi => by
    by_cases h : i < a
    · rw [hf i h]; grind
    · rw [hg (n - i) (by omega)]; grind)
theorem qs_o_c {a : Nat} {f : Nat → Kq} (hf : qs_o a f) (g : Nat → Kq) : qs_o a (qs_c f g) := qs_o_mul (b := 0) hf (qs_o_0 g)
theorem qs_o_c' {a : Nat} {f : Nat → Kq} (hf : qs_o a f) (g : Nat → Kq) : qs_o a (qs_c g f) := by rw [qs_c_comm]; exact qs_o_c hf g
theorem qs_o_eq {k : Nat} {f g : Nat → Kq} (h : qs_o k (fun i => f i - g i)) : ∀ i, i < k → f i = g i := fun i hi => by
  have e : f i - g i = 0 := h i hi
  grind
theorem qs_c_at0 (f g : Nat → Kq) : qs_c f g 0 = f 0 * g 0 := by
  show qs_m (0 + 1) (fun i => f i * g (0 - i)) = _
  rw [qs_m_s, qs_m_0]; show 0 + f 0 * g 0 = _; grind
theorem qs_can {k : Nat} {f u : Nat → Kq} {c : Kq} (hc : c * u 0 = 1) (h : qs_o k (qs_c f u)) : qs_o k f := by
  intro n
  induction n using Nat.strongRecOn with
  | ind n ih =>
    intro hn
    have e := h n hn
    have e2 : qs_c f u n = f n * u 0 := by
      show qs_m (n + 1) (fun i => f i * u (n - i)) = _
      rw [qs_m_s, qs_zero (fun i hi => by rw [ih i hi (by omega)]; grind), Nat.sub_self]; grind
    rw [e2] at e
    grind

def qs_d (f : Nat → Kq) : Nat → Kq := fun n => kq_n (n + 1) * f (n + 1)
theorem qs_d_sub (f g : Nat → Kq) : qs_d (fun i => f i - g i) = fun i => qs_d f i - qs_d g i := by
  funext n
  show kq_n (n + 1) * (f (n + 1) - g (n + 1)) = kq_n (n + 1) * f (n + 1) - kq_n (n + 1) * g (n + 1)
  grind
theorem qs_d_one (f : Nat → Kq) : qs_d (fun i => qs_k 1 i + f i) = qs_d f := by
  funext n
  show kq_n (n + 1) * (qs_k 1 (n + 1) + f (n + 1)) = kq_n (n + 1) * f (n + 1)
  rw [qs_k_s 1 (by omega)]; grind
theorem qs_d_mul (f g : Nat → Kq) : qs_d (qs_c f g) = fun i => qs_c (qs_d f) g i + qs_c f (qs_d g) i := by
  funext n
  have e1 : qs_m (n + 2) (fun i => kq_n i * f i * g (n + 1 - i)) = qs_c (qs_d f) g n := by
    rw [qs_front]
    have z : kq_n 0 * f 0 * g (n + 1 - 0) = 0 := by rw [kq_n_0]; grind
    rw [z]
    have e : qs_m (n + 1) (fun i => kq_n (i + 1) * f (i + 1) * g (n + 1 - (i + 1))) = qs_c (qs_d f) g n :=
      qs_congr (fun i hi => by rw [show n + 1 - (i + 1) = n - i by omega]; rfl)
    rw [e]; grind
  have e2 : qs_m (n + 2) (fun i => f i * (kq_n (n + 1 - i) * g (n + 1 - i))) = qs_c f (qs_d g) n := by
    rw [qs_m_s, Nat.sub_self, kq_n_0]
    have e : qs_m (n + 1) (fun i => f i * (kq_n (n + 1 - i) * g (n + 1 - i))) = qs_c f (qs_d g) n :=
      qs_congr (fun i hi => by
        show _ = f i * (kq_n (n - i + 1) * g (n - i + 1))
        rw [show n + 1 - i = n - i + 1 by omega])
    rw [e]; grind
  show kq_n (n + 1) * qs_m (n + 2) (fun i => f i * g (n + 1 - i)) = _
  rw [← e1, ← e2, ← qs_add, ← qs_mulL]
  refine qs_congr (fun i hi => ?_)
  have e := kq_n_add i (n + 1 - i)
  rw [show i + (n + 1 - i) = n + 1 by omega] at e
  rw [e]; grind
theorem qs_o_d {k : Nat} {f : Nat → Kq} (h : qs_o k f) : qs_o (k - 1) (qs_d f) := fun i hi => by
  show kq_n (i + 1) * f (i + 1) = 0
  rw [h (i + 1) (by omega)]; grind

theorem qn_inv (a g : Nat → Kq) : (fun i => qs_k 1 i - qs_c a (qs_c (fun i => qs_k 2 i - qs_c a g i) g) i) = qs_c (fun i => qs_k 1 i - qs_c a g i) (fun i => qs_k 1 i - qs_c a g i) := @ra_inv qs_T qs_R a g
theorem qn_uni {k : Nat} {a g h : Nat → Kq} (hg : qs_o k (fun i => qs_k 1 i - qs_c a g i)) (hh : qs_o k (fun i => qs_k 1 i - qs_c a h i)) : ∀ i, i < k → g i = h i := by
  refine qs_o_eq ?_
  have e : (fun i => g i - h i) = fun i => qs_c g (fun i => qs_k 1 i - qs_c a h i) i - qs_c h (fun i => qs_k 1 i - qs_c a g i) i := @ra_uni qs_T qs_R a g h
  rw [e]
  exact qs_o_sub (qs_o_c' hh g) (qs_o_c' hg h)
theorem qn_root {k : Nat} {c : Kq} {r s t : Nat → Kq} (hc : 2 * c = 1) (hk : 2 * k ≤ 32) (hr : qs_o k (fun i => qs_c r r i - s i)) (ht : qs_o 32 (fun i => qs_k 1 i - qs_c r t i)) :
    qs_o (2 * k) (fun i => qs_c (fun i => c * (r i + qs_c s t i)) (fun i => c * (r i + qs_c s t i)) i - s i) := by
  have e1 : (fun i => r i - qs_c s t i) = fun i => qs_c t (fun i => (qs_c r r i - s i) + qs_c s (fun i => qs_k 1 i - qs_c r t i) i) i + qs_c (fun i => qs_k 1 i - qs_c r t i) (fun i => r i - qs_c s t i) i := @ra_sq qs_T qs_R r s t
  have h1 : qs_o k (fun i => r i - qs_c s t i) := by
    rw [e1]
    exact qs_o_add (qs_o_c' (qs_o_add hr (qs_o_c' (qs_o_le ht (by omega)) s)) t) (qs_o_c (qs_o_le ht (by omega)) _)
  have hc2 : (fun i => qs_c (qs_k 2) (qs_k c) i) = qs_k 1 := by
    rw [qs_c_k]
    funext i
    show 2 * (if i = 0 then c else 0) = if i = 0 then 1 else 0
    by_cases h : i = 0
    · rw [if_pos h, if_pos h]; exact hc
    · rw [if_neg h, if_neg h]; grind
  have e2 : (fun i => qs_c (qs_c (qs_k c) (fun i => r i + qs_c s t i)) (qs_c (qs_k c) (fun i => r i + qs_c s t i)) i - s i) = fun i => qs_c (qs_c (qs_k c) (qs_k c)) (qs_c (fun i => r i - qs_c s t i) (fun i => r i - qs_c s t i)) i - qs_c s (fun i => qs_k 1 i - qs_c r t i) i := @ra_sq2 qs_T qs_R (qs_k c) r s t hc2
  rw [qs_c_k] at e2
  rw [e2]
  refine qs_o_sub (qs_o_c' ?_ _) (qs_o_c' (qs_o_le ht hk) s)
  have h2 := qs_o_mul h1 h1
  exact qs_o_le h2 (by omega)
theorem qn_rootU {k : Nat} {r m s : Nat → Kq} (hr0 : r 0 = 1) (hm0 : m 0 = 1) (hr : qs_o k (fun i => qs_c r r i - s i)) (hm : qs_o k (fun i => qs_c m m i - s i)) : ∀ i, i < k → r i = m i := by
  refine qs_o_eq (qs_can (u := fun i => r i + m i) (c := 6145) ?_ ?_)
  · show 6145 * (r 0 + m 0) = 1
    rw [hr0, hm0]; decide
  · have e : qs_c (fun i => r i - m i) (fun i => r i + m i) = fun i => (qs_c r r i - s i) - (qs_c m m i - s i) := @ra_dif qs_T qs_R r m s
    rw [e]
    exact qs_o_sub hr hm

/-- l is the logarithm of E, as far as 32 coefficients tell -/
def qn_L (E l : Nat → Kq) : Prop := l 0 = 0 ∧ qs_o 31 (fun i => qs_c (qs_d l) E i - qs_d E i)
theorem qn_Lof {E l t : Nat → Kq} (h0 : l 0 = 0) (ht : qs_o 32 (fun i => qs_k 1 i - qs_c E t i)) (hl : ∀ i, i < 31 → qs_d l i = qs_c (qs_d E) t i) : qn_L E l := by
  refine ⟨h0, ?_⟩
  have e : (fun i => qs_c (qs_d l) E i - qs_d E i) = fun i => qs_c (fun i => qs_d l i - qs_c (qs_d E) t i) E i - qs_c (qs_d E) (fun i => qs_k 1 i - qs_c E t i) i := @ra_log qs_T qs_R (qs_d l) E (qs_d E) t
  rw [e]
  refine qs_o_sub (qs_o_c (fun i hi => ?_) E) (qs_o_c' (qs_o_le ht (by omega)) _)
  show qs_d l i - qs_c (qs_d E) t i = 0
  rw [hl i hi]; grind
theorem qn_int {k : Nat} {f : Nat → Kq} (hk : k ≤ 31) (h0 : f 0 = 0) (h : qs_o k (qs_d f)) (hu : ∀ i, 1 ≤ i → i < 32 → ∃ c : Kq, c * kq_n i = 1) : qs_o (k + 1) f := by
  intro i hi
  cases i with
  | zero => exact h0
  | succ i =>
    have e : kq_n (i + 1) * f (i + 1) = 0 := h i (by omega)
    obtain ⟨c, hc⟩ := hu (i + 1) (by omega) (by omega)
    grind
theorem qn_LU {E l m : Nat → Kq} (hE : E 0 = 1) (hl : qn_L E l) (hm : qn_L E m) (hu : ∀ i, 1 ≤ i → i < 32 → ∃ c : Kq, c * kq_n i = 1) : ∀ i, i < 32 → l i = m i := by
  refine qs_o_eq (qn_int (k := 31) (by omega) ?_ ?_ hu)
  · show l 0 - m 0 = 0
    rw [hl.1, hm.1]; grind
  · refine qs_can (u := E) (c := 1) (by rw [hE]; grind) ?_
    rw [qs_d_sub]
    have e : qs_c (fun i => qs_d l i - qs_d m i) E = fun i => (qs_c (qs_d l) E i - qs_d E i) - (qs_c (qs_d m) E i - qs_d E i) := @ra_lu qs_T qs_R (qs_d l) (qs_d m) E (qs_d E)
    rw [e]
    exact qs_o_sub hl.2 hm.2
theorem qn_exp {k : Nat} {s E l : Nat → Kq} (hk : 1 ≤ k) (hk2 : 2 * k ≤ 32) (hs : s 0 = 0) (hE : E 0 = 1) (hl : qn_L E l) (hi : qs_o (k - 1) (fun i => qs_c (qs_d s) E i - qs_d E i)) (hu : ∀ i, 1 ≤ i → i < 32 → ∃ c : Kq, c * kq_n i = 1) :
    qs_c E (fun i => qs_k 1 i + (s i - l i)) 0 = 1 ∧ qs_o (2 * k - 1) (fun i => qs_c (qs_d s) (qs_c E (fun i => qs_k 1 i + (s i - l i))) i - qs_d (qs_c E (fun i => qs_k 1 i + (s i - l i))) i) := by
  constructor
  · rw [qs_c_at0, hE]
    show 1 * (qs_k 1 0 + (s 0 - l 0)) = 1
    rw [hs, hl.1, qs_k_0]; grind
  · have hd0 : qs_d (fun i => s i - l i) = fun i => qs_d s i - qs_d l i := qs_d_sub s l
    have hdE : qs_o (k - 1) (qs_c (fun i => qs_d s i - qs_d l i) E) := by
      have e : qs_c (fun i => qs_d s i - qs_d l i) E = fun i => (qs_c (qs_d s) E i - qs_d E i) - (qs_c (qs_d l) E i - qs_d E i) := @ra_dd qs_T qs_R (qs_d s) (qs_d l) E (qs_d E)
      rw [e]
      exact qs_o_sub hi (qs_o_le hl.2 (by omega))
    have hd : qs_o (k - 1) (fun i => qs_d s i - qs_d l i) := qs_can (u := E) (c := 1) (by rw [hE]; grind) hdE
    have hD : qs_o k (fun i => s i - l i) := by
      have := qn_int (k := k - 1) (f := fun i => s i - l i) (by omega) (by show s 0 - l 0 = 0; rw [hs, hl.1]; grind) (by rw [hd0]; exact hd) hu
      rw [show k - 1 + 1 = k by omega] at this
      exact this
    have e : (fun i => qs_c (qs_d s) (qs_c E (fun i => qs_k 1 i + (s i - l i))) i - (qs_c (qs_d E) (fun i => qs_k 1 i + (s i - l i)) i + qs_c E (fun i => qs_d s i - qs_d l i) i)) = fun i => qs_c E (qs_c (fun i => s i - l i) (fun i => qs_d s i - qs_d l i)) i + qs_c (fun i => qs_c (qs_d l) E i - qs_d E i) (fun i => qs_k 1 i + (s i - l i)) i :=
      @ra_exp qs_T qs_R E (fun i => s i - l i) (qs_d E) (fun i => qs_d s i - qs_d l i) (qs_d l) (qs_d s) (fun i => qs_c (qs_d l) E i - qs_d E i) rfl rfl
    rw [qs_d_mul, qs_d_one, hd0, e]
    refine qs_o_add (qs_o_c' ?_ E) (qs_o_c (qs_o_le hl.2 (by omega)) _)
    exact qs_o_le (qs_o_mul hD hd) (by omega)
theorem qn_ode {s g : Nat → Kq} (h0 : g 0 = 0) (h : qs_o 31 (fun i => qs_c (qs_d s) g i - qs_d g i)) (hu : ∀ i, 1 ≤ i → i < 32 → ∃ c : Kq, c * kq_n i = 1) : qs_o 32 g := by
  intro n
  induction n using Nat.strongRecOn with
  | ind n ih =>
    intro hn
    cases n with
    | zero => exact h0
    | succ n =>
      have e : qs_c (qs_d s) g n - kq_n (n + 1) * g (n + 1) = 0 := h n (by omega)
      have z : qs_c (qs_d s) g n = 0 := qs_zero (fun i hi => by rw [ih (n - i) (by omega) (by omega)]; grind)
      obtain ⟨c, hc⟩ := hu (n + 1) (by omega) (by omega)
      rw [z] at e
      grind
theorem ra_ode {R : Type} [Lean.Grind.CommRing R] (d f m a b : R) : d * (f - m) - (a - b) = (d * f - a) - (d * m - b) := by grind
theorem qn_expU {s f m : Nat → Kq} (hf0 : f 0 = 1) (hm0 : m 0 = 1) (hf : qs_o 31 (fun i => qs_c (qs_d s) f i - qs_d f i)) (hm : qs_o 31 (fun i => qs_c (qs_d s) m i - qs_d m i)) (hu : ∀ i, 1 ≤ i → i < 32 → ∃ c : Kq, c * kq_n i = 1) : ∀ i, i < 32 → f i = m i := by
  refine qs_o_eq (qn_ode (s := s) ?_ ?_ hu)
  · show f 0 - m 0 = 0
    rw [hf0, hm0]; grind
  · rw [qs_d_sub]
    have e : (fun i => qs_c (qs_d s) (fun i => f i - m i) i - (qs_d f i - qs_d m i)) = fun i => (qs_c (qs_d s) f i - qs_d f i) - (qs_c (qs_d s) m i - qs_d m i) := @ra_ode qs_T qs_R (qs_d s) f m (qs_d f) (qs_d m)
    rw [e]
    exact qs_o_sub hf hm

def qs_h (s : Nat) (f : Nat → Kq) : Nat → Kq := fun i => if i < s then 0 else f (i - s)
theorem qs_h_lt {s i : Nat} {f : Nat → Kq} (h : i < s) : qs_h s f i = 0 := if_pos h
theorem qs_h_ge {s i : Nat} {f : Nat → Kq} (h : s ≤ i) : qs_h s f i = f (i - s) := if_neg (by omega)
theorem qs_h_c (s : Nat) (f g : Nat → Kq) : qs_c (qs_h s f) g = qs_h s (qs_c f g) := by
  funext n
  by_cases h : n < s
  · rw [qs_h_lt h]
    exact qs_zero (fun i hi => by rw [qs_h_lt (by omega)]; grind)
  · rw [qs_h_ge (by omega)]
    show qs_m (n + 1) (fun i => qs_h s f i * g (n - i)) = qs_m (n - s + 1) (fun i => f i * g (n - s - i))
    rw [show n + 1 = s + (n - s + 1) by omega, qs_app, qs_zero (fun i hi => by rw [qs_h_lt hi]; grind)]
    have e : qs_m (n - s + 1) (fun i => qs_h s f (s + i) * g (n - (s + i))) = qs_m (n - s + 1) (fun i => f i * g (n - s - i)) :=
      qs_congr (fun i hi => by rw [qs_h_ge (by omega), show s + i - s = i by omega, show n - (s + i) = n - s - i by omega])
    rw [e]; grind
theorem qs_h_c' (s : Nat) (f g : Nat → Kq) : qs_c f (qs_h s g) = qs_h s (qs_c f g) := by
  rw [qs_c_comm, qs_h_c, qs_c_comm]
theorem qs_h_h (s t : Nat) (f : Nat → Kq) : qs_h s (qs_h t f) = qs_h (s + t) f := by
  funext i
  by_cases h : i < s
  · rw [qs_h_lt h, qs_h_lt (by omega)]
  · by_cases h2 : i < s + t
    · rw [qs_h_lt h2, qs_h_ge (by omega), qs_h_lt (by omega)]
    · rw [qs_h_ge (by omega), qs_h_ge (by omega), qs_h_ge (by omega), show i - s - t = i - (s + t) by omega]
theorem qs_c_add' (f g h : Nat → Kq) : qs_c (fun i => f i + g i) h = fun i => qs_c f h i + qs_c g h i := by
  rw [qs_c_comm, qs_c_add, qs_c_comm h f, qs_c_comm h g]
/-- a product of what ends at a with what ends at b ends ahead of a + b -/
theorem qs_c_end {a b : Nat} {f g : Nat → Kq} (hf : ∀ i, a ≤ i → f i = 0) (hg : ∀ i, b ≤ i → g i = 0) : ∀ n, a + b ≤ n + 1 → qs_c f g n = 0 := fun n hn =>
  qs_zero (fun i hi => by
    by_cases h : a ≤ i
    · rw [hf i h]; grind
    · rw [hg (n - i) (by omega)]; grind)
end
section
/-! loops, powers, Fermat for 12289, the tables -/
theorem ql_up {S : Type} (W : Nat → Nat → S → Prop) (f : Nat → S → S) (I : Nat → S → Prop) (e : Nat)
    (hs : ∀ n i s, i < e → I i s → W n (i + 1) (f i s) → W (n + 1) i s)
    (hi : ∀ i s, i < e → I i s → I (i + 1) (f i s))
    (hx : ∀ n s, I e s → W (n + 1) e s) : ∀ m i s, i + m = e → I i s → ∀ n, m < n → W n i s := by
  intro m
  induction m with
  | zero =>
    intro i s h hI n hn
    obtain ⟨k, rfl⟩ : ∃ k, n = k + 1 := ⟨n - 1, by omega⟩
    have e' : i = e := by omega
    subst e'
    exact hx k s hI
  | succ m ih =>
    intro i s h hI n hn
    obtain ⟨k, rfl⟩ : ∃ k, n = k + 1 := ⟨n - 1, by omega⟩
    exact hs k i s (by omega) hI (ih (i + 1) _ (by omega) (hi i s (by omega) hI) k (by omega))
theorem ql_ex {S : Type} (W : Nat → Nat → S → Prop) (f : Nat → S → S) (I : Nat → S → Prop) (e i0 : Nat) (s0 : S)
    (hs : ∀ n i s, i < e → I i s → W n (i + 1) (f i s) → W (n + 1) i s)
    (hi : ∀ i s, i < e → I i s → I (i + 1) (f i s))
    (hx : ∀ n s, I e s → W (n + 1) e s) (h : i0 ≤ e) (h0 : I i0 s0) : ∃ n, W n i0 s0 :=
  ⟨e - i0 + 1, ql_up W f I e hs hi hx (e - i0) i0 s0 (by omega) h0 _ (by omega)⟩
/-- downwards: k is what is left -/
theorem ql_dn {S : Type} (W : Nat → Nat → S → Prop) (f : Nat → S → S) (I : Nat → S → Prop) (e : Nat) (s0 : S)
    (hs : ∀ n k s, k < e → I (k + 1) s → W n k (f k s) → W (n + 1) (k + 1) s)
    (hi : ∀ k s, k < e → I (k + 1) s → I k (f k s))
    (hx : ∀ n s, I 0 s → W (n + 1) 0 s) (h0 : I e s0) : ∃ n, W n e s0 := by
  have key : ∀ k s, k ≤ e → I k s → W (k + 1) k s := by
    intro k
    induction k with
    | zero => exact fun s _ h => hx 0 s h
    | succ k ih => exact fun s hk h => hs (k + 1) k s (by omega) h (ih _ (by omega) (hi k s (by omega) h))
  exact ⟨e + 1, key e s0 (Nat.le_refl e) h0⟩

def qp (a : Kq) : Nat → Kq
  | 0 => 1
  | n + 1 => qp a n * a
theorem qp_0 (a : Kq) : qp a 0 = 1 := rfl
theorem qp_s (a : Kq) (n : Nat) : qp a (n + 1) = qp a n * a := rfl
theorem qp_1 (a : Kq) : qp a 1 = a := by rw [qp_s, qp_0]; grind
theorem qp_add (a : Kq) (m n : Nat) : qp a (m + n) = qp a m * qp a n := by
  induction n with
  | zero => rw [qp_0]; show qp a m = _; grind
  | succ n ih => rw [← Nat.add_assoc, qp_s, qp_s, ih]; grind
theorem qp_sq (a : Kq) (n : Nat) : qp (a * a) n = qp a (2 * n) := by
  induction n with
  | zero => rfl
  | succ n ih => rw [show 2 * (n + 1) = 2 * n + 1 + 1 by omega, qp_s, qp_s, qp_s, ih]; grind
theorem qp_mul (a : Kq) (m n : Nat) : qp a (m * n) = qp (qp a m) n := by
  induction n with
  | zero => rfl
  | succ n ih => rw [Nat.mul_succ, qp_add, ih, qp_s]
theorem qp_one (n : Nat) : qp 1 n = 1 := by
  induction n with
  | zero => rfl
  | succ n ih => rw [qp_s, ih]; grind
theorem qp_mb (a b : Kq) (n : Nat) : qp (a * b) n = qp a n * qp b n := by
  induction n with
  | zero => rw [qp_0, qp_0, qp_0]; grind
  | succ n ih => rw [qp_s, qp_s, qp_s, ih]; grind

theorem xw_power7 (post : Int32 → Prop) : ∀ (n e : Nat) (r s : Kq), e < n → e < 2 ^ 31 → post (kq_c (r * qp s e)) → wX_power_7 post n (kq_c r) (kq_c s) (nI e) := by
  intro n
  induction n with
  | zero => intro e r s h; omega
  | succ n ih =>
    intro e r s hn he hp
    by_cases h0 : e = 0
    · subst h0
      have h : r * qp s 0 = r := by rw [qp_0]; grind
      rw [h] at hp
      exact br_t (show nI 0 ≤ 0 from by decide) hp
    · refine br_f (nI_nle (by omega) he) ?_
      have ea : nI e &&& 1 = nI (e % 2) := pk_andN (m := 1) (by omega) 1 (by decide)
      have es : nI e >>> ((1 : Int32) &&& 31) = nI (e / 2) := pk_shrN he _ 1 (by decide)
      have tail : ∀ r' : Kq, r' * qp (s * s) (e / 2) = r * qp s e → wX_power_30 post (wX_power_7 post n) (kq_c s) (nI e) (kq_c r') := by
        intro r' hr
        refine ⟨by decide, nm_r (kq_mul s s) (nm_r es ?_)⟩
        exact ih (e / 2) r' (s * s) (by omega) (by omega) (by rw [hr]; exact hp)
      by_cases h2 : e % 2 = 0
      · refine br_t (by rw [ea, h2]; rfl) (tail r ?_)
        rw [qp_sq, show 2 * (e / 2) = e by omega]
      · refine br_f (by rw [ea, show e % 2 = 1 by omega]; decide) ⟨by decide, ?_⟩
        rw [kq_mul]
        refine tail (r * s) ?_
        have h3 : qp s e = qp s (2 * (e / 2)) * s := by rw [← qp_s, show 2 * (e / 2) + 1 = e by omega]
        rw [qp_sq, h3]; grind
theorem xw_power (post : Int32 → Prop) (a : Kq) (e : Nat) (he : e < 2 ^ 31) (h : post (kq_c (qp a e))) : wpX_power post (kq_c a) (nI e) := by
  refine ⟨e + 1, xw_power7 post (e + 1) e 1 a (by omega) he ?_⟩
  have h1 : 1 * qp a e = qp a e := by grind
  rw [h1]; exact h

def qf_s (a x : Nat) : Nat := x * x % 12289 * a % 12289
def qf_p (a : Nat) : Nat := qf_s a (qf_s a (qf_s a (qf_s a (qf_s a (qf_s a (qf_s a (qf_s a (qf_s a (qf_s a (qf_s a (qf_s a (a * a % 12289))))))))))))
def qf_t (a : Nat) : Bool := a == 0 || Nat.ble 12289 a || (qf_p a * a % 12289 == 1)
def qf_k (f : Nat → Bool) : Nat → Nat → Bool
  | 0, a => f a
  | d + 1, a => qf_k f d a && qf_k f d (a + 2 ^ d)
theorem qf_k_all (f : Nat → Bool) : ∀ d a, qf_k f d a = true → ∀ x, a ≤ x → x < a + 2 ^ d → f x = true := by
  intro d
  induction d with
  | zero =>
    intro a h x h1 h2
    rw [show x = a by have : (2 : Nat) ^ 0 = 1 := rfl; omega]; exact h
  | succ d ih =>
    intro a h x h1 h2
    have h' : (qf_k f d a && qf_k f d (a + 2 ^ d)) = true := h
    rw [Bool.and_eq_true] at h'
    have e : (2 : Nat) ^ (d + 1) = 2 ^ d + 2 ^ d := by rw [Nat.pow_succ]; omega
    by_cases c : x < a + 2 ^ d
    · exact ih a h'.1 x h1 c
    · exact ih (a + 2 ^ d) h'.2 x (by omega) (by omega)
theorem qf_ok : qf_k qf_t 14 0 = true := by decide +kernel
theorem kq_n_mod (m : Nat) : kq_n (m % 12289) = kq_n m := Fin.ext (Nat.mod_mod m 12289)
theorem qf_s_n (a x e : Nat) (h : kq_n x = qp (kq_n a) e) : kq_n (qf_s a x) = qp (kq_n a) (2 * e + 1) := by
  unfold qf_s
  rw [kq_n_mod, kq_n_mul, kq_n_mod, kq_n_mul, h, qp_s, show 2 * e = e + e by omega, qp_add]
theorem qf_p_n (a : Nat) : kq_n (qf_p a) = qp (kq_n a) 12287 := by
  unfold qf_p
  refine qf_s_n a _ 6143 (qf_s_n a _ 3071 (qf_s_n a _ 1535 (qf_s_n a _ 767 (qf_s_n a _ 383 (qf_s_n a _ 191 (qf_s_n a _ 95 (qf_s_n a _ 47 (qf_s_n a _ 23 (qf_s_n a _ 11 (qf_s_n a _ 5 (qf_s_n a _ 2 ?_)))))))))))
  rw [kq_n_mod, kq_n_mul, show (2 : Nat) = 1 + 1 from rfl, qp_add, qp_1]
/-- Fermat -/
theorem qf_inv (a : Kq) (h : a ≠ 0) : qp a 12287 * a = 1 := by
  have ha := a.isLt
  have h0 : a.val ≠ 0 := fun z => h (Fin.ext z)
  have t := qf_k_all qf_t 14 0 qf_ok a.val (by omega) (by omega)
  unfold qf_t at t
  have h1 : (a.val == 0) = false := by rw [beq_eq_false_iff_ne]; exact h0
  have h2 : Nat.ble 12289 a.val = false := by
    cases hb : Nat.ble 12289 a.val with
    | false => rfl
    | true => have := Nat.le_of_ble_eq_true hb; omega
  rw [h1, h2, Bool.false_or, Bool.false_or, beq_iff_eq] at t
  have e := qf_p_n a.val
  rw [kq_n_v] at e
  rw [← e]
  have e2 : kq_n (qf_p a.val) * a = kq_n (qf_p a.val * a.val % 12289) := by rw [kq_n_mod, kq_n_mul, kq_n_v]
  rw [e2, t]; rfl

def qt_I (i : Nat) : Kq := if i < 64 ∧ i ≠ 0 then qp (kq_n i) 12287 else 0
def qt_k : Nat → Kq
  | 0 => 1
  | n + 1 => qt_k n * kq_n (n + 1)
def qt_g : Nat → Kq
  | 0 => 1
  | n + 1 => qt_g n * qt_I (n + 1)
def qt_F (i : Nat) : Kq := if i < 32 then qt_k i else 0
def qt_G (i : Nat) : Kq := if i < 32 then qt_g i else 0
theorem kq_n_ne0 {i : Nat} (h0 : i ≠ 0) (h : i < 12289) : kq_n i ≠ 0 := fun z => h0 (by
  have e : (kq_n i).val = 0 := by rw [z]; rfl
  rw [kq_n_small h] at e; exact e)
theorem qt_I_at {i : Nat} (h0 : i ≠ 0) (h : i < 64) : qt_I i = qp (kq_n i) 12287 := if_pos ⟨h, h0⟩
theorem qt_I_1 {i : Nat} (h0 : i ≠ 0) (h : i < 64) : qt_I i * kq_n i = 1 := by
  rw [qt_I_at h0 h]; exact qf_inv _ (kq_n_ne0 h0 (by omega))
theorem qt_I_2 : qt_I 2 = 6145 := by
  have h := qt_I_1 (i := 2) (by decide) (by decide)
  have e : kq_n 2 = 2 := rfl
  rw [e] at h
  generalize qt_I 2 = x at h
  grind
theorem qt_I_3 : qt_I 3 = 8193 := by
  have h := qt_I_1 (i := 3) (by decide) (by decide)
  have e : kq_n 3 = 3 := rfl
  rw [e] at h
  generalize qt_I 3 = x at h
  grind
theorem qt_kg (n : Nat) (h : n < 64) : qt_k n * qt_g n = 1 := by
  induction n with
  | zero => show (1 : Kq) * 1 = 1; grind
  | succ n ih =>
    have e := qt_I_1 (i := n + 1) (by omega) h
    have i' := ih (by omega)
    show qt_k n * kq_n (n + 1) * (qt_g n * qt_I (n + 1)) = 1
    grind
theorem qt_u (i : Nat) (h0 : 1 ≤ i) (h : i < 32) : ∃ c : Kq, c * kq_n i = 1 := ⟨qt_I i, qt_I_1 (by omega) (by omega)⟩
end
section
section
variable {zR zI zF zG zsA zsB zsC zga zgi ztA ztB ztC zwA zwB zpw : Nat → Int32}
/-! loops that write rows or arrays; the small methods of X -/
theorem ql_row (W : Nat → Nat → (Nat → Nat → Kq) → Prop) (t : Nat) (v : Nat → (Nat → Nat → Kq) → Kq) (e i0 : Nat) (R : Nat → Nat → Kq) (g : Nat → Kq)
    (hs : ∀ n i Q, i < e → W n (i + 1) (kq_w Q t i (v i Q)) → W (n + 1) i Q)
    (hv : ∀ i Q, i0 ≤ i → i < e → (∀ b, i0 ≤ b → b < i → Q t b = g b) → (∀ a b, (a ≠ t ∨ i ≤ b) → Q a b = R a b) → v i Q = g i)
    (hx : ∀ n Q, (∀ a b, Q a b = if a = t ∧ i0 ≤ b ∧ b < e then g b else R a b) → W (n + 1) e Q) (h : i0 ≤ e) : ∃ n, W n i0 R := by
  refine ql_ex W (fun i Q => kq_w Q t i (v i Q)) (fun k Q => i0 ≤ k ∧ ∀ a b, Q a b = if a = t ∧ i0 ≤ b ∧ b < k then g b else R a b) e i0 R (fun n i Q hi _ hW => hs n i Q hi hW) ?_ (fun n Q hQ => hx n Q hQ.2) h ?_
  · intro k Q hk hQ
    refine ⟨by omega, fun a b => ?_⟩
    have e1 : v k Q = g k := by
      refine hv k Q hQ.1 hk (fun b h1 h2 => ?_) (fun a b hab => ?_)
      · rw [hQ.2 t b, if_pos (by omega)]
      · rw [hQ.2 a b, if_neg (by omega)]
    show (if a = t ∧ b = k then v k Q else Q a b) = _
    rw [e1, hQ.2 a b]
    by_cases h1 : a = t ∧ b = k
    · rw [if_pos h1, if_pos (by omega), h1.2]
    · rw [if_neg h1]
      by_cases h2 : a = t ∧ i0 ≤ b ∧ b < k
      · rw [if_pos h2, if_pos (by omega)]
      · rw [if_neg h2, if_neg (by omega)]
  · exact ⟨Nat.le_refl _, fun a b => by rw [if_neg (by omega)]⟩
theorem ql_row32 (W : Nat → Nat → (Nat → Nat → Kq) → Prop) (t : Nat) (v : Nat → (Nat → Nat → Kq) → Kq) (R : Nat → Nat → Kq) (g : Nat → Kq)
    (hs : ∀ n i Q, i < 32 → W n (i + 1) (kq_w Q t i (v i Q)) → W (n + 1) i Q)
    (hv : ∀ i Q, i < 32 → (∀ b, b < i → Q t b = g b) → (∀ a b, (a ≠ t ∨ i ≤ b) → Q a b = R a b) → v i Q = g i)
    (hx : ∀ n Q, kq_r Q = kq_r (kq_s R t g) → W (n + 1) 32 Q) : ∃ n, W n 0 R := by
  refine ql_row W t v 32 0 R g hs (fun i Q _ hi h1 h2 => hv i Q hi (fun b hb => h1 b (by omega) hb) h2) (fun n Q hQ => hx n Q (kq_r_ext fun a b hb => ?_)) (by decide)
  rw [hQ a b]
  show _ = if a = t then g b else R a b
  by_cases h : a = t
  · rw [if_pos h, if_pos ⟨h, by omega, hb⟩]
  · rw [if_neg h, if_neg (fun z => h z.1)]
theorem ql_arr (W : Nat → Nat → (Nat → Kq) → Prop) (v : Nat → (Nat → Kq) → Kq) (e i0 : Nat) (f0 g : Nat → Kq)
    (hs : ∀ n i f, i < e → W n (i + 1) (kq_u f i (v i f)) → W (n + 1) i f)
    (hv : ∀ i f, i0 ≤ i → i < e → (∀ j, i0 ≤ j → j < i → f j = g j) → (∀ j, (i ≤ j ∨ j < i0) → f j = f0 j) → v i f = g i)
    (hx : ∀ n f, (∀ j, f j = if i0 ≤ j ∧ j < e then g j else f0 j) → W (n + 1) e f) (h : i0 ≤ e) : ∃ n, W n i0 f0 := by
  refine ql_ex W (fun i f => kq_u f i (v i f)) (fun k f => i0 ≤ k ∧ ∀ j, f j = if i0 ≤ j ∧ j < k then g j else f0 j) e i0 f0 (fun n i f hi _ hW => hs n i f hi hW) ?_ (fun n f hf => hx n f hf.2) h ?_
  · intro k f hk hf
    refine ⟨by omega, fun j => ?_⟩
    have e1 : v k f = g k := by
      refine hv k f hf.1 hk (fun b h1 h2 => ?_) (fun b hb => ?_)
      · rw [hf.2 b, if_pos (by omega)]
      · rw [hf.2 b, if_neg (by omega)]
    show (if j = k then v k f else f j) = _
    rw [e1, hf.2 j]
    by_cases h1 : j = k
    · rw [if_pos h1, if_pos (by omega), h1]
    · rw [if_neg h1]
      by_cases h2 : i0 ≤ j ∧ j < k
      · rw [if_pos h2, if_pos (by omega)]
      · rw [if_neg h2, if_neg (by omega)]
  · exact ⟨Nat.le_refl _, fun j => by rw [if_neg (by omega)]⟩
/-- what is written at i is reckoned from what lies below i -/
theorem ql_rec (W : Nat → Nat → (Nat → Kq) → Prop) (v : Nat → (Nat → Kq) → Kq) (e i0 : Nat) (f0 : Nat → Kq)
    (hs : ∀ n i f, i < e → W n (i + 1) (kq_u f i (v i f)) → W (n + 1) i f)
    (hv : ∀ i f f', (∀ j, j < i → f j = f' j) → v i f = v i f')
    (hx : ∀ n f, (∀ j, i0 ≤ j → j < e → f j = v j f) → (∀ j, j < i0 → f j = f0 j) → W (n + 1) e f) (h : i0 ≤ e) : ∃ n, W n i0 f0 := by
  refine ql_ex W (fun i f => kq_u f i (v i f)) (fun k f => i0 ≤ k ∧ (∀ j, i0 ≤ j → j < k → f j = v j f) ∧ (∀ j, j < i0 → f j = f0 j)) e i0 f0 (fun n i f hi _ hW => hs n i f hi hW) ?_ (fun n f hf => hx n f hf.2.1 hf.2.2) h ?_
  · intro k f hk hf
    refine ⟨by omega, fun j h1 h2 => ?_, fun j hj => ?_⟩
    · have e1 : v j (kq_u f k (v k f)) = v j f := hv j _ _ (fun l hl => kq_u_n (by omega))
      rw [e1]
      by_cases h3 : j = k
      · rw [h3, kq_u_s]
      · rw [kq_u_n h3]; exact hf.2.1 j h1 (by omega)
    · rw [kq_u_n (by omega)]; exact hf.2.2 j hj
  · exact ⟨Nat.le_refl _, fun j h1 h2 => by omega, fun j _ => rfl⟩

theorem xi_r32 (r i : Nat) : nI r * 32 + nI i = nI (r * 32 + i) := by rw [show nI r * 32 = nI (r * 32) from pk_mul r 32, nI_add]
theorem xw_cell (post : Int32 → Prop) {R : Nat → Nat → Kq}  {r i : Nat} (hr : r < 12) (hi : i < 32) : wpX_cell post (kq_r R, zI, zF, zG, zsA, zsB, zsC, zga, zgi, ztA, ztB, ztC, zwA, zwB, zpw) (nI r) (nI i) = post (kq_c (R r i)) := by
  show (vp_in (nI r * 32 + nI i) 384 ∧ post (kq_r R (nI r * 32 + nI i).toNatClampNeg)) = _
  rw [xi_r32, zb_in (by omega) (by omega), true_and, nI_clamp (by omega), kq_r_at R hi]
theorem xw_write (post : SX → Prop) {R : Nat → Nat → Kq}  {r i : Nat} (hr : r < 12) (hi : i < 32) (v : Kq) : wpX_write post (kq_r R, zI, zF, zG, zsA, zsB, zsC, zga, zgi, ztA, ztB, ztC, zwA, zwB, zpw) (nI r) (nI i) (kq_c v) = post (kq_r (kq_w R r i v), zI, zF, zG, zsA, zsB, zsC, zga, zgi, ztA, ztB, ztC, zwA, zwB, zpw) := by
  show (vp_in (nI r * 32 + nI i) 384 ∧ ∀ y, y = upd (kq_r R) (nI r * 32 + nI i).toNatClampNeg (kq_c v) → post (y, zI, zF, zG, zsA, zsB, zsC, zga, zgi, ztA, ztB, ztC, zwA, zwB, zpw)) = _
  rw [xi_r32, zb_in (by omega) (by omega), true_and, nI_clamp (by omega), kq_r_w R hi, forall_eq]
theorem xw_cell5 (post : Int32 → Prop) {R : Nat → Nat → Kq}  {i : Nat} (hi : i < 32) : wpX_cell post (kq_r R, zI, zF, zG, zsA, zsB, zsC, zga, zgi, ztA, ztB, ztC, zwA, zwB, zpw) 5 (nI i) = post (kq_c (R 5 i)) := xw_cell (r := 5) post (by decide) hi
theorem xw_cell6 (post : Int32 → Prop) {R : Nat → Nat → Kq}  {i : Nat} (hi : i < 32) : wpX_cell post (kq_r R, zI, zF, zG, zsA, zsB, zsC, zga, zgi, ztA, ztB, ztC, zwA, zwB, zpw) 6 (nI i) = post (kq_c (R 6 i)) := xw_cell (r := 6) post (by decide) hi
theorem xw_cell7 (post : Int32 → Prop) {R : Nat → Nat → Kq}  {i : Nat} (hi : i < 32) : wpX_cell post (kq_r R, zI, zF, zG, zsA, zsB, zsC, zga, zgi, ztA, ztB, ztC, zwA, zwB, zpw) 7 (nI i) = post (kq_c (R 7 i)) := xw_cell (r := 7) post (by decide) hi
theorem xw_cell8 (post : Int32 → Prop) {R : Nat → Nat → Kq}  {i : Nat} (hi : i < 32) : wpX_cell post (kq_r R, zI, zF, zG, zsA, zsB, zsC, zga, zgi, ztA, ztB, ztC, zwA, zwB, zpw) 8 (nI i) = post (kq_c (R 8 i)) := xw_cell (r := 8) post (by decide) hi
theorem xw_cell9 (post : Int32 → Prop) {R : Nat → Nat → Kq}  {i : Nat} (hi : i < 32) : wpX_cell post (kq_r R, zI, zF, zG, zsA, zsB, zsC, zga, zgi, ztA, ztB, ztC, zwA, zwB, zpw) 9 (nI i) = post (kq_c (R 9 i)) := xw_cell (r := 9) post (by decide) hi
theorem xw_cell10 (post : Int32 → Prop) {R : Nat → Nat → Kq}  {i : Nat} (hi : i < 32) : wpX_cell post (kq_r R, zI, zF, zG, zsA, zsB, zsC, zga, zgi, ztA, ztB, ztC, zwA, zwB, zpw) 10 (nI i) = post (kq_c (R 10 i)) := xw_cell (r := 10) post (by decide) hi
theorem xw_cell11 (post : Int32 → Prop) {R : Nat → Nat → Kq}  {i : Nat} (hi : i < 32) : wpX_cell post (kq_r R, zI, zF, zG, zsA, zsB, zsC, zga, zgi, ztA, ztB, ztC, zwA, zwB, zpw) 11 (nI i) = post (kq_c (R 11 i)) := xw_cell (r := 11) post (by decide) hi
theorem xw_write5 (post : SX → Prop) {R : Nat → Nat → Kq}  {i : Nat} (hi : i < 32) (v : Kq) : wpX_write post (kq_r R, zI, zF, zG, zsA, zsB, zsC, zga, zgi, ztA, ztB, ztC, zwA, zwB, zpw) 5 (nI i) (kq_c v) = post (kq_r (kq_w R 5 i v), zI, zF, zG, zsA, zsB, zsC, zga, zgi, ztA, ztB, ztC, zwA, zwB, zpw) := xw_write (r := 5) post (by decide) hi v
theorem xw_write6 (post : SX → Prop) {R : Nat → Nat → Kq}  {i : Nat} (hi : i < 32) (v : Kq) : wpX_write post (kq_r R, zI, zF, zG, zsA, zsB, zsC, zga, zgi, ztA, ztB, ztC, zwA, zwB, zpw) 6 (nI i) (kq_c v) = post (kq_r (kq_w R 6 i v), zI, zF, zG, zsA, zsB, zsC, zga, zgi, ztA, ztB, ztC, zwA, zwB, zpw) := xw_write (r := 6) post (by decide) hi v
theorem xw_write7 (post : SX → Prop) {R : Nat → Nat → Kq}  {i : Nat} (hi : i < 32) (v : Kq) : wpX_write post (kq_r R, zI, zF, zG, zsA, zsB, zsC, zga, zgi, ztA, ztB, ztC, zwA, zwB, zpw) 7 (nI i) (kq_c v) = post (kq_r (kq_w R 7 i v), zI, zF, zG, zsA, zsB, zsC, zga, zgi, ztA, ztB, ztC, zwA, zwB, zpw) := xw_write (r := 7) post (by decide) hi v
theorem xw_write8 (post : SX → Prop) {R : Nat → Nat → Kq}  {i : Nat} (hi : i < 32) (v : Kq) : wpX_write post (kq_r R, zI, zF, zG, zsA, zsB, zsC, zga, zgi, ztA, ztB, ztC, zwA, zwB, zpw) 8 (nI i) (kq_c v) = post (kq_r (kq_w R 8 i v), zI, zF, zG, zsA, zsB, zsC, zga, zgi, ztA, ztB, ztC, zwA, zwB, zpw) := xw_write (r := 8) post (by decide) hi v
theorem xw_write9 (post : SX → Prop) {R : Nat → Nat → Kq}  {i : Nat} (hi : i < 32) (v : Kq) : wpX_write post (kq_r R, zI, zF, zG, zsA, zsB, zsC, zga, zgi, ztA, ztB, ztC, zwA, zwB, zpw) 9 (nI i) (kq_c v) = post (kq_r (kq_w R 9 i v), zI, zF, zG, zsA, zsB, zsC, zga, zgi, ztA, ztB, ztC, zwA, zwB, zpw) := xw_write (r := 9) post (by decide) hi v
theorem xw_write10 (post : SX → Prop) {R : Nat → Nat → Kq}  {i : Nat} (hi : i < 32) (v : Kq) : wpX_write post (kq_r R, zI, zF, zG, zsA, zsB, zsC, zga, zgi, ztA, ztB, ztC, zwA, zwB, zpw) 10 (nI i) (kq_c v) = post (kq_r (kq_w R 10 i v), zI, zF, zG, zsA, zsB, zsC, zga, zgi, ztA, ztB, ztC, zwA, zwB, zpw) := xw_write (r := 10) post (by decide) hi v
theorem xw_write11 (post : SX → Prop) {R : Nat → Nat → Kq}  {i : Nat} (hi : i < 32) (v : Kq) : wpX_write post (kq_r R, zI, zF, zG, zsA, zsB, zsC, zga, zgi, ztA, ztB, ztC, zwA, zwB, zpw) 11 (nI i) (kq_c v) = post (kq_r (kq_w R 11 i v), zI, zF, zG, zsA, zsB, zsC, zga, zgi, ztA, ztB, ztC, zwA, zwB, zpw) := xw_write (r := 11) post (by decide) hi v
theorem xw_copyRow (post : SX → Prop) {R : Nat → Nat → Kq}  {f t : Nat} (hf : f < 12) (ht : t < 12) (h : post (kq_r (kq_s R t (R f)), zI, zF, zG, zsA, zsB, zsC, zga, zgi, ztA, ztB, ztC, zwA, zwB, zpw)) : wpX_copyRow post (kq_r R, zI, zF, zG, zsA, zsB, zsC, zga, zgi, ztA, ztB, ztC, zwA, zwB, zpw) (nI f) (nI t) := by
  refine ql_row32 (fun n i Q => wX_copyRow_2 post (nI f) (nI t) n (nI i) (kq_r (Q)) (zI) (zF) (zG) (zsA) (zsB) (zsC) (zga) (zgi) (ztA) (ztB) (ztC) (zwA) (zwB) (zpw)) t (fun i Q => Q f i) R (R f) ?_ ?_ ?_
  · intro n i Q hi hW
    refine br_f (nI_ge (b := 32) hi (by decide)) ?_
    simp (disch := omega) only [xi_r32, zb_in, zb_ne, true_and, nI_clamp, kq_r_at, kq_r_w, kq_f_at, kq_f_u, forall_eq, nI_1, kq_mul, kq_mac, kq_mca, kq_add, xw_plus, xw_minus, xw_cell, xw_write, xw_cell5, xw_write5, xw_cell6, xw_write6, xw_cell7, xw_write7, xw_cell8, xw_write8, xw_cell9, xw_write9, xw_cell10, xw_write10, xw_cell11, xw_write11]
    exact hW
  · intro i Q hi _ h2
    exact h2 f i (Or.inr (Nat.le_refl i))
  · intro n Q hQ
    refine br_t (nI_le (a := 32) (Nat.le_refl 32) (by decide)) ?_
    rw [hQ]; exact h
theorem xw_clearRow (post : SX → Prop) {R : Nat → Nat → Kq}  {t : Nat} (ht : t < 12) (h : post (kq_r (kq_s R t (fun _ => 0)), zI, zF, zG, zsA, zsB, zsC, zga, zgi, ztA, ztB, ztC, zwA, zwB, zpw)) : wpX_clearRow post (kq_r R, zI, zF, zG, zsA, zsB, zsC, zga, zgi, ztA, ztB, ztC, zwA, zwB, zpw) (nI t) := by
  refine ql_row32 (fun n i Q => wX_clearRow_2 post (nI t) n (nI i) (kq_r (Q)) (zI) (zF) (zG) (zsA) (zsB) (zsC) (zga) (zgi) (ztA) (ztB) (ztC) (zwA) (zwB) (zpw)) t (fun _ _ => 0) R (fun _ => 0) ?_ ?_ ?_
  · intro n i Q hi hW
    refine br_f (nI_ge (b := 32) hi (by decide)) ?_
    have e : upd (kq_r Q) (t * 32 + i) 0 = kq_r (kq_w Q t i 0) := kq_r_w Q hi 0
    simp (disch := omega) only [xi_r32, zb_in, zb_ne, true_and, nI_clamp, kq_r_at, kq_r_w, kq_f_at, kq_f_u, forall_eq, nI_1, kq_mul, kq_mac, kq_mca, kq_add, xw_plus, xw_minus, xw_cell, xw_write, xw_cell5, xw_write5, xw_cell6, xw_write6, xw_cell7, xw_write7, xw_cell8, xw_write8, xw_cell9, xw_write9, xw_cell10, xw_write10, xw_cell11, xw_write11, e]
    exact hW
  · intro i Q hi _ h2; rfl
  · intro n Q hQ
    refine br_t (nI_le (a := 32) (Nat.le_refl 32) (by decide)) ?_
    rw [hQ]; exact h

/-- Horner -/
def qh_v (f : Nat → Kq) (x : Kq) : Nat → Kq → Kq
  | 0, v => v
  | k + 1, v => qh_v f x k (v * x + f k)
theorem xi_m1 : nI 0 + (-1) < 0 := by decide
theorem xi_31 : (31 : Int32) = nI 32 + (-1) := by decide
theorem xi_62 : (62 : Int32) = nI 63 + (-1) := by decide
theorem xi_63 : (63 : Int32) = nI 64 + (-1) := by decide
theorem xw_valueAt6 (post : Int32 → Prop) {R : Nat → Nat → Kq}  {r : Nat} (hr : r < 12) (x : Kq) : ∀ (k : Nat) (v : Kq) (n : Nat), k ≤ 32 → k < n → post (kq_c (qh_v (R r) x k v)) → wX_valueAt_6 post (nI r) (kq_c x) (kq_r R) (zI) (zF) (zG) (zsA) (zsB) (zsC) (zga) (zgi) (ztA) (ztB) (ztC) (zwA) (zwB) (zpw) n (kq_c v) (nI k + (-1)) := by
  intro k
  induction k with
  | zero =>
    intro v n _ hn h
    obtain ⟨m, rfl⟩ : ∃ m, n = m + 1 := ⟨n - 1, by omega⟩
    exact br_t xi_m1 h
  | succ k ih =>
    intro v n hk hn h
    obtain ⟨m, rfl⟩ : ∃ m, n = m + 1 := ⟨n - 1, by omega⟩
    rw [pk_m1]
    refine br_f (nI_pos (by omega)) ?_
    simp (disch := omega) only [xi_r32, zb_in, zb_ne, true_and, nI_clamp, kq_r_at, kq_r_w, kq_f_at, kq_f_u, forall_eq, nI_1, kq_mul, kq_mac, kq_mca, kq_add, xw_plus, xw_minus, xw_cell, xw_write, xw_cell5, xw_write5, xw_cell6, xw_write6, xw_cell7, xw_write7, xw_cell8, xw_write8, xw_cell9, xw_write9, xw_cell10, xw_write10, xw_cell11, xw_write11]
    exact ih _ _ (by omega) (by omega) h
theorem xw_valueAt (post : Int32 → Prop) {R : Nat → Nat → Kq}  {r : Nat} (hr : r < 12) (x : Kq) (h : post (kq_c (qh_v (R r) x 32 0))) : wpX_valueAt post (kq_r R, zI, zF, zG, zsA, zsB, zsC, zga, zgi, ztA, ztB, ztC, zwA, zwB, zpw) (nI r) (kq_c x) := by
  show ∃ n, wX_valueAt_6 post (nI r) (kq_c x) (kq_r R) (zI) (zF) (zG) (zsA) (zsB) (zsC) (zga) (zgi) (ztA) (ztB) (ztC) (zwA) (zwB) (zpw) n 0 31
  rw [xi_31]
  exact ⟨33, xw_valueAt6 post hr x 32 0 33 (by decide) (by decide) h⟩
theorem qh_v_sum (f : Nat → Kq) (x : Kq) : ∀ k v, qh_v f x k v = v * qp x k + qs_m k (fun i => f i * qp x i) := by
  intro k
  induction k with
  | zero => intro v; show v = v * 1 + 0; grind
  | succ k ih =>
    intro v
    show qh_v f x k (v * x + f k) = _
    rw [ih, qp_s, qs_m_s]; grind

/-- one more than the degree -/
def qd_g (f : Nat → Kq) : Nat → Nat
  | 0 => 0
  | k + 1 => if f k = 0 then qd_g f k else k + 1
theorem xw_degreeOf3 (post : Int32 → Prop) {R : Nat → Nat → Kq}  {r : Nat} (hr : r < 12) : ∀ (k n : Nat), k ≤ 32 → k < n → post (nI (qd_g (R r) k) + (-1)) → wX_degreeOf_3 post (nI r) (kq_r R) (zI) (zF) (zG) (zsA) (zsB) (zsC) (zga) (zgi) (ztA) (ztB) (ztC) (zwA) (zwB) (zpw) n (nI k + (-1)) := by
  intro k
  induction k with
  | zero =>
    intro n _ hn h
    obtain ⟨m, rfl⟩ : ∃ m, n = m + 1 := ⟨n - 1, by omega⟩
    exact br_t xi_m1 h
  | succ k ih =>
    intro n hk hn h
    obtain ⟨m, rfl⟩ : ∃ m, n = m + 1 := ⟨n - 1, by omega⟩
    rw [pk_m1]
    refine br_f (nI_pos (by omega)) ?_
    simp (disch := omega) only [xi_r32, zb_in, zb_ne, true_and, nI_clamp, kq_r_at, kq_r_w, kq_f_at, kq_f_u, forall_eq, nI_1, kq_mul, kq_mac, kq_mca, kq_add, xw_plus, xw_minus, xw_cell, xw_write, xw_cell5, xw_write5, xw_cell6, xw_write6, xw_cell7, xw_write7, xw_cell8, xw_write8, xw_cell9, xw_write9, xw_cell10, xw_write10, xw_cell11, xw_write11]
    by_cases z : R r k = 0
    · refine br_t (by rw [z]; rfl) ?_
      refine ih _ (by omega) (by omega) ?_
      have e : qd_g (R r) (k + 1) = qd_g (R r) k := if_pos z
      rw [e] at h; exact h
    · refine br_f (by rw [kq_c_eq0]; exact z) ?_
      have e : qd_g (R r) (k + 1) = k + 1 := if_neg z
      rw [e, pk_m1] at h; exact h
theorem xw_degreeOf (post : Int32 → Prop) {R : Nat → Nat → Kq}  {r : Nat} (hr : r < 12) (h : post (nI (qd_g (R r) 32) + (-1))) : wpX_degreeOf post (kq_r R, zI, zF, zG, zsA, zsB, zsC, zga, zgi, ztA, ztB, ztC, zwA, zwB, zpw) (nI r) := by
  show ∃ n, wX_degreeOf_3 post (nI r) (kq_r R) (zI) (zF) (zG) (zsA) (zsB) (zsC) (zga) (zgi) (ztA) (ztB) (ztC) (zwA) (zwB) (zpw) n 31
  rw [xi_31]
  exact ⟨33, xw_degreeOf3 post hr 32 33 (by decide) (by decide) h⟩
theorem xw_turnRow (post : SX → Prop) {R : Nat → Nat → Kq}  {f t d : Nat} (hf : f < 12) (ht : t < 12) (hft : f ≠ t) (hd : d < 32) (h : post (kq_r (kq_s R t (fun i => if i ≤ d then R f (d - i) else 0)), zI, zF, zG, zsA, zsB, zsC, zga, zgi, ztA, ztB, ztC, zwA, zwB, zpw)) : wpX_turnRow post (kq_r R, zI, zF, zG, zsA, zsB, zsC, zga, zgi, ztA, ztB, ztC, zwA, zwB, zpw) (nI f) (nI t) (nI d) := by
  refine ql_row32 (fun n i Q => wX_turnRow_3 post (nI f) (nI t) (nI d) n (nI i) (kq_r (Q)) (zI) (zF) (zG) (zsA) (zsB) (zsC) (zga) (zgi) (ztA) (ztB) (ztC) (zwA) (zwB) (zpw)) t (fun i Q => if i ≤ d then Q f (d - i) else 0) R (fun i => if i ≤ d then R f (d - i) else 0) ?_ ?_ ?_
  · intro n i Q hi hW
    refine br_f (nI_ge (b := 32) hi (by decide)) ?_
    by_cases c : i ≤ d
    · rw [if_pos c] at hW
      refine br_f (nI_nlt c (by omega)) ?_
      rw [pk_sub c]
      simp (disch := omega) only [xi_r32, zb_in, zb_ne, true_and, nI_clamp, kq_r_at, kq_r_w, kq_f_at, kq_f_u, forall_eq, nI_1, kq_mul, kq_mac, kq_mca, kq_add, xw_plus, xw_minus, xw_cell, xw_write, xw_cell5, xw_write5, xw_cell6, xw_write6, xw_cell7, xw_write7, xw_cell8, xw_write8, xw_cell9, xw_write9, xw_cell10, xw_write10, xw_cell11, xw_write11, wX_turnRow_29]
      exact hW
    · rw [if_neg c] at hW
      refine br_t (nI_lt (by omega) (by omega)) ?_
      have e := xw_write (fun u => match u with | (zR, zI, zF, zG, zsA, zsB, zsC, zga, zgi, ztA, ztB, ztC, zwA, zwB, zpw) => (∀ y, y = nI i + 1 → wX_turnRow_3 post (nI f) (nI t) (nI d) n y (zR) (zI) (zF) (zG) (zsA) (zsB) (zsC) (zga) (zgi) (ztA) (ztB) (ztC) (zwA) (zwB) (zpw))) (R := Q) (zI := zI) (zF := zF) (zG := zG) (zsA := zsA) (zsB := zsB) (zsC := zsC) (zga := zga) (zgi := zgi) (ztA := ztA) (ztB := ztB) (ztC := ztC) (zwA := zwA) (zwB := zwB) (zpw := zpw) ht hi 0
      show wpX_write _ _ _ _ (kq_c 0)
      refine cast e.symm ?_
      simp only [forall_eq, nI_1]
      exact hW
  · intro i Q hi _ h2
    show (if i ≤ d then Q f (d - i) else 0) = if i ≤ d then R f (d - i) else 0
    rw [h2 f (d - i) (Or.inl hft)]
  · intro n Q hQ
    refine br_t (nI_le (a := 32) (Nat.le_refl 32) (by decide)) ?_
    rw [hQ]; exact h

theorem xw_plain13 (post : SX → Prop) {J : Int32 → (Nat → Int32) → (Nat → Int32) → (Nat → Int32) → (Nat → Int32) → (Nat → Int32) → (Nat → Int32) → (Nat → Int32) → (Nat → Int32) → (Nat → Int32) → (Nat → Int32) → (Nat → Int32) → (Nat → Int32) → (Nat → Int32) → (Nat → Int32) → (Nat → Int32) → Prop} {R : Nat → Nat → Kq}  {a b k : Nat} (ha : a < 12) (hb : b < 12) (hk : k < 32) : ∀ (m i : Nat) (s : Kq) (n : Nat), i + m = k + 1 → m < n → J (nI k + (-1)) (kq_r (kq_w R 5 k (s + qs_m m (fun l => R a (i + l) * R b (k - (i + l)))))) (zI) (zF) (zG) (zsA) (zsB) (zsC) (zga) (zgi) (ztA) (ztB) (ztC) (zwA) (zwB) (zpw) → wX_multiplyPlain_13 post J (nI a) (nI b) (nI k) (kq_r R) (zI) (zF) (zG) (zsA) (zsB) (zsC) (zga) (zgi) (ztA) (ztB) (ztC) (zwA) (zwB) (zpw) n (kq_c s) (nI i) := by
  intro m
  induction m with
  | zero =>
    intro i s n hi hn h
    obtain ⟨n', rfl⟩ : ∃ m, n = m + 1 := ⟨n - 1, by omega⟩
    refine br_t (nI_lt (by omega) (by omega)) ?_
    simp (disch := omega) only [xi_r32, zb_in, zb_ne, true_and, nI_clamp, kq_r_at, kq_r_w, kq_f_at, kq_f_u, forall_eq, nI_1, kq_mul, kq_mac, kq_mca, kq_add, xw_plus, xw_minus, xw_cell, xw_write, xw_cell5, xw_write5, xw_cell6, xw_write6, xw_cell7, xw_write7, xw_cell8, xw_write8, xw_cell9, xw_write9, xw_cell10, xw_write10, xw_cell11, xw_write11]
    have e : s + qs_m 0 (fun l => R a (i + l) * R b (k - (i + l))) = s := by rw [qs_m_0]; grind
    rw [e] at h; exact h
  | succ m ih =>
    intro i s n hi hn h
    obtain ⟨n', rfl⟩ : ∃ m, n = m + 1 := ⟨n - 1, by omega⟩
    refine br_f (nI_nlt (by omega) (by omega)) ?_
    rw [pk_sub (show i ≤ k by omega)]
    simp (disch := omega) only [xi_r32, zb_in, zb_ne, true_and, nI_clamp, kq_r_at, kq_r_w, kq_f_at, kq_f_u, forall_eq, nI_1, kq_mul, kq_mac, kq_mca, kq_add, xw_plus, xw_minus, xw_cell, xw_write, xw_cell5, xw_write5, xw_cell6, xw_write6, xw_cell7, xw_write7, xw_cell8, xw_write8, xw_cell9, xw_write9, xw_cell10, xw_write10, xw_cell11, xw_write11]
    refine ih (i + 1) _ n' (by omega) (by omega) ?_
    have e : s + qs_m (m + 1) (fun l => R a (i + l) * R b (k - (i + l))) = s + R a i * R b (k - i) + qs_m m (fun l => R a (i + 1 + l) * R b (k - (i + 1 + l))) := by
      rw [qs_front]
      have e2 : qs_m m (fun l => R a (i + (l + 1)) * R b (k - (i + (l + 1)))) = qs_m m (fun l => R a (i + 1 + l) * R b (k - (i + 1 + l))) :=
        qs_congr (fun l _ => by rw [show i + (l + 1) = i + 1 + l by omega])
      rw [e2]
      show s + (R a (i + 0) * R b (k - (i + 0)) + _) = _
      rw [Nat.add_zero]; grind
    rw [e] at h; exact h
theorem xw_plain (post : SX → Prop) {R : Nat → Nat → Kq}  {a b : Nat} (ha : a < 12) (hb : b < 12) (ha5 : a ≠ 5) (hb5 : b ≠ 5) (h : post (kq_r (kq_s R 5 (qs_c (R a) (R b))), zI, zF, zG, zsA, zsB, zsC, zga, zgi, ztA, ztB, ztC, zwA, zwB, zpw)) : wpX_multiplyPlain post (kq_r R, zI, zF, zG, zsA, zsB, zsC, zga, zgi, ztA, ztB, ztC, zwA, zwB, zpw) (nI a) (nI b) := by
  show ∃ n, wX_multiplyPlain_3 post (nI a) (nI b) n 31 (kq_r R) (zI) (zF) (zG) (zsA) (zsB) (zsC) (zga) (zgi) (ztA) (ztB) (ztC) (zwA) (zwB) (zpw)
  rw [xi_31]
  refine ql_dn (fun n k (Q : Nat → Nat → Kq) => wX_multiplyPlain_3 post (nI a) (nI b) n (nI k + (-1)) (kq_r (Q)) (zI) (zF) (zG) (zsA) (zsB) (zsC) (zga) (zgi) (ztA) (ztB) (ztC) (zwA) (zwB) (zpw)) (fun k Q => kq_w Q 5 k (qs_c (Q a) (Q b) k)) (fun k Q => ∀ x y, Q x y = if x = 5 ∧ k ≤ y ∧ y < 32 then qs_c (R a) (R b) y else R x y) 32 R ?_ ?_ ?_ ?_
  · intro n k Q hk _ hW
    show wX_multiplyPlain_3 post (nI a) (nI b) (n + 1) (nI (k + 1) + (-1)) (kq_r (Q)) (zI) (zF) (zG) (zsA) (zsB) (zsC) (zga) (zgi) (ztA) (ztB) (ztC) (zwA) (zwB) (zpw)
    rw [pk_m1]
    refine br_f (nI_pos (by omega)) ⟨k + 2, ?_⟩
    refine xw_plain13 post ha hb hk (k + 1) 0 0 (k + 2) (by omega) (by omega) ?_
    have e : (0 : Kq) + qs_m (k + 1) (fun l => Q a (0 + l) * Q b (k - (0 + l))) = qs_c (Q a) (Q b) k := by
      have e2 : qs_m (k + 1) (fun l => Q a (0 + l) * Q b (k - (0 + l))) = qs_c (Q a) (Q b) k := qs_congr (fun l _ => by rw [Nat.zero_add])
      rw [e2]; grind
    rw [e]; exact hW
  · intro k Q hk hQ x y
    have ea : ∀ i, Q a i = R a i := fun i => by rw [hQ a i, if_neg (fun z => ha5 z.1)]
    have eb : ∀ i, Q b i = R b i := fun i => by rw [hQ b i, if_neg (fun z => hb5 z.1)]
    show (if x = 5 ∧ y = k then qs_c (Q a) (Q b) k else Q x y) = _
    rw [hQ x y, show Q a = R a from funext ea, show Q b = R b from funext eb]
    by_cases h1 : x = 5 ∧ y = k
    · rw [if_pos h1, if_pos (by omega), h1.2]
    · rw [if_neg h1]
      by_cases h2 : x = 5 ∧ k + 1 ≤ y ∧ y < 32
      · rw [if_pos h2, if_pos (by omega)]
      · rw [if_neg h2, if_neg (by omega)]
  · intro n Q hQ
    refine br_t xi_m1 ?_
    have e : kq_r Q = kq_r (kq_s R 5 (qs_c (R a) (R b))) := kq_r_ext fun x y hy => by
      rw [hQ x y]
      show _ = if x = 5 then qs_c (R a) (R b) y else R x y
      by_cases hx : x = 5
      · rw [if_pos hx, if_pos ⟨hx, by omega, hy⟩]
      · rw [if_neg hx, if_neg (fun z => hx z.1)]
    show post (kq_r (Q), zI, zF, zG, zsA, zsB, zsC, zga, zgi, ztA, ztB, ztC, zwA, zwB, zpw)
    rw [e]; exact h
  · intro x y
    rw [if_neg (by omega)]
end
end
section
section
variable {zR zI zF zG zsA zsB zsC zga zgi ztA ztB ztC zwA zwB zpw : Nat → Int32}
/-! engine 1: spreading and gathering, as the program does it -/
theorem qi_inj {h q q' i i' : Nat} (hi : i < h) (hi' : i' < h) (e : q * h + i = q' * h + i') : q = q' ∧ i = i' := by
  rcases Nat.lt_trichotomy q q' with c | c | c
  · have := Nat.mul_le_mul_right h (show q + 1 ≤ q' from c)
    rw [Nat.add_mul] at this; omega
  · subst c; omega
  · have := Nat.mul_le_mul_right h (show q' + 1 ≤ q from c)
    rw [Nat.add_mul] at this; omega
theorem qi_u {h q q' i i' : Nat} (f : Nat → Kq) (x : Kq) (hi : i < h) (hi' : i' < h) : kq_u f (q * h + i) x (q' * h + i') = if q' = q ∧ i' = i then x else f (q' * h + i') := by
  by_cases c : q' = q ∧ i' = i
  · rw [if_pos c, c.1, c.2, kq_u_s]
  · rw [if_neg c]
    exact kq_u_n (fun e => c (qi_inj hi' hi e))
def kq_a (f : Nat → Kq) (k : Nat) (x : Kq) : Nat → Kq := kq_u f k (f k + x)
theorem kq_a_at (f : Nat → Kq) (k : Nat) (x : Kq) (j : Nat) : kq_a f k x j = f j + (if j = k then x else 0) := by
  by_cases h : j = k
  · rw [if_pos h, h]; exact kq_u_s _ _ _
  · rw [if_neg h]
    have e : kq_a f k x j = f j := kq_u_n h
    rw [e]; grind
theorem xi_m2 (h : Nat) : (2 : Int32) * nI h = nI (2 * h) := pk_mul 2 h
theorem xi_m3 (h : Nat) : (3 : Int32) * nI h = nI (3 * h) := pk_mul 3 h
theorem xi_m4 (h : Nat) : (4 : Int32) * nI h = nI (4 * h) := pk_mul 4 h
theorem xi_m6 (h : Nat) : (6 : Int32) * nI h = nI (6 * h) := pk_mul 6 h
theorem xi_p2 (h : Nat) : nI h + 2 = nI (h + 2) := nI_add h 2
theorem xi_p4 (h : Nat) : nI h + 4 = nI (h + 4) := nI_add h 4
theorem xi_t2 (h : Nat) : nI h * 2 = nI (h * 2) := pk_mul h 2
theorem xi_t3 (h : Nat) : nI h * 3 = nI (h * 3) := pk_mul h 3
theorem xi_t4 (h : Nat) : nI h * 4 = nI (h * 4) := pk_mul h 4
theorem xw_spreadAt (post : SX → Prop)  {sA : Nat → Kq} {p h : Nat} (hb : p + 2 * h < 243) (lo hi : Kq) : wpX_spreadAt post (zR, zI, zF, zG, kq_f (sA), zsB, zsC, zga, zgi, ztA, ztB, ztC, zwA, zwB, zpw) (nI p) (nI h) (kq_c lo) (kq_c hi) = post (zR, zI, zF, zG, kq_f (kq_u (kq_u (kq_u sA p lo) (p + h) hi) (p + 2 * h) (lo + hi)), zsB, zsC, zga, zgi, ztA, ztB, ztC, zwA, zwB, zpw) := by
  unfold wpX_spreadAt
  simp (disch := omega) only [xi_m2, nI_add, xi_r32, zb_in, zb_ne, true_and, nI_clamp, kq_r_at, kq_r_w, kq_f_at, kq_f_u, forall_eq, nI_1, kq_mul, kq_mac, kq_mca, kq_add, xw_plus, xw_minus, xw_cell, xw_write, xw_cell5, xw_write5, xw_cell6, xw_write6, xw_cell7, xw_write7, xw_cell8, xw_write8, xw_cell9, xw_write9, xw_cell10, xw_write10, xw_cell11, xw_write11]
/-- the block b of size 2 h becomes three of size h -/
def qk_w (h b i : Nat) (lo hi : Kq) (f : Nat → Kq) : Nat → Kq := kq_u (kq_u (kq_u f (3 * b * h + i) lo) ((3 * b + 1) * h + i) hi) ((3 * b + 2) * h + i) (lo + hi)
def qk_t (h : Nat) (c f : Nat → Kq) (b i : Nat) : Prop := f (3 * b * h + i) = c (2 * b * h + i) ∧ f ((3 * b + 1) * h + i) = c ((2 * b + 1) * h + i) ∧ f ((3 * b + 2) * h + i) = c (2 * b * h + i) + c ((2 * b + 1) * h + i)
theorem qk_w_t {h b i b' i' : Nat} (c f : Nat → Kq) (hi : i < h) (hi' : i' < h) (H : (b' = b ∧ i' = i) ∨ qk_t h c f b' i') : qk_t h c (qk_w h b i (c (2 * b * h + i)) (c ((2 * b + 1) * h + i)) f) b' i' := by
  unfold qk_t qk_w
  by_cases e : b' = b ∧ i' = i
  · obtain ⟨rfl, rfl⟩ := e
    refine ⟨?_, ?_, ?_⟩
    · rw [qi_u _ _ hi hi, if_neg (by omega), qi_u _ _ hi hi, if_neg (by omega), kq_u_s]
    · rw [qi_u _ _ hi hi, if_neg (by omega), kq_u_s]
    · rw [kq_u_s]
  · have H' : qk_t h c f b' i' := H.resolve_left e
    refine ⟨?_, ?_, ?_⟩
    · rw [qi_u _ _ hi hi', if_neg (by omega), qi_u _ _ hi hi', if_neg (by omega), qi_u _ _ hi hi', if_neg (by omega)]; exact H'.1
    · rw [qi_u _ _ hi hi', if_neg (by omega), qi_u _ _ hi hi', if_neg (by omega), qi_u _ _ hi hi', if_neg (by omega)]; exact H'.2.1
    · rw [qi_u _ _ hi hi', if_neg (by omega), qi_u _ _ hi hi', if_neg (by omega), qi_u _ _ hi hi', if_neg (by omega)]; exact H'.2.2
theorem xw_spread40 (post : SX → Prop) {J : Int32 → Int32 → (Nat → Int32) → (Nat → Int32) → (Nat → Int32) → (Nat → Int32) → (Nat → Int32) → (Nat → Int32) → (Nat → Int32) → (Nat → Int32) → (Nat → Int32) → (Nat → Int32) → (Nat → Int32) → (Nat → Int32) → (Nat → Int32) → (Nat → Int32) → (Nat → Int32) → Prop}  {sC : Nat → Kq} {B h : Nat} (hB : 3 * B * h ≤ 243) (h0 : 0 < h) (h16 : h ≤ 16) (sA : Nat → Kq)
    (hJ : ∀ f, (∀ b i, b < B → i < h → qk_t h sC f b i) → J (nI (B * 3)) (nI (h / 2)) (zR) (zI) (zF) (zG) (kq_f (f)) (zsB) (kq_f (sC)) (zga) (zgi) (ztA) (ztB) (ztC) (zwA) (zwB) (zpw)) : ∃ n, wX_spread_40 post J (nI B) (nI h) n 0 (zR) (zI) (zF) (zG) (kq_f (sA)) (zsB) (kq_f (sC)) (zga) (zgi) (ztA) (ztB) (ztC) (zwA) (zwB) (zpw) := by
  have hBh : B ≤ B * h := Nat.le_mul_of_pos_right B h0
  have hb3 : 3 * B * h = 3 * (B * h) := Nat.mul_assoc 3 B h
  have hhB : B = 0 ∨ h ≤ B * h := by
    by_cases z : B = 0
    · exact Or.inl z
    · exact Or.inr (Nat.le_mul_of_pos_left h (by omega))
  refine pk_loop (fun n b (f : Nat → Kq) => wX_spread_40 post J (nI B) (nI h) n (nI b) (zR) (zI) (zF) (zG) (kq_f (f)) (zsB) (kq_f (sC)) (zga) (zgi) (ztA) (ztB) (ztC) (zwA) (zwB) (zpw)) (fun b f => ∀ b' i', b' < b → i' < h → qk_t h sC f b' i') B 0 sA (Nat.zero_le _) (fun b' i' hb => by omega) ?_ ?_
  · intro n f hf
    refine br_t (nI_le (Nat.le_refl B) (by omega)) (nm_r (xi_t3 B) ⟨by decide, nm_r (pk_div (d := 2) ?_ (by decide) (by decide)) (hJ f hf)⟩)
    omega
  · intro n b f hb hf K
    have q1 : (b + 1) * h ≤ B * h := Nat.mul_le_mul_right h hb
    rw [Nat.add_mul] at q1
    have e1 : 2 * b * h = 2 * (b * h) := Nat.mul_assoc 2 b h
    have e2 : (2 * b + 1) * h = 2 * (b * h) + h := by rw [Nat.add_mul, e1, Nat.one_mul]
    have e3 : 3 * b * h = 3 * (b * h) := Nat.mul_assoc 3 b h
    have e4 : (3 * b + 1) * h = 3 * (b * h) + h := by rw [Nat.add_mul, e3, Nat.one_mul]
    have e5 : (3 * b + 2) * h = 3 * (b * h) + 2 * h := by rw [Nat.add_mul, e3]
    refine br_f (nI_ge hb (by omega)) ?_
    refine ql_ex (fun n' i (f : Nat → Kq) => wX_spread_48 post J (wX_spread_40 post J (nI B) (nI h) n) (nI B) (nI h) (nI b) n' (nI i) (zR) (zI) (zF) (zG) (kq_f (f)) (zsB) (kq_f (sC)) (zga) (zgi) (ztA) (ztB) (ztC) (zwA) (zwB) (zpw)) (fun i f => qk_w h b i (sC (2 * b * h + i)) (sC ((2 * b + 1) * h + i)) f) (fun k f => ∀ b' i', i' < h → (b' < b ∨ (b' = b ∧ i' < k)) → qk_t h sC f b' i') h 0 f ?_ ?_ ?_ (Nat.zero_le _) (fun b' i' hi hb' => hf b' i' (by omega) hi)
    · intro n' i f hi _ hW
      refine br_f (nI_ge hi (by omega)) ?_
      simp (disch := omega) only [xi_m2, xi_m3, pk_mul, nI_add, xw_spreadAt, xi_r32, zb_in, zb_ne, true_and, nI_clamp, kq_r_at, kq_r_w, kq_f_at, kq_f_u, forall_eq, nI_1, kq_mul, kq_mac, kq_mca, kq_add, xw_plus, xw_minus, xw_cell, xw_write, xw_cell5, xw_write5, xw_cell6, xw_write6, xw_cell7, xw_write7, xw_cell8, xw_write8, xw_cell9, xw_write9, xw_cell10, xw_write10, xw_cell11, xw_write11]
      have w1 : 3 * b * h + i + h = (3 * b + 1) * h + i := by omega
      have w2 : 3 * b * h + i + 2 * h = (3 * b + 2) * h + i := by omega
      rw [w1, w2]
      exact hW
    · intro k f hk hI b' i' hi' hb'
      refine qk_w_t sC f hk hi' ?_
      by_cases c : b' = b ∧ i' = k
      · exact Or.inl c
      · exact Or.inr (hI b' i' hi' (by omega))
    · intro n' f hI
      refine br_t (nI_le (Nat.le_refl h) (by omega)) (nm_r (nI_1 b) (K f (fun b' i' hb' hi' => hI b' i' hi' (by omega))))
theorem xw_spread11 (post : SX → Prop) {J : Int32 → Int32 → (Nat → Int32) → (Nat → Int32) → (Nat → Int32) → (Nat → Int32) → (Nat → Int32) → (Nat → Int32) → (Nat → Int32) → (Nat → Int32) → (Nat → Int32) → (Nat → Int32) → (Nat → Int32) → (Nat → Int32) → (Nat → Int32) → (Nat → Int32) → (Nat → Int32) → Prop}  {B h : Nat} (hB : 3 * B * h ≤ 243) (h0 : 0 < h) (h16 : h ≤ 16) (sA sC : Nat → Kq)
    (hJ : ∀ f c, (∀ b i, b < B → i < h → qk_t h sA f b i) → J (nI (B * 3)) (nI (h / 2)) (zR) (zI) (zF) (zG) (kq_f (f)) (zsB) (kq_f (c)) (zga) (zgi) (ztA) (ztB) (ztC) (zwA) (zwB) (zpw)) : ∃ n, wX_spread_11 post J (nI B) (nI h) n 0 (zR) (zI) (zF) (zG) (kq_f (sA)) (zsB) (kq_f (sC)) (zga) (zgi) (ztA) (ztB) (ztC) (zwA) (zwB) (zpw) := by
  have hBh : B ≤ B * h := Nat.le_mul_of_pos_right B h0
  have hb3 : 3 * B * h = 3 * (B * h) := Nat.mul_assoc 3 B h
  have hb2 : B * 2 * h = 2 * (B * h) := by rw [Nat.mul_comm B 2, Nat.mul_assoc]
  refine ql_arr (fun n i (c : Nat → Kq) => wX_spread_11 post J (nI B) (nI h) n (nI i) (zR) (zI) (zF) (zG) (kq_f (sA)) (zsB) (kq_f (c)) (zga) (zgi) (ztA) (ztB) (ztC) (zwA) (zwB) (zpw)) (fun i _ => sA i) (B * 2 * h) 0 sC sA ?_ (fun i f _ _ _ _ => rfl) ?_ (Nat.zero_le _)
  · intro n i c hi hW
    have e : nI B * 2 * nI h = nI (B * 2 * h) := by rw [xi_t2, pk_mul]
    refine br_f (by rw [e]; exact nI_ge hi (by omega)) ?_
    simp (disch := omega) only [xi_r32, zb_in, zb_ne, true_and, nI_clamp, kq_r_at, kq_r_w, kq_f_at, kq_f_u, forall_eq, nI_1, kq_mul, kq_mac, kq_mca, kq_add, xw_plus, xw_minus, xw_cell, xw_write, xw_cell5, xw_write5, xw_cell6, xw_write6, xw_cell7, xw_write7, xw_cell8, xw_write8, xw_cell9, xw_write9, xw_cell10, xw_write10, xw_cell11, xw_write11]
    exact hW
  · intro n c hc
    have e : nI B * 2 * nI h = nI (B * 2 * h) := by rw [xi_t2, pk_mul]
    refine br_t (by rw [e]; exact nI_le (Nat.le_refl _) (by omega)) ?_
    refine xw_spread40 post hB h0 h16 sA (fun f hf => hJ f c (fun b i hb hi => ?_))
    have q1 : (b + 1) * h ≤ B * h := Nat.mul_le_mul_right h hb
    rw [Nat.add_mul] at q1
    have e1 : 2 * b * h = 2 * (b * h) := Nat.mul_assoc 2 b h
    have e2 : (2 * b + 1) * h = 2 * (b * h) + h := by rw [Nat.add_mul, e1, Nat.one_mul]
    have hq := hf b i hb hi
    unfold qk_t at hq ⊢
    rw [hc (2 * b * h + i), hc ((2 * b + 1) * h + i), if_pos (by omega), if_pos (by omega)] at hq
    exact hq
def qk_S (f : Nat → Kq) : Nat → Nat → Nat → Kq
  | 0, _, i => f i
  | t + 1, b, i => if b % 3 = 0 then qk_S f t (b / 3) i else if b % 3 = 1 then qk_S f t (b / 3) (16 / 2 ^ t + i) else qk_S f t (b / 3) i + qk_S f t (b / 3) (16 / 2 ^ t + i)
theorem qk_tab : ∀ t, t < 5 → 0 < 16 / 2 ^ t ∧ 32 / 2 ^ t = 2 * (16 / 2 ^ t) ∧ 32 / 2 ^ (t + 1) = 16 / 2 ^ t ∧ 16 / 2 ^ (t + 1) = 16 / 2 ^ t / 2 ∧ 3 * 3 ^ t * (16 / 2 ^ t) ≤ 243 ∧ 3 ^ (t + 1) = 3 ^ t * 3 ∧ 16 / 2 ^ t ≤ 16 := by decide
theorem qk_stage (f : Nat → Kq) (t hh B : Nat) (e16 : 16 / 2 ^ t = hh) (s a : Nat → Kq) (ha : ∀ b i, b < B → i < hh → qk_t hh s a b i) (hs : ∀ b i, b < B → i < 2 * hh → s (b * (2 * hh) + i) = qk_S f t b i) : ∀ b i, b < B * 3 → i < hh → a (b * hh + i) = qk_S f (t + 1) b i := by
  intro b i hb hi
  have hS : qk_S f (t + 1) b i = (if b % 3 = 0 then qk_S f t (b / 3) i else if b % 3 = 1 then qk_S f t (b / 3) (16 / 2 ^ t + i) else qk_S f t (b / 3) i + qk_S f t (b / 3) (16 / 2 ^ t + i)) := rfl
  rw [hS, e16]
  obtain ⟨a1, a2, a3⟩ := ha (b / 3) i (by omega) hi
  have s1 := hs (b / 3) i (by omega) (by omega)
  have s2 := hs (b / 3) (hh + i) (by omega) (by omega)
  rw [show b / 3 * (2 * hh) + i = 2 * (b / 3) * hh + i by grind] at s1
  rw [show b / 3 * (2 * hh) + (hh + i) = (2 * (b / 3) + 1) * hh + i by grind] at s2
  by_cases c0 : b % 3 = 0
  · rw [if_pos c0, ← s1, ← a1, show 3 * (b / 3) = b by omega]
  · by_cases c1 : b % 3 = 1
    · rw [if_neg c0, if_pos c1, ← s2, ← a2, show 3 * (b / 3) + 1 = b by omega]
    · rw [if_neg c0, if_neg c1, ← s1, ← s2, ← a3, show 3 * (b / 3) + 2 = b by omega]
theorem xw_spread (post : SX → Prop)  (f sA sC : Nat → Kq) (hf : ∀ i, i < 32 → sA i = f i)
    (h : ∀ a c, (∀ b, b < 243 → a b = qk_S f 5 b 0) → post (zR, zI, zF, zG, kq_f (a), zsB, kq_f (c), zga, zgi, ztA, ztB, ztC, zwA, zwB, zpw)) : wpX_spread post (zR, zI, zF, zG, kq_f (sA), zsB, kq_f (sC), zga, zgi, ztA, ztB, ztC, zwA, zwB, zpw) := by
  refine pk_loop (fun n t (s : (Nat → Kq) × (Nat → Kq)) => wX_spread_5 post n (nI (3 ^ t)) (nI (16 / 2 ^ t)) (zR) (zI) (zF) (zG) (kq_f (s.1)) (zsB) (kq_f (s.2)) (zga) (zgi) (ztA) (ztB) (ztC) (zwA) (zwB) (zpw)) (fun t s => ∀ b i, b < 3 ^ t → i < 32 / 2 ^ t → s.1 (b * (32 / 2 ^ t) + i) = qk_S f t b i) 5 0 (sA, sC) (by decide) ?_ ?_ ?_
  · intro b i hb hi
    have hb' : b = 0 := by have : (3 : Nat) ^ 0 = 1 := rfl; omega
    subst hb'
    show sA (0 * 32 + i) = f i
    rw [Nat.zero_mul, Nat.zero_add]; exact hf i hi
  · intro n s hs
    refine br_t (show nI (16 / 2 ^ 5) ≤ 0 by decide) (h s.1 s.2 (fun b hb => ?_))
    have e := hs b 0 hb (by decide)
    rw [show b * (32 / 2 ^ 5) + 0 = b by omega] at e
    exact e
  · intro n t s ht hs K
    obtain ⟨k1, k2, k3, k4, k5, k6, k7⟩ := qk_tab t ht
    refine br_f (nI_nle k1 (by omega)) ?_
    refine xw_spread11 post k5 k1 k7 s.1 s.2 (fun a c ha => ?_)
    have K' := K (a, c) (by
      intro b i hb hi
      rw [k6] at hb
      rw [k3] at hi ⊢
      exact qk_stage f t (16 / 2 ^ t) (3 ^ t) rfl s.1 a ha (by rw [k2] at hs; exact hs) b i hb hi)
    rw [k6, k4] at K'
    exact K'
end
end
section
section
variable {zR zI zF zG zsA zsB zsC zga zgi ztA ztB ztC zwA zwB zpw : Nat → Int32}
/-! engine 1: gathering, and the engine -/
/-- three products, of lower halves, upper halves and sums, put together -/
def qk_J (s k : Nat) (L M H : Nat → Kq) (m : Nat) : Kq := (if m < k then L m else 0) + (if s ≤ m ∧ m < s + k then M (m - s) else 0) + (if 2 * s ≤ m ∧ m < 2 * s + k then H (m - 2 * s) else 0)
theorem qk_J_0 (s : Nat) (L M H : Nat → Kq) (m : Nat) : qk_J s 0 L M H m = 0 := by
  unfold qk_J
  rw [if_neg (by omega), if_neg (by omega), if_neg (by omega)]; grind
theorem qk_if {c d e : Prop} [Decidable c] [Decidable d] [Decidable e] {x y : Kq} (h1 : e ↔ (c ∨ d)) (h2 : ¬ (c ∧ d)) (h3 : d → y = x) : (if e then x else 0) = (if c then x else 0) + (if d then y else 0) := by
  by_cases hc : c
  · rw [if_pos (h1.mpr (Or.inl hc)), if_pos hc, if_neg (fun hd => h2 ⟨hc, hd⟩)]; grind
  · by_cases hd : d
    · rw [if_pos (h1.mpr (Or.inr hd)), if_neg hc, if_pos hd, h3 hd]; grind
    · rw [if_neg (fun he => (h1.mp he).elim hc hd), if_neg hc, if_neg hd]; grind
theorem qk_J_s (s k : Nat) (L M H : Nat → Kq) (m : Nat) : qk_J s (k + 1) L M H m = qk_J s k L M H m + (if m = k then L k else 0) + (if m = s + k then M k else 0) + (if m = 2 * s + k then H k else 0) := by
  unfold qk_J
  rw [qk_if (c := m < k) (d := m = k) (y := L k) (by omega) (by omega) (fun e => by rw [e]),
    qk_if (c := s ≤ m ∧ m < s + k) (d := m = s + k) (y := M k) (by omega) (by omega) (fun e => congrArg M (by omega)),
    qk_if (c := 2 * s ≤ m ∧ m < 2 * s + k) (d := m = 2 * s + k) (y := H k) (by omega) (by omega) (fun e => congrArg H (by omega))]
  grind
theorem xw_gatherAt (post : SX → Prop)  {ga gi : Nat → Kq} {b s i : Nat} (h1 : (6 * b + 4) * s + i < 486) (h1b : (6 * b + 2) * s + i < 486) (h1c : 6 * b * s + i < 486) (h2 : 4 * b * s + i + 2 * s < 486) : wpX_gatherAt post (zR, zI, zF, zG, zsA, zsB, zsC, kq_f (ga), kq_f (gi), ztA, ztB, ztC, zwA, zwB, zpw) (nI b) (nI s) (nI i) = post (zR, zI, zF, zG, zsA, zsB, zsC, kq_f (ga), kq_f (kq_a (kq_a (kq_a gi (4 * b * s + i) (ga (6 * b * s + i))) (4 * b * s + i + s) (ga ((6 * b + 4) * s + i) - ga (6 * b * s + i) - ga ((6 * b + 2) * s + i))) (4 * b * s + i + 2 * s) (ga ((6 * b + 2) * s + i))), ztA, ztB, ztC, zwA, zwB, zpw) := by
  unfold wpX_gatherAt
  simp (disch := omega) only [xi_m6, xi_m4, xi_m2, xi_p2, xi_p4, pk_mul, nI_add, xi_r32, zb_in, zb_ne, true_and, nI_clamp, kq_r_at, kq_r_w, kq_f_at, kq_f_u, forall_eq, nI_1, kq_mul, kq_mac, kq_mca, kq_add, xw_plus, xw_minus, xw_cell, xw_write, xw_cell5, xw_write5, xw_cell6, xw_write6, xw_cell7, xw_write7, xw_cell8, xw_write8, xw_cell9, xw_write9, xw_cell10, xw_write10, xw_cell11, xw_write11]
  rfl
def qk_g (s : Nat) (g : Nat → Kq) (b k m : Nat) : Kq := qk_J s k (fun j => g (3 * b * (2 * s) + j)) (fun j => g ((3 * b + 2) * (2 * s) + j) - g (3 * b * (2 * s) + j) - g ((3 * b + 1) * (2 * s) + j)) (fun j => g ((3 * b + 1) * (2 * s) + j)) m
theorem qi_if {h q q' i i' : Nat} (x : Kq) (hi : i < h) (hi' : i' < h) : (if q' * h + i' = q * h + i then x else 0) = if q' = q ∧ i' = i then x else 0 := by
  by_cases c : q' = q ∧ i' = i
  · rw [if_pos c, if_pos (by rw [c.1, c.2])]
  · rw [if_neg c, if_neg (fun e => c (qi_inj hi' hi e))]
theorem xw_gather42 (post : SX → Prop) {J : Int32 → Int32 → (Nat → Int32) → (Nat → Int32) → (Nat → Int32) → (Nat → Int32) → (Nat → Int32) → (Nat → Int32) → (Nat → Int32) → (Nat → Int32) → (Nat → Int32) → (Nat → Int32) → (Nat → Int32) → (Nat → Int32) → (Nat → Int32) → (Nat → Int32) → (Nat → Int32) → Prop}  {ga : Nat → Kq} {B s : Nat} (hB : 6 * B * s ≤ 486) (s0 : 0 < s) (gi : Nat → Kq) (hz : ∀ j, j < B * 4 * s → gi j = 0)
    (hJ : ∀ f c, (∀ b m, b < B → m < 4 * s → f (b * (4 * s) + m) = qk_g s ga b (2 * s) m) → J (nI B) (nI (s * 2)) (zR) (zI) (zF) (zG) (zsA) (zsB) (zsC) (kq_f (f)) (kq_f (c)) (ztA) (ztB) (ztC) (zwA) (zwB) (zpw)) : ∃ n, wX_gather_42 post J (nI B) (nI s) n 0 (zR) (zI) (zF) (zG) (zsA) (zsB) (zsC) (kq_f (ga)) (kq_f (gi)) (ztA) (ztB) (ztC) (zwA) (zwB) (zpw) := by
  have hBs : B ≤ B * s := Nat.le_mul_of_pos_right B s0
  have hb6 : 6 * B * s = 6 * (B * s) := Nat.mul_assoc 6 B s
  have hb4 : B * 4 * s = 4 * (B * s) := by grind
  have hhB : B = 0 ∨ s ≤ B * s := by
    by_cases z : B = 0
    · exact Or.inl z
    · exact Or.inr (Nat.le_mul_of_pos_left s (by omega))
  refine pk_loop (fun n b (f : Nat → Kq) => wX_gather_42 post J (nI B) (nI s) n (nI b) (zR) (zI) (zF) (zG) (zsA) (zsB) (zsC) (kq_f (ga)) (kq_f (f)) (ztA) (ztB) (ztC) (zwA) (zwB) (zpw)) (fun b f => ∀ b' m, b' < B → m < 4 * s → f (b' * (4 * s) + m) = if b' < b then qk_g s ga b' (2 * s) m else 0) B 0 gi (Nat.zero_le _) ?_ ?_ ?_
  · intro b' m hb' hm
    have q1 : (b' + 1) * s ≤ B * s := Nat.mul_le_mul_right s hb'
    rw [Nat.add_mul] at q1
    have e : b' * (4 * s) = 4 * (b' * s) := by grind
    rw [if_neg (by omega)]
    exact hz _ (by omega)
  · intro n c hc
    refine br_t (nI_le (Nat.le_refl B) (by omega)) ?_
    refine ql_arr (fun n i (f : Nat → Kq) => wX_gather_80 post J (nI B) (nI s) n (nI i) (zR) (zI) (zF) (zG) (zsA) (zsB) (zsC) (kq_f (f)) (kq_f (c)) (ztA) (ztB) (ztC) (zwA) (zwB) (zpw)) (fun i _ => c i) (B * 4 * s) 0 ga c ?_ (fun i f _ _ _ _ => rfl) ?_ (Nat.zero_le _)
    · intro n i f hi hW
      have e : nI B * 4 * nI s = nI (B * 4 * s) := by rw [xi_t4, pk_mul]
      refine br_f (by rw [e]; exact nI_ge hi (by omega)) ?_
      simp (disch := omega) only [xi_r32, zb_in, zb_ne, true_and, nI_clamp, kq_r_at, kq_r_w, kq_f_at, kq_f_u, forall_eq, nI_1, kq_mul, kq_mac, kq_mca, kq_add, xw_plus, xw_minus, xw_cell, xw_write, xw_cell5, xw_write5, xw_cell6, xw_write6, xw_cell7, xw_write7, xw_cell8, xw_write8, xw_cell9, xw_write9, xw_cell10, xw_write10, xw_cell11, xw_write11]
      exact hW
    · intro n f hf
      have e : nI B * 4 * nI s = nI (B * 4 * s) := by rw [xi_t4, pk_mul]
      refine br_t (by rw [e]; exact nI_le (Nat.le_refl _) (by omega)) (nm_r (xi_t2 s) (hJ f c (fun b m hb hm => ?_)))
      have q1 : (b + 1) * s ≤ B * s := Nat.mul_le_mul_right s hb
      rw [Nat.add_mul] at q1
      have e : b * (4 * s) = 4 * (b * s) := by grind
      rw [hf, if_pos (by omega), hc b m hb hm, if_pos hb]
  · intro n b f hb hf K
    have q1 : (b + 1) * s ≤ B * s := Nat.mul_le_mul_right s hb
    rw [Nat.add_mul] at q1
    have e6 : 6 * b * s = 6 * (b * s) := Nat.mul_assoc 6 b s
    have e62 : (6 * b + 2) * s = 6 * (b * s) + 2 * s := by rw [Nat.add_mul, e6]
    have e64 : (6 * b + 4) * s = 6 * (b * s) + 4 * s := by rw [Nat.add_mul, e6]
    have e4 : 4 * b * s = 4 * (b * s) := Nat.mul_assoc 4 b s
    refine br_f (nI_ge hb (by omega)) ?_
    refine ql_ex (fun n' i (f : Nat → Kq) => wX_gather_50 post J (wX_gather_42 post J (nI B) (nI s) n) (nI B) (nI s) (nI b) n' (nI i) (zR) (zI) (zF) (zG) (zsA) (zsB) (zsC) (kq_f (ga)) (kq_f (f)) (ztA) (ztB) (ztC) (zwA) (zwB) (zpw)) (fun i f => kq_a (kq_a (kq_a f (4 * b * s + i) (ga (6 * b * s + i))) (4 * b * s + i + s) (ga ((6 * b + 4) * s + i) - ga (6 * b * s + i) - ga ((6 * b + 2) * s + i))) (4 * b * s + i + 2 * s) (ga ((6 * b + 2) * s + i))) (fun k f => ∀ b' m, b' < B → m < 4 * s → f (b' * (4 * s) + m) = if b' < b then qk_g s ga b' (2 * s) m else if b' = b then qk_g s ga b k m else 0) (2 * s) 0 f ?_ ?_ ?_ (Nat.zero_le _) ?_
    · intro n' i f hi _ hW
      refine br_f (by rw [xi_m2]; exact nI_ge hi (by omega)) ?_
      simp (disch := omega) only [xw_gatherAt, xi_r32, zb_in, zb_ne, true_and, nI_clamp, kq_r_at, kq_r_w, kq_f_at, kq_f_u, forall_eq, nI_1, kq_mul, kq_mac, kq_mca, kq_add, xw_plus, xw_minus, xw_cell, xw_write, xw_cell5, xw_write5, xw_cell6, xw_write6, xw_cell7, xw_write7, xw_cell8, xw_write8, xw_cell9, xw_write9, xw_cell10, xw_write10, xw_cell11, xw_write11]
      exact hW
    · intro k f hk hI b' m hb' hm
      rw [kq_a_at, kq_a_at, kq_a_at, hI b' m hb' hm]
      have w0 : 4 * b * s + k = b * (4 * s) + k := by grind
      have w1 : 4 * b * s + k + s = b * (4 * s) + (s + k) := by grind
      have w2 : 4 * b * s + k + 2 * s = b * (4 * s) + (2 * s + k) := by grind
      rw [w1, w2, w0, qi_if _ (by omega) hm, qi_if _ (by omega) hm, qi_if _ (by omega) hm]
      by_cases c1 : b' < b
      · rw [if_pos c1, if_pos c1, if_neg (by omega), if_neg (by omega), if_neg (by omega)]; grind
      · by_cases c2 : b' = b
        · subst c2
          rw [if_neg c1, if_pos rfl, if_neg c1, if_pos rfl]
          have v0 : 6 * b' * s + k = 3 * b' * (2 * s) + k := by grind
          have v1 : (6 * b' + 2) * s + k = (3 * b' + 1) * (2 * s) + k := by grind
          have v2 : (6 * b' + 4) * s + k = (3 * b' + 2) * (2 * s) + k := by grind
          rw [v0, v1, v2]
          unfold qk_g
          rw [qk_J_s]
          simp only [true_and]
        · rw [if_neg c1, if_neg c2, if_neg c1, if_neg c2, if_neg (fun z => c2 z.1), if_neg (fun z => c2 z.1), if_neg (fun z => c2 z.1)]; grind
    · intro n' f hI
      refine br_t (by rw [xi_m2]; exact nI_le (Nat.le_refl _) (by omega)) (nm_r (nI_1 b) (K f (fun b' m hb' hm => ?_)))
      rw [hI b' m hb' hm]
      by_cases c1 : b' < b
      · rw [if_pos c1, if_pos (by omega)]
      · by_cases c2 : b' = b
        · rw [if_neg c1, if_pos c2, if_pos (by omega), c2]
        · rw [if_neg c1, if_neg c2, if_neg (by omega)]
    · intro b' m hb' hm
      rw [hf b' m hb' hm]
      by_cases c1 : b' < b
      · rw [if_pos c1, if_pos c1]
      · rw [if_neg c1, if_neg c1]
        by_cases c2 : b' = b
        · rw [if_pos c2]; exact (qk_J_0 _ _ _ _ _).symm
        · rw [if_neg c2]
theorem xw_gather18 (post : SX → Prop) {J : Int32 → Int32 → (Nat → Int32) → (Nat → Int32) → (Nat → Int32) → (Nat → Int32) → (Nat → Int32) → (Nat → Int32) → (Nat → Int32) → (Nat → Int32) → (Nat → Int32) → (Nat → Int32) → (Nat → Int32) → (Nat → Int32) → (Nat → Int32) → (Nat → Int32) → (Nat → Int32) → Prop}  {ga : Nat → Kq} {B s : Nat} (hB : 6 * B * s ≤ 486) (s0 : 0 < s) (gi : Nat → Kq)
    (hJ : ∀ f c, (∀ b m, b < B → m < 4 * s → f (b * (4 * s) + m) = qk_g s ga b (2 * s) m) → J (nI B) (nI (s * 2)) (zR) (zI) (zF) (zG) (zsA) (zsB) (zsC) (kq_f (f)) (kq_f (c)) (ztA) (ztB) (ztC) (zwA) (zwB) (zpw)) : ∃ n, wX_gather_18 post J (nI B) (nI s) n 0 (zR) (zI) (zF) (zG) (zsA) (zsB) (zsC) (kq_f (ga)) (kq_f (gi)) (ztA) (ztB) (ztC) (zwA) (zwB) (zpw) := by
  have hBs : B ≤ B * s := Nat.le_mul_of_pos_right B s0
  have hb6 : 6 * B * s = 6 * (B * s) := Nat.mul_assoc 6 B s
  have hb4 : B * 4 * s = 4 * (B * s) := by grind
  have e : nI B * 4 * nI s = nI (B * 4 * s) := by rw [xi_t4, pk_mul]
  refine ql_arr (fun n i (f : Nat → Kq) => wX_gather_18 post J (nI B) (nI s) n (nI i) (zR) (zI) (zF) (zG) (zsA) (zsB) (zsC) (kq_f (ga)) (kq_f (f)) (ztA) (ztB) (ztC) (zwA) (zwB) (zpw)) (fun i _ => 0) (B * 4 * s) 0 gi (fun _ => 0) ?_ (fun i f _ _ _ _ => rfl) ?_ (Nat.zero_le _)
  · intro n i f hi hW
    refine br_f (by rw [e]; exact nI_ge hi (by omega)) ?_
    have e2 : upd (kq_f f) i 0 = kq_f (kq_u f i 0) := kq_f_u f i 0
    simp (disch := omega) only [xi_r32, zb_in, zb_ne, true_and, nI_clamp, kq_r_at, kq_r_w, kq_f_at, kq_f_u, forall_eq, nI_1, kq_mul, kq_mac, kq_mca, kq_add, xw_plus, xw_minus, xw_cell, xw_write, xw_cell5, xw_write5, xw_cell6, xw_write6, xw_cell7, xw_write7, xw_cell8, xw_write8, xw_cell9, xw_write9, xw_cell10, xw_write10, xw_cell11, xw_write11, e2]
    exact hW
  · intro n f hf
    refine br_t (by rw [e]; exact nI_le (Nat.le_refl _) (by omega)) ?_
    exact xw_gather42 post hB s0 f (fun j hj => by rw [hf j, if_pos (by omega)]) hJ
def qk_G (g : Nat → Kq) : Nat → Nat → Nat → Kq
  | 0, q, i => g (q * 2 + i)
  | t + 1, b, m => qk_J (2 ^ t) (2 * 2 ^ t) (qk_G g t (3 * b)) (fun j => qk_G g t (3 * b + 2) j - qk_G g t (3 * b) j - qk_G g t (3 * b + 1) j) (qk_G g t (3 * b + 1)) m
theorem qk_J_congr {s k : Nat} {L M H L' M' H' : Nat → Kq} (h1 : ∀ j, j < k → L j = L' j) (h2 : ∀ j, j < k → M j = M' j) (h3 : ∀ j, j < k → H j = H' j) (m : Nat) : qk_J s k L M H m = qk_J s k L' M' H' m := by
  unfold qk_J
  have a1 : (if m < k then L m else 0) = (if m < k then L' m else 0) := by
    by_cases c : m < k
    · rw [if_pos c, if_pos c, h1 m c]
    · rw [if_neg c, if_neg c]
  have a2 : (if s ≤ m ∧ m < s + k then M (m - s) else 0) = (if s ≤ m ∧ m < s + k then M' (m - s) else 0) := by
    by_cases c : s ≤ m ∧ m < s + k
    · rw [if_pos c, if_pos c, h2 (m - s) (by omega)]
    · rw [if_neg c, if_neg c]
  have a3 : (if 2 * s ≤ m ∧ m < 2 * s + k then H (m - 2 * s) else 0) = (if 2 * s ≤ m ∧ m < 2 * s + k then H' (m - 2 * s) else 0) := by
    by_cases c : 2 * s ≤ m ∧ m < 2 * s + k
    · rw [if_pos c, if_pos c, h3 (m - 2 * s) (by omega)]
    · rw [if_neg c, if_neg c]
  rw [a1, a2, a3]
theorem qk_tab2 : ∀ t, t < 5 → 3 ^ (5 - t) / 3 = 3 ^ (5 - (t + 1)) ∧ 3 ^ (5 - t) = 3 * 3 ^ (5 - (t + 1)) ∧ 6 * 3 ^ (5 - (t + 1)) * 2 ^ t ≤ 486 ∧ 0 < 2 ^ t ∧ 2 ^ t < 32 ∧ 2 ^ (t + 1) = 2 ^ t * 2 ∧ 3 ^ (5 - t) < 300 := by decide
theorem xw_gather (post : SX → Prop)  (ga gi : Nat → Kq)
    (h : ∀ f c, (∀ m, m < 64 → f m = qk_G ga 5 0 m) → post (zR, zI, zF, zG, zsA, zsB, zsC, kq_f (f), kq_f (c), ztA, ztB, ztC, zwA, zwB, zpw)) : wpX_gather post (zR, zI, zF, zG, zsA, zsB, zsC, kq_f (ga), kq_f (gi), ztA, ztB, ztC, zwA, zwB, zpw) := by
  refine pk_loop (fun n t (s : (Nat → Kq) × (Nat → Kq)) => wX_gather_6 post n (nI (3 ^ (5 - t))) (nI (2 ^ t)) (zR) (zI) (zF) (zG) (zsA) (zsB) (zsC) (kq_f (s.1)) (kq_f (s.2)) (ztA) (ztB) (ztC) (zwA) (zwB) (zpw)) (fun t s => ∀ q i, q < 3 ^ (5 - t) → i < 2 * 2 ^ t → s.1 (q * (2 * 2 ^ t) + i) = qk_G ga t q i) 5 0 (ga, gi) (by decide) ?_ ?_ ?_
  · intro q i hq hi
    rfl
  · intro n s hs
    refine br_t (show (32 : Int32) ≤ nI (2 ^ 5) by decide) (h s.1 s.2 (fun m hm => ?_))
    have e := hs 0 m (by decide) (by omega)
    rw [Nat.zero_mul, Nat.zero_add] at e
    exact e
  · intro n t s ht hs K
    obtain ⟨k1, k2, k3, k4, k5, k6, k7⟩ := qk_tab2 t ht
    refine br_f (nI_ge (b := 32) k5 (by decide)) ⟨by decide, nm_r (pk_div (d := 3) (by omega) (by decide) (by decide)) ?_⟩
    rw [k1]
    refine xw_gather18 post k3 k4 s.2 (fun f c hf => ?_)
    have K' := K (f, c) (by
      intro b m hb hm
      rw [k6] at hm ⊢
      have hm' : m < 4 * 2 ^ t := by omega
      have ee : 2 * (2 ^ t * 2) = 4 * 2 ^ t := by omega
      rw [ee]
      show f (b * (4 * 2 ^ t) + m) = qk_J (2 ^ t) (2 * 2 ^ t) _ _ _ m
      rw [hf b m hb hm']
      unfold qk_g
      have g0 : ∀ j, j < 2 * 2 ^ t → s.1 (3 * b * (2 * 2 ^ t) + j) = qk_G ga t (3 * b) j := fun j hj => hs _ _ (by omega) hj
      have g1 : ∀ j, j < 2 * 2 ^ t → s.1 ((3 * b + 1) * (2 * 2 ^ t) + j) = qk_G ga t (3 * b + 1) j := fun j hj => hs _ _ (by omega) hj
      have g2 : ∀ j, j < 2 * 2 ^ t → s.1 ((3 * b + 2) * (2 * 2 ^ t) + j) = qk_G ga t (3 * b + 2) j := fun j hj => hs _ _ (by omega) hj
      exact qk_J_congr g0 (fun j hj => by rw [g0 j hj, g1 j hj, g2 j hj]) g1 m)
    rw [k6] at K'
    exact K'
end
end
section
section
variable {zR zI zF zG zsA zsB zsC zga zgi ztA ztB ztC zwA zwB zpw : Nat → Int32}
/-! engine 1 gives the product -/
def qk_p (f : Nat → Kq) (t b : Nat) : Nat → Kq := fun i => if i < 32 / 2 ^ t then qk_S f t b i else 0
theorem qk_c0 (f : Nat → Kq) (t b i : Nat) : qk_S f (t + 1) (3 * b) i = qk_S f t b i := by
  have hS : qk_S f (t + 1) (3 * b) i = (if (3 * b) % 3 = 0 then qk_S f t ((3 * b) / 3) i else if (3 * b) % 3 = 1 then qk_S f t ((3 * b) / 3) (16 / 2 ^ t + i) else qk_S f t ((3 * b) / 3) i + qk_S f t ((3 * b) / 3) (16 / 2 ^ t + i)) := rfl
  rw [hS, if_pos (by omega), show 3 * b / 3 = b by omega]
theorem qk_c1 (f : Nat → Kq) (t b i : Nat) : qk_S f (t + 1) (3 * b + 1) i = qk_S f t b (16 / 2 ^ t + i) := by
  have hS : qk_S f (t + 1) (3 * b + 1) i = (if (3 * b + 1) % 3 = 0 then qk_S f t ((3 * b + 1) / 3) i else if (3 * b + 1) % 3 = 1 then qk_S f t ((3 * b + 1) / 3) (16 / 2 ^ t + i) else qk_S f t ((3 * b + 1) / 3) i + qk_S f t ((3 * b + 1) / 3) (16 / 2 ^ t + i)) := rfl
  rw [hS, if_neg (by omega), if_pos (by omega), show (3 * b + 1) / 3 = b by omega]
theorem qk_c2 (f : Nat → Kq) (t b i : Nat) : qk_S f (t + 1) (3 * b + 2) i = qk_S f t b i + qk_S f t b (16 / 2 ^ t + i) := by
  have hS : qk_S f (t + 1) (3 * b + 2) i = (if (3 * b + 2) % 3 = 0 then qk_S f t ((3 * b + 2) / 3) i else if (3 * b + 2) % 3 = 1 then qk_S f t ((3 * b + 2) / 3) (16 / 2 ^ t + i) else qk_S f t ((3 * b + 2) / 3) i + qk_S f t ((3 * b + 2) / 3) (16 / 2 ^ t + i)) := rfl
  rw [hS, if_neg (by omega), if_neg (by omega), show (3 * b + 2) / 3 = b by omega]
theorem qk_par (f : Nat → Kq) (t : Nat) (ht : t < 5) (b : Nat) : qk_p f t b = fun i => qk_p f (t + 1) (3 * b) i + qs_h (16 / 2 ^ t) (qk_p f (t + 1) (3 * b + 1)) i := by
  obtain ⟨k1, k2, k3, _⟩ := qk_tab t ht
  funext i
  show (if i < 32 / 2 ^ t then qk_S f t b i else 0) = (if i < 32 / 2 ^ (t + 1) then qk_S f (t + 1) (3 * b) i else 0) + (if i < 16 / 2 ^ t then 0 else (if i - 16 / 2 ^ t < 32 / 2 ^ (t + 1) then qk_S f (t + 1) (3 * b + 1) (i - 16 / 2 ^ t) else 0))
  rw [qk_c0, qk_c1, k2, k3]
  by_cases c : i < 16 / 2 ^ t
  · rw [if_pos (by omega), if_pos c, if_pos c]; grind
  · by_cases c2 : i < 2 * (16 / 2 ^ t)
    · rw [if_pos c2, if_neg c, if_neg c, if_pos (by omega), show 16 / 2 ^ t + (i - 16 / 2 ^ t) = i by omega]; grind
    · rw [if_neg c2, if_neg c, if_neg c, if_neg (by omega)]; grind
theorem qk_sum (f : Nat → Kq) (t b : Nat) : qk_p f (t + 1) (3 * b + 2) = fun i => qk_p f (t + 1) (3 * b) i + qk_p f (t + 1) (3 * b + 1) i := by
  funext i
  show (if i < 32 / 2 ^ (t + 1) then qk_S f (t + 1) (3 * b + 2) i else 0) = (if i < 32 / 2 ^ (t + 1) then qk_S f (t + 1) (3 * b) i else 0) + (if i < 32 / 2 ^ (t + 1) then qk_S f (t + 1) (3 * b + 1) i else 0)
  rw [qk_c0, qk_c1, qk_c2]
  by_cases c : i < 32 / 2 ^ (t + 1)
  · rw [if_pos c, if_pos c, if_pos c]
  · rw [if_neg c, if_neg c, if_neg c]; grind
theorem qk_kar {s : Nat} {P P0 P1 P2 Q Q0 Q1 Q2 : Nat → Kq} (e0 : ∀ i, s ≤ i → P0 i = 0) (e1 : ∀ i, s ≤ i → P1 i = 0) (d0 : ∀ i, s ≤ i → Q0 i = 0) (d1 : ∀ i, s ≤ i → Q1 i = 0)
    (hP : P = fun i => P0 i + qs_h s P1 i) (hQ : Q = fun i => Q0 i + qs_h s Q1 i) (hP2 : P2 = fun i => P0 i + P1 i) (hQ2 : Q2 = fun i => Q0 i + Q1 i) (m : Nat) (hm : m < 4 * s) :
    qs_c P Q m = qk_J s (2 * s) (qs_c P0 Q0) (fun j => qs_c P2 Q2 j - qs_c P0 Q0 j - qs_c P1 Q1 j) (qs_c P1 Q1) m := by
  have c2 : ∀ j, qs_c P2 Q2 j - qs_c P0 Q0 j - qs_c P1 Q1 j = qs_c P0 Q1 j + qs_c P1 Q0 j := by
    intro j
    rw [hP2, hQ2, qs_c_add', qs_c_add, qs_c_add]; grind
  have cP : qs_c P Q m = (qs_c P0 Q0 m + qs_h s (qs_c P0 Q1) m) + (qs_h s (qs_c P1 Q0) m + qs_h s (qs_h s (qs_c P1 Q1)) m) := by
    rw [hP, hQ, qs_c_add', qs_c_add, qs_c_add, qs_h_c, qs_h_c, qs_h_c', qs_h_c']
  rw [cP, qs_h_h]
  unfold qk_J
  have z00 : ¬ m < 2 * s → qs_c P0 Q0 m = 0 := fun h => qs_c_end e0 d0 m (by omega)
  have z01 : 3 * s ≤ m → qs_c P0 Q1 (m - s) = 0 := fun h => qs_c_end e0 d1 (m - s) (by omega)
  have z10 : 3 * s ≤ m → qs_c P1 Q0 (m - s) = 0 := fun h => qs_c_end e1 d0 (m - s) (by omega)
  have t0 : (if m < 2 * s then qs_c P0 Q0 m else 0) = qs_c P0 Q0 m := by
    by_cases c : m < 2 * s
    · rw [if_pos c]
    · rw [if_neg c, z00 c]
  have t1 : (if s ≤ m ∧ m < s + 2 * s then qs_c P2 Q2 (m - s) - qs_c P0 Q0 (m - s) - qs_c P1 Q1 (m - s) else 0) = qs_h s (qs_c P0 Q1) m + qs_h s (qs_c P1 Q0) m := by
    rw [c2]
    by_cases c : s ≤ m
    · rw [qs_h_ge c, qs_h_ge c]
      by_cases c3 : m < s + 2 * s
      · rw [if_pos ⟨c, c3⟩]
      · rw [if_neg (by omega), z01 (by omega), z10 (by omega)]; grind
    · rw [qs_h_lt (by omega), qs_h_lt (by omega), if_neg (by omega)]; grind
  have t2 : (if 2 * s ≤ m ∧ m < 2 * s + 2 * s then qs_c P1 Q1 (m - 2 * s) else 0) = qs_h (s + s) (qs_c P1 Q1) m := by
    by_cases c : 2 * s ≤ m
    · rw [if_pos (by omega), qs_h_ge (by omega), show m - 2 * s = m - (s + s) by omega]
    · rw [if_neg (by omega), qs_h_lt (by omega)]
  show _ = (if m < 2 * s then qs_c P0 Q0 m else 0) + (if s ≤ m ∧ m < s + 2 * s then qs_c P2 Q2 (m - s) - qs_c P0 Q0 (m - s) - qs_c P1 Q1 (m - s) else 0) + (if 2 * s ≤ m ∧ m < 2 * s + 2 * s then qs_c P1 Q1 (m - 2 * s) else 0)
  rw [t0, t1, t2]; grind
theorem qk_pend (f : Nat → Kq) (t b s : Nat) (e : 32 / 2 ^ t = s) : ∀ i, s ≤ i → qk_p f t b i = 0 := fun i hi => if_neg (by rw [e]; omega)
theorem qk_tab3 : ∀ t, t < 5 → 5 - (t + 1) + 1 = 5 - t ∧ 16 / 2 ^ (5 - (t + 1)) = 2 ^ t ∧ 32 / 2 ^ (5 - t) = 2 ^ t ∧ 5 - (t + 1) < 5 ∧ 3 ^ (5 - t) = 3 * 3 ^ (5 - (t + 1)) := by decide
theorem qk_main (A B g : Nat → Kq) (hg : ∀ q, q < 243 → g (q * 2) = qk_S A 5 q 0 * qk_S B 5 q 0 ∧ g (q * 2 + 1) = 0) : ∀ t, t ≤ 5 → ∀ q i, q < 3 ^ (5 - t) → i < 2 * 2 ^ t → qk_G g t q i = qs_c (qk_p A (5 - t) q) (qk_p B (5 - t) q) i := by
  intro t
  induction t with
  | zero =>
    intro _ q i hq hi
    obtain ⟨g0, g1⟩ := hg q hq
    have hA0 : qk_p A 5 q 0 = qk_S A 5 q 0 := if_pos (by decide)
    have hB0 : qk_p B 5 q 0 = qk_S B 5 q 0 := if_pos (by decide)
    have hA1 : qk_p A 5 q 1 = 0 := if_neg (by decide)
    have hB1 : qk_p B 5 q 1 = 0 := if_neg (by decide)
    have hi' : i = 0 ∨ i = 1 := by have : (2 : Nat) ^ 0 = 1 := rfl; omega
    rcases hi' with rfl | rfl
    · show g (q * 2 + 0) = qs_c (qk_p A 5 q) (qk_p B 5 q) 0
      rw [qs_c_at0, hA0, hB0, ← g0, Nat.add_zero]
    · show g (q * 2 + 1) = qs_m (0 + 1 + 1) (fun i => qk_p A 5 q i * qk_p B 5 q (1 - i))
      rw [g1, qs_m_s, qs_m_s, qs_m_0]
      show 0 = 0 + qk_p A 5 q 0 * qk_p B 5 q 1 + qk_p A 5 q 1 * qk_p B 5 q 0
      rw [hA1, hB1]; grind
  | succ t ih =>
    intro ht q m hq hm
    obtain ⟨k1, k2, k3, k4, k5⟩ := qk_tab3 t (by omega)
    have ih' := ih (by omega)
    have hp : 2 ^ (t + 1) = 2 ^ t * 2 := Nat.pow_succ 2 t
    show qk_J (2 ^ t) (2 * 2 ^ t) _ _ _ m = _
    have g0 : ∀ j, j < 2 * 2 ^ t → qk_G g t (3 * q) j = qs_c (qk_p A (5 - t) (3 * q)) (qk_p B (5 - t) (3 * q)) j := fun j hj => ih' _ _ (by omega) hj
    have g1 : ∀ j, j < 2 * 2 ^ t → qk_G g t (3 * q + 1) j = qs_c (qk_p A (5 - t) (3 * q + 1)) (qk_p B (5 - t) (3 * q + 1)) j := fun j hj => ih' _ _ (by omega) hj
    have g2 : ∀ j, j < 2 * 2 ^ t → qk_G g t (3 * q + 2) j = qs_c (qk_p A (5 - t) (3 * q + 2)) (qk_p B (5 - t) (3 * q + 2)) j := fun j hj => ih' _ _ (by omega) hj
    rw [qk_J_congr g0 (fun j hj => by rw [g0 j hj, g1 j hj, g2 j hj]) g1 m]
    have hA := qk_par A (5 - (t + 1)) k4 q
    have hB := qk_par B (5 - (t + 1)) k4 q
    have hA2 := qk_sum A (5 - (t + 1)) q
    have hB2 := qk_sum B (5 - (t + 1)) q
    rw [k1] at hA hB hA2 hB2
    rw [k2] at hA hB
    exact (qk_kar (qk_pend A _ _ _ k3) (qk_pend A _ _ _ k3) (qk_pend B _ _ _ k3) (qk_pend B _ _ _ k3) hA hB hA2 hB2 m (by omega)).symm
theorem qk_end (A B g : Nat → Kq) (hg : ∀ q, q < 243 → g (q * 2) = qk_S A 5 q 0 * qk_S B 5 q 0 ∧ g (q * 2 + 1) = 0) (i : Nat) (hi : i < 32) : qk_G g 5 0 i = qs_c A B i := by
  rw [qk_main A B g hg 5 (Nat.le_refl 5) 0 i (by decide) (by omega)]
  exact qs_c_em (k := 32) (fun j hj => if_pos hj) (fun j hj => if_pos hj) i hi
theorem xw_halves (post : SX → Prop) {R : Nat → Nat → Kq}  {a b : Nat} (ha : a < 12) (hb : b < 12) (sA sB sC ga gi : Nat → Kq)
    (h : ∀ sA sB sC ga gi, post (kq_r (kq_s R 5 (qs_c (R a) (R b))), zI, zF, zG, kq_f (sA), kq_f (sB), kq_f (sC), kq_f (ga), kq_f (gi), ztA, ztB, ztC, zwA, zwB, zpw)) : wpX_multiplyByHalves post (kq_r R, zI, zF, zG, kq_f (sA), kq_f (sB), kq_f (sC), kq_f (ga), kq_f (gi), ztA, ztB, ztC, zwA, zwB, zpw) (nI a) (nI b) := by
  refine ql_arr (fun n i (f : Nat → Kq) => wX_multiplyByHalves_2 post (nI a) (nI b) n (nI i) (kq_r R) (zI) (zF) (zG) (kq_f (f)) (kq_f (sB)) (kq_f (sC)) (kq_f (ga)) (kq_f (gi)) (ztA) (ztB) (ztC) (zwA) (zwB) (zpw)) (fun i _ => R b i) 32 0 sA (R b) ?_ (fun i f _ _ _ _ => rfl) ?_ (Nat.zero_le _)
  · intro n i f hi hW
    refine br_f (nI_ge (b := 32) hi (by decide)) ?_
    simp (disch := omega) only [xi_r32, zb_in, zb_ne, true_and, nI_clamp, kq_r_at, kq_r_w, kq_f_at, kq_f_u, forall_eq, nI_1, kq_mul, kq_mac, kq_mca, kq_add, xw_plus, xw_minus, xw_cell, xw_write, xw_cell5, xw_write5, xw_cell6, xw_write6, xw_cell7, xw_write7, xw_cell8, xw_write8, xw_cell9, xw_write9, xw_cell10, xw_write10, xw_cell11, xw_write11]
    exact hW
  intro n f hf
  refine br_t (nI_le (a := 32) (Nat.le_refl 32) (by decide)) ?_
  refine xw_spread _ (R b) f sC (fun i hi => by rw [hf i, if_pos (by omega)]) (fun s1 c1 hs1 => ?_)
  refine ql_arr (fun n i (f : Nat → Kq) => wX_multiplyByHalves_32 post (nI a) n (nI i) (kq_r R) (zI) (zF) (zG) (kq_f (s1)) (kq_f (f)) (kq_f (c1)) (kq_f (ga)) (kq_f (gi)) (ztA) (ztB) (ztC) (zwA) (zwB) (zpw)) (fun i _ => s1 i) 243 0 sB s1 ?_ (fun i f _ _ _ _ => rfl) ?_ (Nat.zero_le _)
  · intro n i f hi hW
    refine br_f (nI_ge (b := 243) hi (by decide)) ?_
    simp (disch := omega) only [xi_r32, zb_in, zb_ne, true_and, nI_clamp, kq_r_at, kq_r_w, kq_f_at, kq_f_u, forall_eq, nI_1, kq_mul, kq_mac, kq_mca, kq_add, xw_plus, xw_minus, xw_cell, xw_write, xw_cell5, xw_write5, xw_cell6, xw_write6, xw_cell7, xw_write7, xw_cell8, xw_write8, xw_cell9, xw_write9, xw_cell10, xw_write10, xw_cell11, xw_write11]
    exact hW
  intro n sB' hB'
  refine br_t (nI_le (a := 243) (Nat.le_refl 243) (by decide)) ?_
  refine ql_arr (fun n i (f : Nat → Kq) => wX_multiplyByHalves_59 post (nI a) n (nI i) (kq_r R) (zI) (zF) (zG) (kq_f (f)) (kq_f (sB')) (kq_f (c1)) (kq_f (ga)) (kq_f (gi)) (ztA) (ztB) (ztC) (zwA) (zwB) (zpw)) (fun i _ => R a i) 32 0 s1 (R a) ?_ (fun i f _ _ _ _ => rfl) ?_ (Nat.zero_le _)
  · intro n i f hi hW
    refine br_f (nI_ge (b := 32) hi (by decide)) ?_
    simp (disch := omega) only [xi_r32, zb_in, zb_ne, true_and, nI_clamp, kq_r_at, kq_r_w, kq_f_at, kq_f_u, forall_eq, nI_1, kq_mul, kq_mac, kq_mca, kq_add, xw_plus, xw_minus, xw_cell, xw_write, xw_cell5, xw_write5, xw_cell6, xw_write6, xw_cell7, xw_write7, xw_cell8, xw_write8, xw_cell9, xw_write9, xw_cell10, xw_write10, xw_cell11, xw_write11]
    exact hW
  intro n f2 hf2
  refine br_t (nI_le (a := 32) (Nat.le_refl 32) (by decide)) ?_
  refine xw_spread _ (R a) f2 c1 (fun i hi => by rw [hf2 i, if_pos (by omega)]) (fun s2 c2 hs2 => ?_)
  refine ql_ex (fun n i (f : Nat → Kq) => wX_multiplyByHalves_89 post n (nI i) (kq_r R) (zI) (zF) (zG) (kq_f (s2)) (kq_f (sB')) (kq_f (c2)) (kq_f (f)) (kq_f (gi)) (ztA) (ztB) (ztC) (zwA) (zwB) (zpw)) (fun i f => kq_u (kq_u f (2 * i) (s2 i * sB' i)) (2 * i + 1) 0) (fun k f => ∀ q, q < k → f (q * 2) = s2 q * sB' q ∧ f (q * 2 + 1) = 0) 243 0 ga ?_ ?_ ?_ (by decide) (fun q hq => by omega)
  · intro n i f hi _ hW
    refine br_f (nI_ge (b := 243) hi (by decide)) ?_
    have e2 : upd (kq_f (kq_u f (2 * i) (s2 i * sB' i))) (2 * i + 1) 0 = kq_f (kq_u (kq_u f (2 * i) (s2 i * sB' i)) (2 * i + 1) 0) := kq_f_u _ _ 0
    simp (disch := omega) only [xi_m2, xi_r32, zb_in, zb_ne, true_and, nI_clamp, kq_r_at, kq_r_w, kq_f_at, kq_f_u, forall_eq, nI_1, kq_mul, kq_mac, kq_mca, kq_add, xw_plus, xw_minus, xw_cell, xw_write, xw_cell5, xw_write5, xw_cell6, xw_write6, xw_cell7, xw_write7, xw_cell8, xw_write8, xw_cell9, xw_write9, xw_cell10, xw_write10, xw_cell11, xw_write11, e2]
    exact hW
  · intro k f hk hI q hq
    by_cases c : q = k
    · subst c
      refine ⟨?_, ?_⟩
      · rw [kq_u_n (by omega), Nat.mul_comm q 2, kq_u_s]
      · rw [Nat.mul_comm q 2, kq_u_s]
    · obtain ⟨h1, h2⟩ := hI q (by omega)
      refine ⟨?_, ?_⟩
      · rw [kq_u_n (by omega), kq_u_n (by omega), h1]
      · rw [kq_u_n (by omega), kq_u_n (by omega), h2]
  intro n g hg
  refine br_t (nI_le (a := 243) (Nat.le_refl 243) (by decide)) ?_
  refine xw_gather _ g gi (fun g2 gi2 hg2 => ?_)
  refine ql_row32 (fun n i Q => wX_multiplyByHalves_144 post n (nI i) (kq_r (Q)) (zI) (zF) (zG) (kq_f (s2)) (kq_f (sB')) (kq_f (c2)) (kq_f (g2)) (kq_f (gi2)) (ztA) (ztB) (ztC) (zwA) (zwB) (zpw)) 5 (fun i _ => g2 i) R (qs_c (R a) (R b)) ?_ ?_ ?_
  · intro n i Q hi hW
    refine br_f (nI_ge (b := 32) hi (by decide)) ?_
    simp (disch := omega) only [xi_r32, zb_in, zb_ne, true_and, nI_clamp, kq_r_at, kq_r_w, kq_f_at, kq_f_u, forall_eq, nI_1, kq_mul, kq_mac, kq_mca, kq_add, xw_plus, xw_minus, xw_cell, xw_write, xw_cell5, xw_write5, xw_cell6, xw_write6, xw_cell7, xw_write7, xw_cell8, xw_write8, xw_cell9, xw_write9, xw_cell10, xw_write10, xw_cell11, xw_write11]
    exact hW
  · intro i Q hi _ _
    show g2 i = _
    rw [hg2 i (by omega)]
    refine qk_end (R a) (R b) g (fun q hq => ?_) i hi
    obtain ⟨h1, h2⟩ := hg q hq
    refine ⟨?_, h2⟩
    rw [h1, hs2 q hq, hB' q, if_pos (by omega), hs1 q hq]
  · intro n Q hQ
    refine br_t (nI_le (a := 32) (Nat.le_refl 32) (by decide)) ?_
    show post (kq_r (Q), zI, zF, zG, kq_f (s2), kq_f (sB'), kq_f (c2), kq_f (g2), kq_f (gi2), ztA, ztB, ztC, zwA, zwB, zpw)
    rw [hQ]; exact h _ _ _ _ _
end
end
section
section
variable {zR zI zF zG zsA zsB zsC zga zgi ztA ztB ztC zwA zwB zpw : Nat → Int32}
/-! engine 2: thirds, the walk -/
def qo_t (f : Nat → Kq) (t i : Nat) : Kq := if t * 11 + i < 32 then f (t * 11 + i) else 0
theorem xi_th (t i : Nat) : nI t * 11 + nI i = nI (t * 11 + i) := by rw [show nI t * 11 = nI (t * 11) from pk_mul t 11, nI_add]
theorem xi_t21 (t i : Nat) : nI t * 21 + nI i = nI (t * 21 + i) := by rw [show nI t * 21 = nI (t * 21) from pk_mul t 21, nI_add]
theorem xi_a11 (h : Nat) : (11 : Int32) + nI h = nI (11 + h) := nI_add 11 h
theorem xi_a22 (h : Nat) : (22 : Int32) + nI h = nI (22 + h) := nI_add 22 h
theorem xi_a33 (h : Nat) : (33 : Int32) + nI h = nI (33 + h) := nI_add 33 h
theorem xi_a44 (h : Nat) : (44 : Int32) + nI h = nI (44 + h) := nI_add 44 h
theorem xi_a84 (h : Nat) : (84 : Int32) + nI h = nI (84 + h) := nI_add 84 h
theorem xi_a21 (h : Nat) : (21 : Int32) + nI h = nI (21 + h) := nI_add 21 h
theorem xi_a42 (h : Nat) : (42 : Int32) + nI h = nI (42 + h) := nI_add 42 h
theorem xi_a63 (h : Nat) : (63 : Int32) + nI h = nI (63 + h) := nI_add 63 h
theorem xi_a160 (h : Nat) : (160 : Int32) + nI h = nI (160 + h) := nI_add 160 h
theorem xi_p11 (h : Nat) : nI h + 11 = nI (h + 11) := nI_add h 11
theorem xi_p22 (h : Nat) : nI h + 22 = nI (h + 22) := nI_add h 22
theorem xi_p33 (h : Nat) : nI h + 33 = nI (h + 33) := nI_add h 33
theorem xi_p44 (h : Nat) : nI h + 44 = nI (h + 44) := nI_add h 44
theorem kq_lin24 (a b c : Kq) : ((kq_c a + 2 * kq_c b) + 4 * kq_c c) - ((kq_c a + 2 * kq_c b) + 4 * kq_c c) / 12289 * 12289 = kq_c (a + kq_n 2 * b + kq_n 4 * c) := kq_lin3 a b c 2 4 (by decide) (by decide)
theorem kq_lin416 (a b c : Kq) : ((kq_c a + 4 * kq_c b) + 16 * kq_c c) - ((kq_c a + 4 * kq_c b) + 16 * kq_c c) / 12289 * 12289 = kq_c (a + kq_n 4 * b + kq_n 16 * c) := kq_lin3 a b c 4 16 (by decide) (by decide)
theorem xw_thirdOf (post : Int32 → Prop) {R : Nat → Nat → Kq} {r t i : Nat} (hr : r < 12) (ht : t < 3) (hi : i < 11) : wpX_thirdOf post (kq_r R, zI, zF, zG, zsA, zsB, zsC, zga, zgi, ztA, ztB, ztC, zwA, zwB, zpw) (nI r) (nI t) (nI i) = post (kq_c (qo_t (R r) t i)) := by
  unfold wpX_thirdOf
  simp only [forall_eq, xi_th]
  unfold qo_t
  by_cases c : t * 11 + i < 32
  · rw [zb_f (show ¬ (32 : Int32) ≤ nI (t * 11 + i) from nI_ge (b := 32) c (by decide)), if_pos c, xw_cell _ hr c]
  · rw [zb_t (show (32 : Int32) ≤ nI (t * 11 + i) from nI_le (a := 32) (by omega) (by omega)), if_neg c]; rfl
theorem xw_thirdOf0 (post : Int32 → Prop) {R : Nat → Nat → Kq} {r i : Nat} (hr : r < 12) (hi : i < 11) : wpX_thirdOf post (kq_r R, zI, zF, zG, zsA, zsB, zsC, zga, zgi, ztA, ztB, ztC, zwA, zwB, zpw) (nI r) 0 (nI i) = post (kq_c (qo_t (R r) 0 i)) := xw_thirdOf (t := 0) post hr (by decide) hi
theorem xw_thirdOf1 (post : Int32 → Prop) {R : Nat → Nat → Kq} {r i : Nat} (hr : r < 12) (hi : i < 11) : wpX_thirdOf post (kq_r R, zI, zF, zG, zsA, zsB, zsC, zga, zgi, ztA, ztB, ztC, zwA, zwB, zpw) (nI r) 1 (nI i) = post (kq_c (qo_t (R r) 1 i)) := xw_thirdOf (t := 1) post hr (by decide) hi
theorem xw_thirdOf2 (post : Int32 → Prop) {R : Nat → Nat → Kq} {r i : Nat} (hr : r < 12) (hi : i < 11) : wpX_thirdOf post (kq_r R, zI, zF, zG, zsA, zsB, zsC, zga, zgi, ztA, ztB, ztC, zwA, zwB, zpw) (nI r) 2 (nI i) = post (kq_c (qo_t (R r) 2 i)) := xw_thirdOf (t := 2) post hr (by decide) hi
def qo_V (f : Nat → Kq) (z i : Nat) : Kq := if z = 0 then qo_t f 0 i else if z = 1 then qo_t f 0 i + qo_t f 2 i + qo_t f 1 i else if z = 2 then qo_t f 0 i + qo_t f 2 i - qo_t f 1 i else if z = 3 then qo_t f 0 i + kq_n 2 * qo_t f 1 i + kq_n 4 * qo_t f 2 i else qo_t f 2 i
def qo_l (f : Nat → Kq) (i : Nat) (b : Nat → Kq) : Nat → Kq := kq_u (kq_u (kq_u (kq_u (kq_u b i (qo_t f 0 i)) (11 + i) (qo_t f 0 i + qo_t f 2 i + qo_t f 1 i)) (22 + i) (qo_t f 0 i + qo_t f 2 i - qo_t f 1 i)) (33 + i) (qo_t f 0 i + kq_n 2 * qo_t f 1 i + kq_n 4 * qo_t f 2 i)) (44 + i) (qo_t f 2 i)
theorem qo_l_at (f : Nat → Kq) (i : Nat) (hi : i < 11) (b : Nat → Kq) : (∀ z, z < 5 → qo_l f i b (z * 11 + i) = qo_V f z i) ∧ (∀ z j, z < 5 → j < 11 → j ≠ i → qo_l f i b (z * 11 + j) = b (z * 11 + j)) := by
  constructor
  · intro z hz
    have hz' : z = 0 ∨ z = 1 ∨ z = 2 ∨ z = 3 ∨ z = 4 := by omega
    unfold qo_l qo_V
    rcases hz' with rfl | rfl | rfl | rfl | rfl
    · rw [kq_u_n (by omega), kq_u_n (by omega), kq_u_n (by omega), kq_u_n (by omega), show 0 * 11 + i = i by omega, kq_u_s]; rfl
    · rw [kq_u_n (by omega), kq_u_n (by omega), kq_u_n (by omega), show 1 * 11 + i = 11 + i by omega, kq_u_s]; rfl
    · rw [kq_u_n (by omega), kq_u_n (by omega), show 2 * 11 + i = 22 + i by omega, kq_u_s]; rfl
    · rw [kq_u_n (by omega), show 3 * 11 + i = 33 + i by omega, kq_u_s]; rfl
    · rw [show 4 * 11 + i = 44 + i by omega, kq_u_s]; rfl
  · intro z j hz hj hji
    unfold qo_l
    rw [kq_u_n (by omega), kq_u_n (by omega), kq_u_n (by omega), kq_u_n (by omega), kq_u_n (by omega)]
theorem xw_layThirds (post : SX → Prop) {R : Nat → Nat → Kq} {r : Nat} (hr : r < 12) (tB : Nat → Kq)
    (h : ∀ b, (∀ z i, z < 5 → i < 11 → b (z * 11 + i) = qo_V (R r) z i) → post (kq_r R, zI, zF, zG, zsA, zsB, zsC, zga, zgi, ztA, kq_f (b), ztC, zwA, zwB, zpw)) : wpX_layThirds post (kq_r R, zI, zF, zG, zsA, zsB, zsC, zga, zgi, ztA, kq_f (tB), ztC, zwA, zwB, zpw) (nI r) := by
  refine ql_ex (fun n i (b : Nat → Kq) => wX_layThirds_2 post (nI r) n (nI i) (kq_r R) (zI) (zF) (zG) (zsA) (zsB) (zsC) (zga) (zgi) (ztA) (kq_f (b)) (ztC) (zwA) (zwB) (zpw)) (fun i b => qo_l (R r) i b) (fun k b => ∀ z i, z < 5 → i < k → b (z * 11 + i) = qo_V (R r) z i) 11 0 tB ?_ ?_ ?_ (by decide) (fun z i _ hi => by omega)
  · intro n i b hi _ hW
    refine br_f (nI_ge (b := 11) hi (by decide)) ?_
    simp (disch := omega) only [xw_thirdOf0, xw_thirdOf1, xw_thirdOf2, xi_a11, xi_a22, xi_a33, xi_a44, kq_lin24, xi_r32, zb_in, zb_ne, true_and, nI_clamp, kq_r_at, kq_r_w, kq_f_at, kq_f_u, forall_eq, nI_1, kq_mul, kq_mac, kq_mca, kq_add, xw_plus, xw_minus, xw_cell, xw_write, xw_cell5, xw_write5, xw_cell6, xw_write6, xw_cell7, xw_write7, xw_cell8, xw_write8, xw_cell9, xw_write9, xw_cell10, xw_write10, xw_cell11, xw_write11]
    exact hW
  · intro k b hk hI z i hz hi
    by_cases c : i = k
    · rw [c]; exact (qo_l_at (R r) k hk b).1 z hz
    · rw [(qo_l_at (R r) k hk b).2 z i hz (by omega) c]; exact hI z i hz (by omega)
  · intro n b hI
    exact br_t (nI_le (a := 11) (Nat.le_refl 11) (by decide)) (h b hI)
/-- the product of two polynomials of eleven coefficients -/
def qo_c (A B : Nat → Kq) (m : Nat) : Kq := qs_m 11 (fun i => if i ≤ m ∧ m - i < 11 then A i * B (m - i) else 0)
def qo_e (A B : Nat → Kq) (o i k j : Nat) : Kq := if o + i ≤ j ∧ j - (o + i) < k then A i * B (j - (o + i)) else 0
theorem qo_e_s (A B : Nat → Kq) (o i k j : Nat) : qo_e A B o i (k + 1) j = qo_e A B o i k j + (if j = o + i + k then A i * B k else 0) := by
  unfold qo_e
  rw [qk_if (c := o + i ≤ j ∧ j - (o + i) < k) (d := j = o + i + k) (y := A i * B k) (by omega) (by omega) (fun e => by rw [e, show o + i + k - (o + i) = k by omega])]
theorem xw_thirds36 (post : SX → Prop) {J : Int32 → (Nat → Int32) → (Nat → Int32) → (Nat → Int32) → (Nat → Int32) → (Nat → Int32) → (Nat → Int32) → (Nat → Int32) → (Nat → Int32) → (Nat → Int32) → (Nat → Int32) → (Nat → Int32) → (Nat → Int32) → (Nat → Int32) → (Nat → Int32) → (Nat → Int32) → Prop} {p : Nat} (hp : p < 5) (tA tB : Nat → Kq) {i : Nat} (hi : i < 11) (c0 : Nat → Kq)
    (hJ : ∀ c, (∀ j, c j = c0 j + qo_e (fun l => tA (p * 11 + l)) (fun l => tB (p * 11 + l)) (p * 21) i 11 j) → J (nI (i + 1)) (zR) (zI) (zF) (zG) (zsA) (zsB) (zsC) (zga) (zgi) (kq_f (tA)) (kq_f (tB)) (kq_f (c)) (zwA) (zwB) (zpw)) : ∃ n, wX_multiplyThirds_36 post J (nI p) (nI i) n 0 (zR) (zI) (zF) (zG) (zsA) (zsB) (zsC) (zga) (zgi) (kq_f (tA)) (kq_f (tB)) (kq_f (c0)) (zwA) (zwB) (zpw) := by
  refine ql_ex (fun n l (c : Nat → Kq) => wX_multiplyThirds_36 post J (nI p) (nI i) n (nI l) (zR) (zI) (zF) (zG) (zsA) (zsB) (zsC) (zga) (zgi) (kq_f (tA)) (kq_f (tB)) (kq_f (c)) (zwA) (zwB) (zpw)) (fun l c => kq_a c (p * 21 + i + l) (tA (p * 11 + i) * tB (p * 11 + l))) (fun k c => ∀ j, c j = c0 j + qo_e (fun l => tA (p * 11 + l)) (fun l => tB (p * 11 + l)) (p * 21) i k j) 11 0 c0 ?_ ?_ ?_ (by decide) ?_
  · intro n l c hl _ hW
    refine br_f (nI_ge (b := 11) hl (by decide)) ?_
    simp (disch := omega) only [xi_t21, xi_th, nI_add, xi_r32, zb_in, zb_ne, true_and, nI_clamp, kq_r_at, kq_r_w, kq_f_at, kq_f_u, forall_eq, nI_1, kq_mul, kq_mac, kq_mca, kq_add, xw_plus, xw_minus, xw_cell, xw_write, xw_cell5, xw_write5, xw_cell6, xw_write6, xw_cell7, xw_write7, xw_cell8, xw_write8, xw_cell9, xw_write9, xw_cell10, xw_write10, xw_cell11, xw_write11]
    exact hW
  · intro k c hk hI j
    rw [kq_a_at, hI j, qo_e_s]; grind
  · intro n c hI
    exact br_t (nI_le (a := 11) (Nat.le_refl 11) (by decide)) (nm_r (nI_1 i) (hJ c hI))
  · intro j
    have e : qo_e (fun l => tA (p * 11 + l)) (fun l => tB (p * 11 + l)) (p * 21) i 0 j = 0 := if_neg (by omega)
    rw [e]; grind
theorem qo_e_m {A B : Nat → Kq} {o m : Nat} : qs_m 11 (fun i => qo_e A B o i 11 (o + m)) = qo_c A B m := by
  refine qs_congr (fun i hi => ?_)
  unfold qo_e
  by_cases c : i ≤ m ∧ m - i < 11
  · rw [if_pos c, if_pos (by omega), show o + m - (o + i) = m - i by omega]
  · rw [if_neg c, if_neg (by omega)]
theorem xw_thirdsP (post : SX → Prop) {p : Nat} (hp : p < 5) (tA tB c0 : Nat → Kq)
    (h : ∀ c, (∀ m, m < 21 → c (p * 21 + m) = qo_c (fun l => tA (p * 11 + l)) (fun l => tB (p * 11 + l)) m) → (∀ j, (j < p * 21 ∨ p * 21 + 21 ≤ j) → c j = c0 j) → post (zR, zI, zF, zG, zsA, zsB, zsC, zga, zgi, kq_f (tA), kq_f (tB), kq_f (c), zwA, zwB, zpw)) : wpX_multiplyThirds post (zR, zI, zF, zG, zsA, zsB, zsC, zga, zgi, kq_f (tA), kq_f (tB), kq_f (c0), zwA, zwB, zpw) (nI p) := by
  refine ql_ex (fun n i (c : Nat → Kq) => wX_multiplyThirds_2 post (nI p) n (nI i) (zR) (zI) (zF) (zG) (zsA) (zsB) (zsC) (zga) (zgi) (kq_f (tA)) (kq_f (tB)) (kq_f (c)) (zwA) (zwB) (zpw)) (fun i c => kq_u c (p * 21 + i) 0) (fun k c => (∀ m, m < k → c (p * 21 + m) = 0) ∧ (∀ j, (j < p * 21 ∨ p * 21 + 21 ≤ j) → c j = c0 j)) 21 0 c0 ?_ ?_ ?_ (by decide) ⟨fun m hm => by omega, fun j _ => rfl⟩
  · intro n i c hi _ hW
    refine br_f (nI_ge (b := 21) hi (by decide)) ?_
    have e2 : upd (kq_f c) (p * 21 + i) 0 = kq_f (kq_u c (p * 21 + i) 0) := kq_f_u _ _ 0
    simp (disch := omega) only [xi_t21, xi_r32, zb_in, zb_ne, true_and, nI_clamp, kq_r_at, kq_r_w, kq_f_at, kq_f_u, forall_eq, nI_1, kq_mul, kq_mac, kq_mca, kq_add, xw_plus, xw_minus, xw_cell, xw_write, xw_cell5, xw_write5, xw_cell6, xw_write6, xw_cell7, xw_write7, xw_cell8, xw_write8, xw_cell9, xw_write9, xw_cell10, xw_write10, xw_cell11, xw_write11, e2]
    exact hW
  · intro k c hk hI
    refine ⟨fun m hm => ?_, fun j hj => ?_⟩
    · by_cases e : m = k
      · rw [e, kq_u_s]
      · rw [kq_u_n (by omega)]; exact hI.1 m (by omega)
    · rw [kq_u_n (by omega)]; exact hI.2 j hj
  intro n c1 hc1
  refine br_t (nI_le (a := 21) (Nat.le_refl 21) (by decide)) ?_
  refine pk_loop (fun n i (c : Nat → Kq) => wX_multiplyThirds_28 post (nI p) n (nI i) (zR) (zI) (zF) (zG) (zsA) (zsB) (zsC) (zga) (zgi) (kq_f (tA)) (kq_f (tB)) (kq_f (c)) (zwA) (zwB) (zpw)) (fun k c => ∀ j, c j = c1 j + qs_m k (fun i => qo_e (fun l => tA (p * 11 + l)) (fun l => tB (p * 11 + l)) (p * 21) i 11 j)) 11 0 c1 (by decide) (fun j => by rw [qs_m_0]; grind) ?_ ?_
  · intro n c hc
    refine br_t (nI_le (a := 11) (Nat.le_refl 11) (by decide)) (h c (fun m hm => ?_) (fun j hj => ?_))
    · rw [hc, hc1.1 m hm, qo_e_m]; grind
    · have z : qs_m 11 (fun i => qo_e (fun l => tA (p * 11 + l)) (fun l => tB (p * 11 + l)) (p * 21) i 11 j) = 0 := qs_zero (fun i hi => if_neg (by omega))
      rw [hc, hc1.2 j hj, z]; grind
  · intro n i c hi hc K
    refine br_f (nI_ge (b := 11) hi (by decide)) ?_
    refine xw_thirds36 post hp tA tB hi c (fun c' hc' => K c' (fun j => ?_))
    rw [hc' j, hc j, qs_m_s]; grind
/-- a number added to coefficient p of row 5, if there is one -/
def qo_a (R : Nat → Nat → Kq) (p : Nat) (v : Kq) : Nat → Nat → Kq := fun a b => R a b + (if a = 5 ∧ b = p then v else 0)
theorem xw_addTo (post : SX → Prop) {R : Nat → Nat → Kq} {p : Nat} (hp : p < 100) (v : Kq) : wpX_addTo post (kq_r R, zI, zF, zG, zsA, zsB, zsC, zga, zgi, ztA, ztB, ztC, zwA, zwB, zpw) (nI p) (kq_c v) = post (kq_r (qo_a R p v), zI, zF, zG, zsA, zsB, zsC, zga, zgi, ztA, ztB, ztC, zwA, zwB, zpw) := by
  unfold wpX_addTo
  by_cases c : p < 32
  · have e1 : kq_r R (160 + p) = kq_c (R 5 p) := kq_r_at R (r := 5) c
    have e2 : ∀ x : Kq, upd (kq_r R) (160 + p) (kq_c x) = kq_r (kq_w R 5 p x) := fun x => kq_r_w R (r := 5) c x
    dsimp only
    rw [zb_f (show ¬ (32 : Int32) ≤ nI p from nI_ge (b := 32) c (by decide))]
    simp (disch := omega) only [xi_a160, xi_r32, zb_in, zb_ne, true_and, nI_clamp, kq_r_at, kq_r_w, kq_f_at, kq_f_u, forall_eq, nI_1, kq_mul, kq_mac, kq_mca, kq_add, xw_plus, xw_minus, xw_cell, xw_write, xw_cell5, xw_write5, xw_cell6, xw_write6, xw_cell7, xw_write7, xw_cell8, xw_write8, xw_cell9, xw_write9, xw_cell10, xw_write10, xw_cell11, xw_write11, e1, e2]
    have e3 : kq_r (kq_w R 5 p (R 5 p + v)) = kq_r (qo_a R p v) := kq_r_ext (fun a b _ => by
      show (if a = 5 ∧ b = p then R 5 p + v else R a b) = R a b + (if a = 5 ∧ b = p then v else 0)
      by_cases d : a = 5 ∧ b = p
      · rw [if_pos d, if_pos d, d.1, d.2]
      · rw [if_neg d, if_neg d]; grind)
    rw [e3]
  · dsimp only
    rw [zb_t (show (32 : Int32) ≤ nI p from nI_le (a := 32) (by omega) (by omega))]
    have e3 : kq_r R = kq_r (qo_a R p v) := kq_r_ext (fun a b hb => by
      show R a b = R a b + (if a = 5 ∧ b = p then v else 0)
      rw [if_neg (by omega)]; grind)
    rw [← e3]
def qo_3 (v0 v1 v2 v4 : Kq) : Kq := (v1 + v2) * qt_I 2 - v0 - v4
def qo_4 (v0 v1 v2 v3 v4 : Kq) : Kq := ((v3 - (v0 + kq_n 4 * qo_3 v0 v1 v2 v4 + kq_n 16 * v4)) * qt_I 2 - (v1 - v2) * qt_I 2) * qt_I 3
def qo_2 (v0 v1 v2 v3 v4 : Kq) : Kq := (v1 - v2) * qt_I 2 - qo_4 v0 v1 v2 v3 v4
def qo_j (c : Nat → Kq) (i : Nat) (R : Nat → Nat → Kq) : Nat → Nat → Kq := qo_a (qo_a (qo_a (qo_a (qo_a R i (c i)) (i + 11) (qo_2 (c i) (c (21 + i)) (c (42 + i)) (c (63 + i)) (c (84 + i)))) (i + 22) (qo_3 (c i) (c (21 + i)) (c (42 + i)) (c (84 + i)))) (i + 33) (qo_4 (c i) (c (21 + i)) (c (42 + i)) (c (63 + i)) (c (84 + i)))) (i + 44) (c (84 + i))
theorem xw_join (post : SX → Prop) {R : Nat → Nat → Kq} {i : Nat} (hi : i < 21) (tC : Nat → Kq) : wpX_joinThirds post (kq_r R, kq_f qt_I, zF, zG, zsA, zsB, zsC, zga, zgi, ztA, ztB, kq_f (tC), zwA, zwB, zpw) (nI i) = post (kq_r (qo_j tC i R), kq_f qt_I, zF, zG, zsA, zsB, zsC, zga, zgi, ztA, ztB, kq_f (tC), zwA, zwB, zpw) := by
  unfold wpX_joinThirds
  simp (disch := omega) only [xi_a21, xi_a42, xi_a63, xi_a84, xi_p11, xi_p22, xi_p33, xi_p44, xw_addTo, kq_lin416, xi_r32, zb_in, zb_ne, true_and, nI_clamp, kq_r_at, kq_r_w, kq_f_at, kq_f_u, forall_eq, nI_1, kq_mul, kq_mac, kq_mca, kq_add, xw_plus, xw_minus, xw_cell, xw_write, xw_cell5, xw_write5, xw_cell6, xw_write6, xw_cell7, xw_write7, xw_cell8, xw_write8, xw_cell9, xw_write9, xw_cell10, xw_write10, xw_cell11, xw_write11]
  rfl
theorem qo_j_at (c : Nat → Kq) (i : Nat) (R : Nat → Nat → Kq) (a b : Nat) (hb : b < 32) : qo_j c i R a b = R a b + (if a = 5 then (if b = i then c i else 0) + (if b = i + 11 then qo_2 (c i) (c (21 + i)) (c (42 + i)) (c (63 + i)) (c (84 + i)) else 0) + (if b = i + 22 then qo_3 (c i) (c (21 + i)) (c (42 + i)) (c (84 + i)) else 0) else 0) := by
  unfold qo_j qo_a
  by_cases h : a = 5
  · subst h
    simp only [true_and, if_true]
    rw [if_neg (show ¬ b = i + 33 by omega), if_neg (show ¬ b = i + 44 by omega)]; grind
  · rw [if_neg (fun z => h z.1), if_neg (fun z => h z.1), if_neg (fun z => h z.1), if_neg (fun z => h z.1), if_neg (fun z => h z.1), if_neg h]; grind
end
end
section
section
variable {zR zI zF zG zsA zsB zsC zga zgi ztA ztB ztC zwA zwB zpw : Nat → Int32}
/-! engine 2 gives the product -/
theorem qs_c_sub (f g h : Nat → Kq) : qs_c f (fun i => g i - h i) = fun i => qs_c f g i - qs_c f h i := by
  funext n
  show qs_m (n + 1) (fun i => f i * (g (n - i) - h (n - i))) = qs_m (n + 1) (fun i => f i * g (n - i)) - qs_m (n + 1) (fun i => f i * h (n - i))
  rw [← qs_sub]
  exact qs_congr (fun i hi => by grind)
theorem qs_c_sub' (f g h : Nat → Kq) : qs_c (fun i => f i - g i) h = fun i => qs_c f h i - qs_c g h i := by
  rw [qs_c_comm, qs_c_sub, qs_c_comm h f, qs_c_comm h g]
theorem qs_c_sm (c : Kq) (f g : Nat → Kq) : qs_c (fun i => c * f i) g = fun i => c * qs_c f g i := by
  funext n
  show qs_m (n + 1) (fun i => c * f i * g (n - i)) = c * qs_m (n + 1) (fun i => f i * g (n - i))
  rw [← qs_mulL]
  exact qs_congr (fun i hi => by grind)
theorem qs_c_sm' (c : Kq) (f g : Nat → Kq) : qs_c f (fun i => c * g i) = fun i => c * qs_c f g i := by
  rw [qs_c_comm, qs_c_sm, qs_c_comm]
/-- a third, nothing behind it -/
def qo_T (f : Nat → Kq) (t : Nat) : Nat → Kq := fun i => if i < 11 then qo_t f t i else 0
theorem qo_T_end (f : Nat → Kq) (t : Nat) : ∀ i, 11 ≤ i → qo_T f t i = 0 := fun i hi => if_neg (by omega)
theorem qo_T_sum (f : Nat → Kq) (i : Nat) (hi : i < 32) : f i = qo_T f 0 i + qs_h 11 (qo_T f 1) i + qs_h 22 (qo_T f 2) i := by
  by_cases c1 : i < 11
  · rw [qs_h_lt c1, qs_h_lt (by omega)]
    have e : qo_T f 0 i = f i := by
      show (if i < 11 then (if 0 * 11 + i < 32 then f (0 * 11 + i) else 0) else 0) = f i
      rw [if_pos c1, if_pos (by omega), show 0 * 11 + i = i by omega]
    rw [e]; grind
  · by_cases c2 : i < 22
    · rw [qs_h_ge (by omega), qs_h_lt c2, qo_T_end f 0 i (by omega)]
      have e : qo_T f 1 (i - 11) = f i := by
        show (if i - 11 < 11 then (if 1 * 11 + (i - 11) < 32 then f (1 * 11 + (i - 11)) else 0) else 0) = f i
        rw [if_pos (by omega), if_pos (by omega), show 1 * 11 + (i - 11) = i by omega]
      rw [e]; grind
    · rw [qs_h_ge (by omega), qs_h_ge (by omega), qo_T_end f 0 i (by omega), qo_T_end f 1 (i - 11) (by omega)]
      have e : qo_T f 2 (i - 22) = f i := by
        show (if i - 22 < 11 then (if 2 * 11 + (i - 22) < 32 then f (2 * 11 + (i - 22)) else 0) else 0) = f i
        rw [if_pos (by omega), if_pos (by omega), show 2 * 11 + (i - 22) = i by omega]
      rw [e]; grind
def qo_P (f : Nat → Kq) (z : Nat) : Nat → Kq := fun i => if i < 11 then qo_V f z i else 0
theorem qo_P_end (f : Nat → Kq) (z : Nat) : ∀ i, 11 ≤ i → qo_P f z i = 0 := fun i hi => if_neg (by omega)
theorem qo_P_0 (f : Nat → Kq) : qo_P f 0 = qo_T f 0 := rfl
theorem qo_P_1 (f : Nat → Kq) : qo_P f 1 = fun i => qo_T f 0 i + qo_T f 2 i + qo_T f 1 i := by
  funext i
  show (if i < 11 then qo_t f 0 i + qo_t f 2 i + qo_t f 1 i else 0) = (if i < 11 then qo_t f 0 i else 0) + (if i < 11 then qo_t f 2 i else 0) + (if i < 11 then qo_t f 1 i else 0)
  by_cases c : i < 11
  · rw [if_pos c, if_pos c, if_pos c, if_pos c]
  · rw [if_neg c, if_neg c, if_neg c, if_neg c]; grind
theorem qo_P_2 (f : Nat → Kq) : qo_P f 2 = fun i => qo_T f 0 i + qo_T f 2 i - qo_T f 1 i := by
  funext i
  show (if i < 11 then qo_t f 0 i + qo_t f 2 i - qo_t f 1 i else 0) = (if i < 11 then qo_t f 0 i else 0) + (if i < 11 then qo_t f 2 i else 0) - (if i < 11 then qo_t f 1 i else 0)
  by_cases c : i < 11
  · rw [if_pos c, if_pos c, if_pos c, if_pos c]
  · rw [if_neg c, if_neg c, if_neg c, if_neg c]; grind
theorem qo_P_3 (f : Nat → Kq) : qo_P f 3 = fun i => qo_T f 0 i + kq_n 2 * qo_T f 1 i + kq_n 4 * qo_T f 2 i := by
  funext i
  show (if i < 11 then qo_t f 0 i + kq_n 2 * qo_t f 1 i + kq_n 4 * qo_t f 2 i else 0) = (if i < 11 then qo_t f 0 i else 0) + kq_n 2 * (if i < 11 then qo_t f 1 i else 0) + kq_n 4 * (if i < 11 then qo_t f 2 i else 0)
  by_cases c : i < 11
  · rw [if_pos c, if_pos c, if_pos c, if_pos c]
  · rw [if_neg c, if_neg c, if_neg c, if_neg c]; grind
theorem qo_P_4 (f : Nat → Kq) : qo_P f 4 = qo_T f 2 := rfl
theorem qo_c_s {A B F G : Nat → Kq} (hA : ∀ i, i < 11 → F i = A i) (hB : ∀ i, i < 11 → G i = B i) (eF : ∀ i, 11 ≤ i → F i = 0) (eG : ∀ i, 11 ≤ i → G i = 0) (m : Nat) : qo_c A B m = qs_c F G m := by
  have e1 : qs_c F G m = qs_m (m + 1) (fun i => if i ≤ m ∧ m - i < 11 then F i * G (m - i) else 0) := qs_congr (fun i hi => by
    by_cases c : m - i < 11
    · rw [if_pos ⟨by omega, c⟩]
    · rw [if_neg (fun z => c z.2), eG (m - i) (by omega)]; grind)
  have e2 : qo_c A B m = qs_m 11 (fun i => if i ≤ m ∧ m - i < 11 then F i * G (m - i) else 0) := qs_congr (fun i hi => by
    by_cases c : i ≤ m ∧ m - i < 11
    · rw [if_pos c, if_pos c, hA i hi, hB (m - i) c.2]
    · rw [if_neg c, if_neg c])
  rw [e1, e2]
  by_cases c : m + 1 ≤ 11
  · exact qs_ext c (fun i h1 h2 => if_neg (by omega))
  · refine (qs_ext (by omega) (fun i h1 h2 => ?_)).symm
    rw [eF i h1]
    by_cases d : i ≤ m ∧ m - i < 11
    · rw [if_pos d]; grind
    · rw [if_neg d]
theorem qo_alg (a00 a01 a02 a10 a11 a12 a20 a21 a22 : Kq) : ∀ v0 v1 v2 v3 v4 : Kq, v0 = a00 → v1 = a00 + a01 + a02 + a10 + a11 + a12 + a20 + a21 + a22 → v2 = a00 - a01 + a02 - a10 + a11 - a12 + a20 - a21 + a22 →
    v3 = a00 + 2 * a01 + 4 * a02 + 2 * a10 + 4 * a11 + 8 * a12 + 4 * a20 + 8 * a21 + 16 * a22 → v4 = a22 → qo_3 v0 v1 v2 v4 = a02 + a11 + a20 ∧ qo_2 v0 v1 v2 v3 v4 = a01 + a10 := by
  intro v0 v1 v2 v3 v4 h0 h1 h2 h3 h4
  have e3 : qo_3 v0 v1 v2 v4 = a02 + a11 + a20 := by
    unfold qo_3
    rw [qt_I_2, h0, h1, h2, h4]; grind
  refine ⟨e3, ?_⟩
  unfold qo_2 qo_4
  rw [e3, qt_I_2, qt_I_3, show kq_n 4 = 4 from rfl, show kq_n 16 = 16 from rfl, h0, h1, h2, h3, h4]; grind
theorem qo_vals (f g : Nat → Kq) (m : Nat) : qo_3 (qs_c (qo_P f 0) (qo_P g 0) m) (qs_c (qo_P f 1) (qo_P g 1) m) (qs_c (qo_P f 2) (qo_P g 2) m) (qs_c (qo_P f 4) (qo_P g 4) m) = qs_c (qo_T f 0) (qo_T g 2) m + qs_c (qo_T f 1) (qo_T g 1) m + qs_c (qo_T f 2) (qo_T g 0) m ∧
    qo_2 (qs_c (qo_P f 0) (qo_P g 0) m) (qs_c (qo_P f 1) (qo_P g 1) m) (qs_c (qo_P f 2) (qo_P g 2) m) (qs_c (qo_P f 3) (qo_P g 3) m) (qs_c (qo_P f 4) (qo_P g 4) m) = qs_c (qo_T f 0) (qo_T g 1) m + qs_c (qo_T f 1) (qo_T g 0) m := by
  refine qo_alg (qs_c (qo_T f 0) (qo_T g 0) m) (qs_c (qo_T f 0) (qo_T g 1) m) (qs_c (qo_T f 0) (qo_T g 2) m) (qs_c (qo_T f 1) (qo_T g 0) m) (qs_c (qo_T f 1) (qo_T g 1) m) (qs_c (qo_T f 1) (qo_T g 2) m) (qs_c (qo_T f 2) (qo_T g 0) m) (qs_c (qo_T f 2) (qo_T g 1) m) (qs_c (qo_T f 2) (qo_T g 2) m) _ _ _ _ _ ?_ ?_ ?_ ?_ ?_
  · rw [qo_P_0, qo_P_0]
  · rw [qo_P_1, qo_P_1]
    simp only [qs_c_add, qs_c_add']; grind
  · rw [qo_P_2, qo_P_2]
    simp only [qs_c_add, qs_c_add', qs_c_sub, qs_c_sub']; grind
  · rw [qo_P_3, qo_P_3]
    simp only [qs_c_add, qs_c_add', qs_c_sm, qs_c_sm', show kq_n 2 = 2 from rfl, show kq_n 4 = 4 from rfl]; grind
  · rw [qo_P_4, qo_P_4]
theorem qs_h_add (s : Nat) (f g : Nat → Kq) : qs_h s (fun i => f i + g i) = fun i => qs_h s f i + qs_h s g i := by
  funext i
  by_cases h : i < s
  · rw [qs_h_lt h, qs_h_lt h, qs_h_lt h]; grind
  · rw [qs_h_ge (by omega), qs_h_ge (by omega), qs_h_ge (by omega)]
theorem qo_prod (f g : Nat → Kq) (n : Nat) (hn : n < 32) : qs_c f g n = qs_c (qo_T f 0) (qo_T g 0) n + qs_h 11 (fun m => qs_c (qo_T f 0) (qo_T g 1) m + qs_c (qo_T f 1) (qo_T g 0) m) n + qs_h 22 (fun m => qs_c (qo_T f 0) (qo_T g 2) m + qs_c (qo_T f 1) (qo_T g 1) m + qs_c (qo_T f 2) (qo_T g 0) m) n := by
  rw [qs_c_em (k := 32) (fun i hi => qo_T_sum f i hi) (fun i hi => qo_T_sum g i hi) n hn]
  simp only [qs_c_add, qs_c_add', qs_h_c, qs_h_c', qs_h_add, qs_h_h]
  rw [qs_h_lt (s := 11 + 22) (by omega), qs_h_lt (s := 22 + 11) (by omega), qs_h_lt (s := 22 + 22) (by omega)]
  show _ + _ + _ + (_ + qs_h 22 (qs_c (qo_T f 1) (qo_T g 1)) n + _) + _ = _
  grind
theorem qo_dl (c : Nat → Kq) (b s : Nat) : qs_m 21 (fun i => if b = i + s then c i else 0) = if s ≤ b ∧ b < s + 21 then c (b - s) else 0 := by
  by_cases h : s ≤ b ∧ b < s + 21
  · rw [if_pos h, qs_one (k := b - s) (by omega) (fun i _ hne => if_neg (by omega)), if_pos (by omega)]
  · rw [if_neg h]
    exact qs_zero (fun i hi => if_neg (by omega))
theorem xw_thirds (post : SX → Prop) {R : Nat → Nat → Kq} {a b : Nat} (ha : a < 12) (hb : b < 12) (ha5 : a ≠ 5) (hb5 : b ≠ 5) (tA tB tC : Nat → Kq)
    (h : ∀ tA tB tC, post (kq_r (kq_s R 5 (qs_c (R a) (R b))), kq_f qt_I, zF, zG, zsA, zsB, zsC, zga, zgi, kq_f (tA), kq_f (tB), kq_f (tC), zwA, zwB, zpw)) : wpX_multiplyByThirds post (kq_r R, kq_f qt_I, zF, zG, zsA, zsB, zsC, zga, zgi, kq_f (tA), kq_f (tB), kq_f (tC), zwA, zwB, zpw) (nI a) (nI b) := by
  refine xw_layThirds _ ha tB (fun b1 hb1 => ?_)
  refine ql_arr (fun n i (f : Nat → Kq) => wX_multiplyByThirds_7 post (nI b) n (nI i) (kq_r R) (kq_f qt_I) (zF) (zG) (zsA) (zsB) (zsC) (zga) (zgi) (kq_f (f)) (kq_f (b1)) (kq_f (tC)) (zwA) (zwB) (zpw)) (fun i _ => b1 i) 55 0 tA b1 ?_ (fun i f _ _ _ _ => rfl) ?_ (Nat.zero_le _)
  · intro n i f hi hW
    refine br_f (nI_ge (b := 55) hi (by decide)) ?_
    simp (disch := omega) only [xi_r32, zb_in, zb_ne, true_and, nI_clamp, kq_r_at, kq_r_w, kq_f_at, kq_f_u, forall_eq, nI_1, kq_mul, kq_mac, kq_mca, kq_add, xw_plus, xw_minus, xw_cell, xw_write, xw_cell5, xw_write5, xw_cell6, xw_write6, xw_cell7, xw_write7, xw_cell8, xw_write8, xw_cell9, xw_write9, xw_cell10, xw_write10, xw_cell11, xw_write11]
    exact hW
  intro n A hA
  refine br_t (nI_le (a := 55) (Nat.le_refl 55) (by decide)) ?_
  refine xw_layThirds _ hb b1 (fun B hB => ?_)
  have hA' : ∀ z i, z < 5 → i < 11 → A (z * 11 + i) = qo_V (R a) z i := fun z i hz hi => by rw [hA, if_pos (by omega), hb1 z i hz hi]
  refine pk_loop (fun n p (c : Nat → Kq) => wX_multiplyByThirds_38 post n (nI p) (kq_r R) (kq_f qt_I) (zF) (zG) (zsA) (zsB) (zsC) (zga) (zgi) (kq_f (A)) (kq_f (B)) (kq_f (c)) (zwA) (zwB) (zpw)) (fun k c => ∀ p m, p < k → m < 21 → c (p * 21 + m) = qs_c (qo_P (R a) p) (qo_P (R b) p) m) 5 0 tC (by decide) (fun p m hp _ => by omega) ?_ ?_
  rotate_left
  · intro n p c hp hc K
    refine br_f (nI_ge (b := 5) hp (by decide)) ?_
    refine xw_thirdsP _ hp A B c (fun c' h1 h2 => ?_)
    refine nm_r (nI_1 p) (K c' (fun q m hq hm => ?_))
    by_cases e : q = p
    · rw [e, h1 m hm]
      exact qo_c_s (fun i hi => by rw [hA' p i hp hi]; exact if_pos hi) (fun i hi => by rw [hB p i hp hi]; exact if_pos hi) (qo_P_end _ _) (qo_P_end _ _) m
    · rw [h2 _ (by omega), hc q m (by omega) hm]
  intro n c hc
  refine br_t (nI_le (a := 5) (Nat.le_refl 5) (by decide)) ?_
  refine xw_clearRow (t := 5) _ (by decide) ?_
  refine ql_ex (fun n i (Q : Nat → Nat → Kq) => wX_multiplyByThirds_61 post n (nI i) (kq_r (Q)) (kq_f qt_I) (zF) (zG) (zsA) (zsB) (zsC) (zga) (zgi) (kq_f (A)) (kq_f (B)) (kq_f (c)) (zwA) (zwB) (zpw)) (fun i Q => qo_j c i Q) (fun k Q => ∀ x y, y < 32 → Q x y = if x = 5 then qs_m k (fun i => if y = i + 0 then c i else 0) + qs_m k (fun i => if y = i + 11 then qo_2 (c i) (c (21 + i)) (c (42 + i)) (c (63 + i)) (c (84 + i)) else 0) + qs_m k (fun i => if y = i + 22 then qo_3 (c i) (c (21 + i)) (c (42 + i)) (c (84 + i)) else 0) else R x y) 21 0 (kq_s R 5 (fun _ => 0)) ?_ ?_ ?_ (by decide) ?_
  · intro n i Q hi _ hW
    refine br_f (nI_ge (b := 21) hi (by decide)) ?_
    rw [xw_join _ hi c]
    simp only [forall_eq, nI_1]
    exact hW
  · intro k Q hk hQ x y hy
    rw [qo_j_at c k Q x y hy, hQ x y hy]
    by_cases hx : x = 5
    · rw [if_pos hx, if_pos hx, if_pos hx, qs_m_s, qs_m_s, qs_m_s, Nat.add_zero]; grind
    · rw [if_neg hx, if_neg hx, if_neg hx]; grind
  · intro n Q hQ
    refine br_t (nI_le (a := 21) (Nat.le_refl 21) (by decide)) ?_
    have e : kq_r Q = kq_r (kq_s R 5 (qs_c (R a) (R b))) := kq_r_ext fun x y hy => by
      rw [hQ x y hy]
      show _ = if x = 5 then qs_c (R a) (R b) y else R x y
      by_cases hx : x = 5
      · rw [if_pos hx, if_pos hx, qo_prod (R a) (R b) y hy]
        have v : ∀ i, i < 21 → c i = qs_c (qo_P (R a) 0) (qo_P (R b) 0) i ∧ c (21 + i) = qs_c (qo_P (R a) 1) (qo_P (R b) 1) i ∧ c (42 + i) = qs_c (qo_P (R a) 2) (qo_P (R b) 2) i ∧ c (63 + i) = qs_c (qo_P (R a) 3) (qo_P (R b) 3) i ∧ c (84 + i) = qs_c (qo_P (R a) 4) (qo_P (R b) 4) i := fun i hi => by
          have c0 := hc 0 i (by decide) hi
          have c1 := hc 1 i (by decide) hi
          have c2 := hc 2 i (by decide) hi
          have c3 := hc 3 i (by decide) hi
          have c4 := hc 4 i (by decide) hi
          rw [show 0 * 21 + i = i by omega] at c0
          exact ⟨c0, c1, c2, c3, c4⟩
        rw [qo_dl c y 0, qo_dl (fun i => qo_2 (c i) (c (21 + i)) (c (42 + i)) (c (63 + i)) (c (84 + i))) y 11, qo_dl (fun i => qo_3 (c i) (c (21 + i)) (c (42 + i)) (c (84 + i))) y 22]
        have t0 : (if 0 ≤ y ∧ y < 0 + 21 then c (y - 0) else 0) = qs_c (qo_T (R a) 0) (qo_T (R b) 0) y := by
          by_cases d : y < 21
          · rw [if_pos (by omega), Nat.sub_zero, (v y d).1, qo_P_0, qo_P_0]
          · rw [if_neg (by omega)]
            exact (qs_c_end (qo_T_end _ 0) (qo_T_end _ 0) y (by omega)).symm
        have t1 : (if 11 ≤ y ∧ y < 11 + 21 then qo_2 (c (y - 11)) (c (21 + (y - 11))) (c (42 + (y - 11))) (c (63 + (y - 11))) (c (84 + (y - 11))) else 0) = qs_h 11 (fun m => qs_c (qo_T (R a) 0) (qo_T (R b) 1) m + qs_c (qo_T (R a) 1) (qo_T (R b) 0) m) y := by
          by_cases d : 11 ≤ y
          · obtain ⟨w0, w1, w2, w3, w4⟩ := v (y - 11) (by omega)
            rw [if_pos (by omega), qs_h_ge d, w0, w1, w2, w3, w4]
            exact (qo_vals (R a) (R b) (y - 11)).2
          · rw [if_neg (by omega), qs_h_lt (by omega)]
        have t2 : (if 22 ≤ y ∧ y < 22 + 21 then qo_3 (c (y - 22)) (c (21 + (y - 22))) (c (42 + (y - 22))) (c (84 + (y - 22))) else 0) = qs_h 22 (fun m => qs_c (qo_T (R a) 0) (qo_T (R b) 2) m + qs_c (qo_T (R a) 1) (qo_T (R b) 1) m + qs_c (qo_T (R a) 2) (qo_T (R b) 0) m) y := by
          by_cases d : 22 ≤ y
          · obtain ⟨w0, w1, w2, w3, w4⟩ := v (y - 22) (by omega)
            rw [if_pos (by omega), qs_h_ge d, w0, w1, w2, w4]
            exact (qo_vals (R a) (R b) (y - 22)).1
          · rw [if_neg (by omega), qs_h_lt (by omega)]
        rw [t0, t1, t2]
      · rw [if_neg hx, if_neg hx]
    show post (kq_r (Q), kq_f qt_I, zF, zG, zsA, zsB, zsC, zga, zgi, kq_f (A), kq_f (B), kq_f (c), zwA, zwB, zpw)
    rw [e]; exact h _ _ _
  · intro x y hy
    rw [qs_m_0, qs_m_0, qs_m_0]
    show (if x = 5 then (0 : Kq) else R x y) = _
    by_cases hx : x = 5
    · rw [if_pos hx, if_pos hx]; decide
    · rw [if_neg hx, if_neg hx]
end
end
section
section
variable {zR zI zF zG zsA zsB zsC zga zgi ztA ztB ztC zwA zwB zpw : Nat → Int32}
/-! engine 3: roots of one, the walk of a transform -/
theorem ql_arr1 (W : Nat → Nat → (Nat → Kq) → Prop) (v : Nat → (Nat → Kq) → Kq) (e i0 : Nat) (f0 g : Nat → Kq)
    (hs : ∀ n i f, i0 ≤ i → i < e → W n (i + 1) (kq_u f i (v i f)) → W (n + 1) i f)
    (hv : ∀ i f, i0 ≤ i → i < e → (∀ j, i0 ≤ j → j < i → f j = g j) → (∀ j, (i ≤ j ∨ j < i0) → f j = f0 j) → v i f = g i)
    (hx : ∀ n f, (∀ j, f j = if i0 ≤ j ∧ j < e then g j else f0 j) → W (n + 1) e f) (h : i0 ≤ e) : ∃ n, W n i0 f0 := by
  refine ql_ex W (fun i f => kq_u f i (v i f)) (fun k f => i0 ≤ k ∧ ∀ j, f j = if i0 ≤ j ∧ j < k then g j else f0 j) e i0 f0 (fun n i f hi hI hW => hs n i f hI.1 hi hW) ?_ (fun n f hf => hx n f hf.2) h ?_
  · intro k f hk hf
    refine ⟨by omega, fun j => ?_⟩
    have e1 : v k f = g k := by
      refine hv k f hf.1 hk (fun b h1 h2 => ?_) (fun b hb => ?_)
      · rw [hf.2 b, if_pos (by omega)]
      · rw [hf.2 b, if_neg (by omega)]
    show (if j = k then v k f else f j) = _
    rw [e1, hf.2 j]
    by_cases h1 : j = k
    · rw [if_pos h1, if_pos (by omega), h1]
    · rw [if_neg h1]
      by_cases h2 : i0 ≤ j ∧ j < k
      · rw [if_pos h2, if_pos (by omega)]
      · rw [if_neg h2, if_neg (by omega)]
  · exact ⟨Nat.le_refl _, fun j => by rw [if_neg (by omega)]⟩
def qv_f (x0 : Int32) : Nat → Int32
  | 0 => 0
  | b + 1 => qv_f x0 b ||| (((x0 >>> (nI b &&& 31)) &&& 1) <<< ((5 - nI b) &&& 31))
def qv_r (i : Nat) : Nat := (i % 2) * 32 + (i / 2 % 2) * 16 + (i / 4 % 2) * 8 + (i / 8 % 2) * 4 + (i / 16 % 2) * 2 + (i / 32 % 2)
theorem qv_ok : ∀ i, i < 64 → qv_f (nI i) 6 = nI (qv_r i) := by decide +kernel
theorem qv_rr : ∀ i, i < 64 → qv_r i < 64 ∧ qv_r (qv_r i) = i := by decide +kernel
theorem qv_rs : ∀ t, t < 6 → ∀ b, b < 32 → (b < 2 ^ (5 - t) → qv_r ((2 * b + 1) * 2 ^ t) = qv_r (2 * b * 2 ^ t) + 2 ^ (5 - t)) := by decide +kernel
theorem xw_turned (post : Int32 → Prop) {i : Nat} (hi : i < 64) (h : post (nI (qv_r i))) : wpX_turned post (nI i) := by
  refine ql_ex (fun n b (x : Int32) => wX_turned_4 post (nI i) n x (nI b)) (fun b x => x ||| (((nI i >>> (nI b &&& 31)) &&& 1) <<< ((5 - nI b) &&& 31))) (fun k x => x = qv_f (nI i) k) 6 0 0 ?_ ?_ ?_ (by decide) rfl
  · intro n b x hb _ hW
    exact br_f (nI_ge (b := 6) hb (by decide)) (nm_e (nm_r (nI_1 b) hW))
  · intro k x hk hx
    show _ = qv_f (nI i) k ||| _
    rw [hx]
  · intro n x hx
    refine br_t (nI_le (a := 6) (Nat.le_refl 6) (by decide)) ?_
    rw [hx, qv_ok i hi]; exact h
theorem xw_turnAll (post : SX → Prop) (a : Nat → Kq) (h : ∀ f, (∀ j, j < 64 → f j = a (qv_r j)) → ∃ n, wX_transform_95 post n 2 (zR) (zI) (zF) (zG) (zsA) (zsB) (zsC) (zga) (zgi) (ztA) (ztB) (ztC) (kq_f (f)) (zwB) (zpw)) : ∃ n, wX_transform_43 post n 0 (zR) (zI) (zF) (zG) (zsA) (zsB) (zsC) (zga) (zgi) (ztA) (ztB) (ztC) (kq_f (a)) (zwB) (zpw) := by
  refine ql_ex (fun n i (f : Nat → Kq) => wX_transform_43 post n (nI i) (zR) (zI) (zF) (zG) (zsA) (zsB) (zsC) (zga) (zgi) (ztA) (ztB) (ztC) (kq_f (f)) (zwB) (zpw)) (fun i f => if i < qv_r i then kq_u (kq_u f i (f (qv_r i))) (qv_r i) (f i) else f) (fun k f => ∀ j, j < 64 → f j = if j < k ∨ qv_r j < k then a (qv_r j) else a j) 64 0 a ?_ ?_ ?_ (by decide) ?_
  · intro n i f hi _ hW
    obtain ⟨r1, r2⟩ := qv_rr i hi
    refine br_f (nI_ge (b := 64) hi (by decide)) (xw_turned _ hi ?_)
    by_cases c : i < qv_r i
    · rw [if_pos c] at hW
      refine br_f (nI_ge c (by omega)) ?_
      simp (disch := omega) only [xi_r32, zb_in, zb_ne, true_and, nI_clamp, kq_r_at, kq_r_w, kq_f_at, kq_f_u, forall_eq, nI_1, kq_mul, kq_mac, kq_mca, kq_add, xw_plus, xw_minus, xw_cell, xw_write, xw_cell5, xw_write5, xw_cell6, xw_write6, xw_cell7, xw_write7, xw_cell8, xw_write8, xw_cell9, xw_write9, xw_cell10, xw_write10, xw_cell11, xw_write11]
      exact hW
    · rw [if_neg c] at hW
      exact br_t (nI_le (by omega) (by omega)) (nm_r (nI_1 i) hW)
  · intro k f hk hI j hj
    obtain ⟨r1, r2⟩ := qv_rr k hk
    obtain ⟨s1, s2⟩ := qv_rr j hj
    have inj : qv_r j = qv_r k → j = k := fun e => by rw [← s2, e, r2]
    by_cases c : k < qv_r k
    · show (if k < qv_r k then kq_u (kq_u f k (f (qv_r k))) (qv_r k) (f k) else f) j = _
      rw [if_pos c]
      by_cases e1 : j = qv_r k
      · rw [e1, kq_u_s, hI k hk, if_neg (by omega), if_pos (by omega), r2]
      · rw [kq_u_n e1]
        by_cases e2 : j = k
        · rw [e2, kq_u_s, hI _ r1, if_neg (by omega), if_pos (by omega)]
        · rw [kq_u_n e2, hI j hj]
          have e3 : qv_r j ≠ k := fun z => e1 (by rw [← s2, z])
          by_cases c3 : j < k ∨ qv_r j < k
          · rw [if_pos c3, if_pos (by omega)]
          · rw [if_neg c3, if_neg (by omega)]
    · show (if k < qv_r k then kq_u (kq_u f k (f (qv_r k))) (qv_r k) (f k) else f) j = _
      rw [if_neg c, hI j hj]
      by_cases c3 : j < k ∨ qv_r j < k
      · rw [if_pos c3, if_pos (by omega)]
      · rw [if_neg c3]
        by_cases e2 : j = k
        · have e4 : qv_r k = k := by
            rw [e2] at c3; omega
          rw [if_pos (by omega), e2, e4]
        · by_cases e3 : qv_r j = k
          · have e5 : j = qv_r k := by rw [← e3, s2]
            omega
          · rw [if_neg (by omega)]
  · intro n f hI
    refine br_t (nI_le (a := 64) (Nat.le_refl 64) (by decide)) (h f (fun j hj => ?_))
    rw [hI j hj, if_pos (by omega)]
  · intro j hj
    rw [if_neg (by omega)]
theorem xw_cross2 (post : SX → Prop) {wA : Nat → Kq} {p q : Nat} (hp : p < 64) (hq : q < 64) (w : Kq) : wpX_cross2 post (zR, zI, zF, zG, zsA, zsB, zsC, zga, zgi, ztA, ztB, ztC, kq_f (wA), zwB, zpw) (nI p) (nI q) (kq_c w) = post (zR, zI, zF, zG, zsA, zsB, zsC, zga, zgi, ztA, ztB, ztC, kq_f (kq_u (kq_u wA p (wA p + wA q * w)) q (wA p - wA q * w)), zwB, zpw) := by
  unfold wpX_cross2
  simp (disch := omega) only [xi_r32, zb_in, zb_ne, true_and, nI_clamp, kq_r_at, kq_r_w, kq_f_at, kq_f_u, forall_eq, nI_1, kq_mul, kq_mac, kq_mca, kq_add, xw_plus, xw_minus, xw_cell, xw_write, xw_cell5, xw_write5, xw_cell6, xw_write6, xw_cell7, xw_write7, xw_cell8, xw_write8, xw_cell9, xw_write9, xw_cell10, xw_write10, xw_cell11, xw_write11]
/-- the pairs of a stage: blocks of size h, two and two -/
def qv_x (h i : Nat) (w : Kq) (f : Nat → Kq) : Nat → Kq := kq_u (kq_u f (2 * (i / h) * h + i % h) (f (2 * (i / h) * h + i % h) + f ((2 * (i / h) + 1) * h + i % h) * w)) ((2 * (i / h) + 1) * h + i % h) (f (2 * (i / h) * h + i % h) - f ((2 * (i / h) + 1) * h + i % h) * w)
theorem qv_x_at {h i b k : Nat} (hk : k < h) (w : Kq) (f : Nat → Kq) : qv_x h i w f (2 * b * h + k) = (if b = i / h ∧ k = i % h then f (2 * b * h + k) + f ((2 * b + 1) * h + k) * w else f (2 * b * h + k)) ∧ qv_x h i w f ((2 * b + 1) * h + k) = (if b = i / h ∧ k = i % h then f (2 * b * h + k) - f ((2 * b + 1) * h + k) * w else f ((2 * b + 1) * h + k)) := by
  have hm : i % h < h := Nat.mod_lt _ (by omega)
  unfold qv_x
  by_cases c : b = i / h ∧ k = i % h
  · rw [if_pos c, if_pos c, ← c.1, ← c.2]
    refine ⟨?_, ?_⟩
    · rw [qi_u _ _ hk hk, if_neg (by omega), kq_u_s]
    · rw [kq_u_s]
  · rw [if_neg c, if_neg c]
    refine ⟨?_, ?_⟩
    · rw [qi_u _ _ hm hk, if_neg (by omega), qi_u _ _ hm hk, if_neg (by omega)]
    · rw [qi_u _ _ hm hk, if_neg (by omega), qi_u _ _ hm hk, if_neg (by omega)]
theorem qv_dm {h b k i : Nat} (hk : k < h) : (b = i / h ∧ k = i % h) ↔ i = b * h + k := by
  constructor
  · rintro ⟨h1, h2⟩
    rw [h1, h2, Nat.mul_comm]; exact (Nat.div_add_mod i h).symm
  · intro e
    have h0 : 0 < h := by omega
    subst e
    refine ⟨?_, ?_⟩
    · rw [Nat.mul_comm b h, Nat.mul_add_div h0, Nat.div_eq_of_lt hk, Nat.add_zero]
    · rw [Nat.mul_comm b h, Nat.mul_add_mod, Nat.mod_eq_of_lt hk]
theorem qv_tab : ∀ t, t < 6 → 2 ^ (t + 1) = 2 * 2 ^ t ∧ 2 ^ (t + 1) ≤ 64 ∧ 0 < 2 ^ t ∧ 2 ^ t * 2 ^ (5 - t) = 32 ∧ 64 / 2 ^ (t + 1) = 2 ^ (5 - t) ∧ 2 ^ (6 - t) = 2 * 2 ^ (5 - t) ∧ 6 - (t + 1) = 5 - t := by decide
theorem xw_stage (post : SX → Prop) {J : Int32 → (Nat → Int32) → (Nat → Int32) → (Nat → Int32) → (Nat → Int32) → (Nat → Int32) → (Nat → Int32) → (Nat → Int32) → (Nat → Int32) → (Nat → Int32) → (Nat → Int32) → (Nat → Int32) → (Nat → Int32) → (Nat → Int32) → (Nat → Int32) → (Nat → Int32) → Prop} {t : Nat} (ht : t < 6) (pw a : Nat → Kq)
    (hJ : ∀ f, (∀ b k, b < 2 ^ (5 - t) → k < 2 ^ t → f (2 * b * 2 ^ t + k) = a (2 * b * 2 ^ t + k) + a ((2 * b + 1) * 2 ^ t + k) * pw (k * 2 ^ (5 - t)) ∧ f ((2 * b + 1) * 2 ^ t + k) = a (2 * b * 2 ^ t + k) - a ((2 * b + 1) * 2 ^ t + k) * pw (k * 2 ^ (5 - t))) → J (nI (2 ^ (t + 2))) (zR) (zI) (zF) (zG) (zsA) (zsB) (zsC) (zga) (zgi) (ztA) (ztB) (ztC) (kq_f (f)) (zwB) (kq_f (pw))) :
    ∃ n, wX_transform_103 post J (nI (2 ^ (t + 1))) n 0 (zR) (zI) (zF) (zG) (zsA) (zsB) (zsC) (zga) (zgi) (ztA) (ztB) (ztC) (kq_f (a)) (zwB) (kq_f (pw)) := by
  obtain ⟨k1, k2, k3, k4, k5, k6, k7⟩ := qv_tab t ht
  generalize hh : 2 ^ t = h at *
  generalize hd : 2 ^ (5 - t) = d at *
  refine ql_ex (fun n i (f : Nat → Kq) => wX_transform_103 post J (nI (2 ^ (t + 1))) n (nI i) (zR) (zI) (zF) (zG) (zsA) (zsB) (zsC) (zga) (zgi) (ztA) (ztB) (ztC) (kq_f (f)) (zwB) (kq_f (pw))) (fun i f => qv_x h i (pw (i % h * d)) f) (fun n f => ∀ b k, b < d → k < h → f (2 * b * h + k) = (if b * h + k < n then a (2 * b * h + k) + a ((2 * b + 1) * h + k) * pw (k * d) else a (2 * b * h + k)) ∧ f ((2 * b + 1) * h + k) = (if b * h + k < n then a (2 * b * h + k) - a ((2 * b + 1) * h + k) * pw (k * d) else a ((2 * b + 1) * h + k))) 32 0 a ?_ ?_ ?_ (by decide) ?_
  · intro n i f hi _ hW
    have hm : i % h < h := Nat.mod_lt _ k3
    have e1 : nI (2 ^ (t + 1)) / 2 = nI h := by
      rw [k1, show nI (2 * h) / 2 = nI (2 * h / 2) from pk_div (d := 2) (by omega) (by decide) (by decide), show 2 * h / 2 = h by omega]
    have e2 : nI i / nI h = nI (i / h) := pk_div (by omega) k3 (by omega)
    have e3 : nI i - nI (i / h) * nI h = nI (i % h) := by rw [← e2]; exact pk_rem (by omega) k3 (by omega)
    have e3b : nI i - nI (i / h * h) = nI (i % h) := by rw [← pk_mul]; exact e3
    have e4 : (64 : Int32) / nI (2 ^ (t + 1)) = nI d := by
      rw [show (64 : Int32) / nI (2 ^ (t + 1)) = nI (64 / 2 ^ (t + 1)) from pk_div (a := 64) (by decide) (by omega) (by omega), k5]
    have n1 : (¬ nI h = 0) = True := eq_true (nI_ne0 k3 (by omega))
    have n2 : (¬ nI (2 ^ (t + 1)) = 0) = True := eq_true (nI_ne0 (by omega) (by omega))
    have n3 : (¬ (2 : Int32) = 0) = True := by decide
    have b0 : i / h * h + i % h = i := by rw [Nat.mul_comm]; exact Nat.div_add_mod i h
    have b1 : i / h + 1 ≤ d := by
      have : i / h < d := by rw [Nat.div_lt_iff_lt_mul k3, Nat.mul_comm, k4]; exact hi
      omega
    have b2 : (i / h + 1) * h ≤ d * h := Nat.mul_le_mul_right h b1
    rw [Nat.mul_comm d h, k4, Nat.add_mul] at b2
    have b3 : i % h * d < 32 := by
      have : (i % h + 1) * d ≤ h * d := Nat.mul_le_mul_right d (by omega)
      rw [k4, Nat.add_mul] at this
      have : 0 < d := by
        by_cases z : d = 0
        · rw [z] at k4; omega
        · omega
      omega
    have b4 : i / h * 2 ^ (t + 1) = 2 * (i / h * h) := by rw [k1]; grind
    refine br_f (nI_ge (b := 32) hi (by decide)) ?_
    simp (disch := omega) only [e1, e2, e3, e3b, e4, n1, n2, n3, pk_mul, nI_add, xw_cross2, xi_r32, zb_in, zb_ne, true_and, nI_clamp, kq_r_at, kq_r_w, kq_f_at, kq_f_u, forall_eq, nI_1, kq_mul, kq_mac, kq_mca, kq_add, xw_plus, xw_minus, xw_cell, xw_write, xw_cell5, xw_write5, xw_cell6, xw_write6, xw_cell7, xw_write7, xw_cell8, xw_write8, xw_cell9, xw_write9, xw_cell10, xw_write10, xw_cell11, xw_write11]
    have w0 : i / h * 2 ^ (t + 1) + i % h = 2 * (i / h) * h + i % h := by rw [k1]; grind
    have w1 : 2 * (i / h) * h + i % h + h = (2 * (i / h) + 1) * h + i % h := by grind
    rw [w0, w1]
    exact hW
  · intro n f hn hI b k hb hk
    obtain ⟨x1, x2⟩ := qv_x_at (b := b) (i := n) hk (pw (n % h * d)) f
    obtain ⟨i1, i2⟩ := hI b k hb hk
    rw [x1, x2, i1, i2]
    by_cases c : n = b * h + k
    · have c' := (qv_dm (i := n) hk).mpr c
      rw [if_pos c', if_pos c', if_neg (by omega), if_neg (by omega), if_pos (by omega), if_pos (by omega), ← c'.2]
      exact ⟨rfl, rfl⟩
    · have c' : ¬ (b = n / h ∧ k = n % h) := fun z => c ((qv_dm hk).mp z)
      rw [if_neg c', if_neg c']
      by_cases c2 : b * h + k < n
      · rw [if_pos c2, if_pos c2, if_pos (by omega), if_pos (by omega)]
        exact ⟨rfl, rfl⟩
      · rw [if_neg c2, if_neg c2, if_neg (by omega), if_neg (by omega)]
        exact ⟨rfl, rfl⟩
  · intro n f hI
    refine br_t (nI_le (a := 32) (Nat.le_refl 32) (by decide)) (nm_r (xi_t2 _) ?_)
    have e : 2 ^ (t + 1) * 2 = 2 ^ (t + 2) := (Nat.pow_succ 2 (t + 1)).symm
    rw [e]
    refine hJ f (fun b k hb hk => ?_)
    have b2 : (b + 1) * h ≤ d * h := Nat.mul_le_mul_right h hb
    rw [Nat.mul_comm d h, k4, Nat.add_mul] at b2
    obtain ⟨i1, i2⟩ := hI b k hb hk
    rw [if_pos (by omega)] at i1 i2
    exact ⟨i1, i2⟩
  · intro b k hb hk
    rw [if_neg (by omega), if_neg (by omega)]
    exact ⟨rfl, rfl⟩
end
end
section
section
variable {zR zI zF zG zsA zsB zsC zga zgi ztA ztB ztC zwA zwB zpw : Nat → Int32}
/-! engine 3: the transform is what it should be; the engine gives the product -/
theorem qp_64 {r : Kq} (hr : qp r 32 = -1) : qp r 64 = 1 := by
  rw [show (64 : Nat) = 32 + 32 from rfl, qp_add, hr]; decide
theorem qp_m64 {r : Kq} (hr : qp r 32 = -1) (m : Nat) : qp r (64 * m) = 1 := by rw [qp_mul, qp_64 hr, qp_one]
theorem qv_stage (x : Nat → Kq) {r : Kq} (hr : qp r 32 = -1) {h d c k : Nat} (hd : h * d = 32) (E O : Kq)
    (hE : E = qs_m h (fun m => x (m * (2 * d) + c) * qp r (k * m * (2 * d)))) (hO : O = qs_m h (fun m => x (m * (2 * d) + (c + d)) * qp r (k * m * (2 * d)))) :
    E + O * qp r (k * d) = qs_m (2 * h) (fun m => x (m * d + c) * qp r (k * m * d)) ∧ E - O * qp r (k * d) = qs_m (2 * h) (fun m => x (m * d + c) * qp r ((k + h) * m * d)) := by
  constructor
  · rw [qs_even, hE, hO, ← qs_mulR]
    have a1 : qs_m h (fun m => x (m * (2 * d) + c) * qp r (k * m * (2 * d))) = qs_m h (fun i => x (2 * i * d + c) * qp r (k * (2 * i) * d)) := qs_congr (fun m _ => by
      rw [show m * (2 * d) + c = 2 * m * d + c by grind, show k * m * (2 * d) = k * (2 * m) * d by grind])
    have a2 : qs_m h (fun m => x (m * (2 * d) + (c + d)) * qp r (k * m * (2 * d)) * qp r (k * d)) = qs_m h (fun i => x ((2 * i + 1) * d + c) * qp r (k * (2 * i + 1) * d)) := qs_congr (fun m _ => by
      rw [show m * (2 * d) + (c + d) = (2 * m + 1) * d + c by grind, show k * (2 * m + 1) * d = k * m * (2 * d) + k * d by grind, qp_add]; grind)
    rw [a1, a2]
  · rw [qs_even, hE, hO, ← qs_mulR]
    have a1 : qs_m h (fun m => x (m * (2 * d) + c) * qp r (k * m * (2 * d))) = qs_m h (fun i => x (2 * i * d + c) * qp r ((k + h) * (2 * i) * d)) := qs_congr (fun m _ => by
      rw [show m * (2 * d) + c = 2 * m * d + c by grind, show (k + h) * (2 * m) * d = k * m * (2 * d) + 64 * m by grind, qp_add, qp_m64 hr]; grind)
    have a2 : qs_m h (fun i => x ((2 * i + 1) * d + c) * qp r ((k + h) * (2 * i + 1) * d)) = - qs_m h (fun m => x (m * (2 * d) + (c + d)) * qp r (k * m * (2 * d)) * qp r (k * d)) := by
      have e : - qs_m h (fun m => x (m * (2 * d) + (c + d)) * qp r (k * m * (2 * d)) * qp r (k * d)) = qs_m h (fun m => (-1) * (x (m * (2 * d) + (c + d)) * qp r (k * m * (2 * d)) * qp r (k * d))) := by
        rw [qs_mulL]; grind
      rw [e]
      refine qs_congr (fun m _ => ?_)
      rw [show m * (2 * d) + (c + d) = (2 * m + 1) * d + c by grind, show (k + h) * (2 * m + 1) * d = k * m * (2 * d) + k * d + 64 * m + 32 by grind, qp_add, qp_add, qp_add, qp_m64 hr, hr]; grind
    rw [a1, a2]; grind
def qv_T (r : Kq) (x : Nat → Kq) (k : Nat) : Kq := qs_m 64 (fun m => x m * qp r (k * m))
theorem xw_transform (post : SX → Prop) {r : Kq} (hr : qp r 32 = -1) (x pw : Nat → Kq)
    (h : ∀ f g, (∀ k, k < 64 → f k = qv_T r x k) → post (zR, zI, zF, zG, zsA, zsB, zsC, zga, zgi, ztA, ztB, ztC, kq_f (f), zwB, kq_f (g))) : wpX_transform post (zR, zI, zF, zG, zsA, zsB, zsC, zga, zgi, ztA, ztB, ztC, kq_f (x), zwB, kq_f (pw)) (kq_c r) := by
  refine nm_r (show upd (kq_f pw) 0 1 = kq_f (kq_u pw 0 1) from kq_f_u pw 0 1) ?_
  refine ql_arr1 (fun n i (f : Nat → Kq) => wX_transform_9 post (kq_c r) n (nI i) (zR) (zI) (zF) (zG) (zsA) (zsB) (zsC) (zga) (zgi) (ztA) (ztB) (ztC) (kq_f (x)) (zwB) (kq_f (f))) (fun i f => f (i - 1) * r) 64 1 (kq_u pw 0 1) (fun j => qp r j) ?_ ?_ ?_ (by decide)
  · intro n i f h1 hi hW
    have e : nI i - 1 = nI (i - 1) := pk_sub (b := 1) h1
    refine br_f (nI_ge (b := 64) hi (by decide)) ?_
    simp (disch := omega) only [e, xi_r32, zb_in, zb_ne, true_and, nI_clamp, kq_r_at, kq_r_w, kq_f_at, kq_f_u, forall_eq, nI_1, kq_mul, kq_mac, kq_mca, kq_add, xw_plus, xw_minus, xw_cell, xw_write, xw_cell5, xw_write5, xw_cell6, xw_write6, xw_cell7, xw_write7, xw_cell8, xw_write8, xw_cell9, xw_write9, xw_cell10, xw_write10, xw_cell11, xw_write11]
    exact hW
  · intro i f h1 hi hg h0
    show f (i - 1) * r = qp r i
    obtain ⟨j, rfl⟩ : ∃ j, i = j + 1 := ⟨i - 1, by omega⟩
    rw [qp_s, Nat.add_sub_cancel]
    by_cases z : j = 0
    · subst z
      rw [h0 0 (by omega), kq_u_s, qp_0]
    · rw [hg j (by omega) (by omega)]
  intro n pw' hp
  have hpw : ∀ j, j < 64 → pw' j = qp r j := fun j hj => by
    rw [hp j]
    by_cases z : j = 0
    · subst z
      rw [if_neg (by omega), kq_u_s, qp_0]
    · rw [if_pos (by omega)]
  refine br_t (nI_le (a := 64) (Nat.le_refl 64) (by decide)) ?_
  refine xw_turnAll post x (fun a ha => ?_)
  refine pk_loop (fun n t (f : Nat → Kq) => wX_transform_95 post n (nI (2 ^ (t + 1))) (zR) (zI) (zF) (zG) (zsA) (zsB) (zsC) (zga) (zgi) (ztA) (ztB) (ztC) (kq_f (f)) (zwB) (kq_f (pw'))) (fun t f => ∀ b k, b < 2 ^ (6 - t) → k < 2 ^ t → f (b * 2 ^ t + k) = qs_m (2 ^ t) (fun m => x (m * 2 ^ (6 - t) + qv_r (b * 2 ^ t)) * qp r (k * m * 2 ^ (6 - t)))) 6 0 a (by decide) ?_ ?_ ?_
  · intro b k hb hk
    have hk0 : k = 0 := by have : (2 : Nat) ^ 0 = 1 := rfl; omega
    subst hk0
    show a (b * 1 + 0) = qs_m (0 + 1) (fun m => x (m * 64 + qv_r (b * 1)) * qp r (0 * m * 64))
    rw [qs_m_s, qs_m_0, Nat.mul_one, Nat.add_zero, ha b hb, Nat.zero_mul, Nat.zero_add, qp_0]; grind
  · intro n f hf
    refine br_t (show (64 : Int32) < nI (2 ^ (6 + 1)) by decide) (h f pw' (fun k hk => ?_))
    have e := hf 0 k (by decide) hk
    rw [show 0 * 2 ^ 6 + k = k by omega] at e
    rw [e]
    refine qs_congr (fun m hm => ?_)
    show x (m * 1 + 0) * qp r (k * m * 1) = _
    rw [Nat.mul_one, Nat.mul_one, Nat.add_zero]
  · intro n t f ht hf K
    obtain ⟨k1, k2, k3, k4, k5, k6, k7⟩ := qv_tab t ht
    refine br_f (nI_nlt (b := 2 ^ (t + 1)) (a := 64) k2 (by decide)) ?_
    refine xw_stage post ht pw' f (fun g hg => ?_)
    refine K g (fun b k hb hk => ?_)
    rw [k7] at hb ⊢
    have hbd : b < 32 := by
      have : 2 ^ (5 - t) ≤ 2 ^ 5 := Nat.pow_le_pow_right (by decide) (by omega)
      have : (2 : Nat) ^ 5 = 32 := rfl
      omega
    have hrv := qv_rs t ht b hbd hb
    have hE := hf (2 * b)
    have hO := hf (2 * b + 1)
    rw [k6] at hE hO
    rw [hrv] at hO
    have rvb : qv_r (b * 2 ^ (t + 1)) = qv_r (2 * b * 2 ^ t) := congrArg qv_r (by rw [k1]; grind)
    rw [rvb, k1]
    rw [k1] at hk
    have hpos : 0 < 2 ^ (5 - t) := Nat.two_pow_pos _
    generalize 2 ^ t = hh at *
    generalize 2 ^ (5 - t) = d at *
    by_cases c : k < hh
    · have st := qv_stage x hr (k := k) k4 _ _ (hE k (by omega) c) (hO k (by omega) c)
      obtain ⟨g1, g2⟩ := hg b k hb c
      have kd : k * d < 64 := by
        have : k * d ≤ hh * d := Nat.mul_le_mul_right d (by omega)
        omega
      rw [show b * (2 * hh) + k = 2 * b * hh + k by grind, g1, hpw _ kd]
      exact st.1
    · obtain ⟨l, rfl⟩ : ∃ l, k = l + hh := ⟨k - hh, by omega⟩
      have hl : l < hh := by omega
      have st := qv_stage x hr (k := l) k4 _ _ (hE l (by omega) hl) (hO l (by omega) hl)
      obtain ⟨g1, g2⟩ := hg b l hb hl
      have kd : l * d < 64 := by
        have : l * d ≤ hh * d := Nat.mul_le_mul_right d (by omega)
        omega
      rw [show b * (2 * hh) + (l + hh) = (2 * b + 1) * hh + l by grind, g2, hpw _ kd]
      exact st.2
theorem xw_loadWide (post : SX → Prop) {R : Nat → Nat → Kq} {r : Nat} (hr : r < 12) (wA : Nat → Kq)
    (h : ∀ f, (∀ j, j < 64 → f j = if j < 32 then R r j else 0) → post (kq_r R, zI, zF, zG, zsA, zsB, zsC, zga, zgi, ztA, ztB, ztC, kq_f (f), zwB, zpw)) : wpX_loadWide post (kq_r R, zI, zF, zG, zsA, zsB, zsC, zga, zgi, ztA, ztB, ztC, kq_f (wA), zwB, zpw) (nI r) := by
  refine ql_arr (fun n i (f : Nat → Kq) => wX_loadWide_2 post (nI r) n (nI i) (kq_r R) (zI) (zF) (zG) (zsA) (zsB) (zsC) (zga) (zgi) (ztA) (ztB) (ztC) (kq_f (f)) (zwB) (zpw)) (fun i _ => if i < 32 then R r i else 0) 64 0 wA (fun i => if i < 32 then R r i else 0) ?_ (fun i f _ _ _ _ => rfl) ?_ (Nat.zero_le _)
  · intro n i f hi hW
    refine br_f (nI_ge (b := 64) hi (by decide)) ?_
    by_cases c : i < 32
    · rw [if_pos c] at hW
      refine br_f (nI_ge (b := 32) c (by decide)) ?_
      simp (disch := omega) only [xi_r32, zb_in, zb_ne, true_and, nI_clamp, kq_r_at, kq_r_w, kq_f_at, kq_f_u, forall_eq, nI_1, kq_mul, kq_mac, kq_mca, kq_add, xw_plus, xw_minus, xw_cell, xw_write, xw_cell5, xw_write5, xw_cell6, xw_write6, xw_cell7, xw_write7, xw_cell8, xw_write8, xw_cell9, xw_write9, xw_cell10, xw_write10, xw_cell11, xw_write11]
      exact hW
    · rw [if_neg c] at hW
      refine br_t (nI_le (a := 32) (by omega) (by omega)) ?_
      have e2 : upd (kq_f f) i 0 = kq_f (kq_u f i 0) := kq_f_u _ _ 0
      simp (disch := omega) only [xi_r32, zb_in, zb_ne, true_and, nI_clamp, kq_r_at, kq_r_w, kq_f_at, kq_f_u, forall_eq, nI_1, kq_mul, kq_mac, kq_mca, kq_add, xw_plus, xw_minus, xw_cell, xw_write, xw_cell5, xw_write5, xw_cell6, xw_write6, xw_cell7, xw_write7, xw_cell8, xw_write8, xw_cell9, xw_write9, xw_cell10, xw_write10, xw_cell11, xw_write11, e2]
      exact hW
  · intro n f hf
    refine br_t (nI_le (a := 64) (Nat.le_refl 64) (by decide)) (h f (fun j hj => ?_))
    rw [hf j, if_pos (by omega)]
def qv_g (z : Kq) : Nat → Kq
  | 0 => 0
  | n + 1 => qv_g z n * z + 1
theorem qv_g_sum (z : Kq) (n : Nat) : qs_m n (fun k => qp z k) = qv_g z n := by
  induction n with
  | zero => rfl
  | succ n ih =>
    rw [qs_front]
    have e : qs_m n (fun i => qp z (i + 1)) = qs_m n (fun i => qp z i) * z := by rw [← qs_mulR]; rfl
    rw [e, ih, qp_0]
    show _ = qv_g z n * z + 1
    grind
theorem qv_root : qp (kq_n 11) 192 = 7311 := by decide +kernel
theorem qv_r32 : qp 7311 32 = -1 := by decide +kernel
theorem qv_back : qp 7311 63 = 9650 := by decide +kernel
theorem qv_b32 : qp 9650 32 = -1 := by decide +kernel
theorem qv_part : qp (kq_n 64) 12287 = 12097 := by
  have h := qf_inv (kq_n 64) (by decide)
  have e : kq_n 64 = 64 := rfl
  rw [e] at h ⊢
  generalize qp 64 12287 = x at h
  grind
theorem qv_orth : ∀ e, e < 64 → qv_g (qp 7311 e) 64 = if e = 0 then 64 else 0 := by decide +kernel
theorem qv_del (e : Nat) : qs_m 64 (fun k => qp 7311 (e * k)) = if e % 64 = 0 then 64 else 0 := by
  have h1 : qs_m 64 (fun k => qp 7311 (e * k)) = qs_m 64 (fun k => qp (qp 7311 (e % 64)) k) := qs_congr (fun k _ => by
    have h2 : qp 7311 e = qp 7311 (e % 64) := by
      have h3 := Nat.div_add_mod e 64
      have h4 : qp 7311 e = qp 7311 (64 * (e / 64) + e % 64) := by rw [h3]
      rw [h4, qp_add, qp_m64 qv_r32]; grind
    rw [qp_mul, h2])
  rw [h1, qv_g_sum]
  exact qv_orth (e % 64) (Nat.mod_lt _ (by decide))
theorem qv_conv (a b : Nat → Kq) (ha : ∀ i, 32 ≤ i → a i = 0) (hb : ∀ i, 32 ≤ i → b i = 0) (n : Nat) (hn : n < 32) :
    qs_m 64 (fun k => qv_T 7311 a k * qv_T 7311 b k * qp 9650 (n * k)) = 64 * qs_c a b n := by
  have s1 : ∀ k, qv_T 7311 a k * qv_T 7311 b k * qp 9650 (n * k) = qs_m 64 (fun i => qs_m 64 (fun j => a i * b j * qp 7311 ((i + j + 63 * n) * k))) := by
    intro k
    have e9 : qp 9650 (n * k) = qp 7311 (63 * n * k) := by rw [← qv_back, ← qp_mul, Nat.mul_assoc]
    rw [e9]
    unfold qv_T
    rw [← qs_mulR, ← qs_mulR]
    refine qs_congr (fun i _ => ?_)
    show a i * qp 7311 (k * i) * qs_m 64 (fun m => b m * qp 7311 (k * m)) * qp 7311 (63 * n * k) = _
    rw [← qs_mulL, ← qs_mulR]
    refine qs_congr (fun j _ => ?_)
    rw [show (i + j + 63 * n) * k = k * i + k * j + 63 * n * k by grind, qp_add, qp_add]; grind
  have s2 : qs_m 64 (fun k => qv_T 7311 a k * qv_T 7311 b k * qp 9650 (n * k)) = qs_m 64 (fun i => qs_m 64 (fun j => a i * b j * qs_m 64 (fun k => qp 7311 ((i + j + 63 * n) * k)))) := by
    rw [qs_congr (fun k _ => s1 k), qs_swap]
    refine qs_congr (fun i _ => ?_)
    rw [qs_swap]
    refine qs_congr (fun j _ => ?_)
    rw [qs_mulL]
  rw [s2]
  have s3 : ∀ i, i < 64 → qs_m 64 (fun j => a i * b j * qs_m 64 (fun k => qp 7311 ((i + j + 63 * n) * k))) = if i ≤ n then 64 * (a i * b (n - i)) else 0 := by
    intro i hi
    by_cases c : i ≤ n
    · rw [if_pos c, qs_one (k := n - i) (by omega) ?_]
      · show a i * b (n - i) * _ = _
        rw [qv_del, if_pos (by omega)]; grind
      · intro j hj hne
        by_cases c2 : j < 32
        · rw [qv_del, if_neg (by omega)]; grind
        · rw [hb j (by omega)]; grind
    · rw [if_neg c]
      refine qs_zero (fun j hj => ?_)
      by_cases c2 : j < 32
      · by_cases c3 : i < 32
        · rw [qv_del, if_neg (by omega)]; grind
        · rw [ha i (by omega)]; grind
      · rw [hb j (by omega)]; grind
  rw [qs_congr s3, qs_ext (n := n + 1) (by omega) (fun i h1 h2 => if_neg (by omega))]
  have s4 : qs_m (n + 1) (fun i => if i ≤ n then 64 * (a i * b (n - i)) else 0) = qs_m (n + 1) (fun i => 64 * (a i * b (n - i))) := qs_congr (fun i hi => if_pos (by omega))
  rw [s4, qs_mulL]; rfl
theorem xw_roots (post : SX → Prop) {R : Nat → Nat → Kq} {a b : Nat} (ha : a < 12) (hb : b < 12) (wA wB pw : Nat → Kq)
    (h : ∀ wA wB pw, post (kq_r (kq_s R 5 (qs_c (R a) (R b))), zI, zF, zG, zsA, zsB, zsC, zga, zgi, ztA, ztB, ztC, kq_f (wA), kq_f (wB), kq_f (pw))) : wpX_multiplyByRoots post (kq_r R, zI, zF, zG, zsA, zsB, zsC, zga, zgi, ztA, ztB, ztC, kq_f (wA), kq_f (wB), kq_f (pw)) (nI a) (nI b) := by
  refine xw_power _ (kq_n 11) 192 (by decide) ?_
  rw [qv_root]
  refine xw_loadWide _ hb wA (fun w1 h1 => ?_)
  refine xw_transform _ qv_r32 w1 pw (fun w2 p2 h2 => ?_)
  refine ql_arr (fun n i (f : Nat → Kq) => wX_multiplyByRoots_22 post (nI a) (kq_c 7311) n (nI i) (kq_r R) (zI) (zF) (zG) (zsA) (zsB) (zsC) (zga) (zgi) (ztA) (ztB) (ztC) (kq_f (w2)) (kq_f (f)) (kq_f (p2))) (fun i _ => w2 i) 64 0 wB w2 ?_ (fun i f _ _ _ _ => rfl) ?_ (Nat.zero_le _)
  · intro n i f hi hW
    refine br_f (nI_ge (b := 64) hi (by decide)) ?_
    simp (disch := omega) only [xi_r32, zb_in, zb_ne, true_and, nI_clamp, kq_r_at, kq_r_w, kq_f_at, kq_f_u, forall_eq, nI_1, kq_mul, kq_mac, kq_mca, kq_add, xw_plus, xw_minus, xw_cell, xw_write, xw_cell5, xw_write5, xw_cell6, xw_write6, xw_cell7, xw_write7, xw_cell8, xw_write8, xw_cell9, xw_write9, xw_cell10, xw_write10, xw_cell11, xw_write11]
    exact hW
  intro n B hB
  refine br_t (nI_le (a := 64) (Nat.le_refl 64) (by decide)) ?_
  refine xw_loadWide _ ha w2 (fun w3 h3 => ?_)
  refine xw_transform _ qv_r32 w3 p2 (fun w4 p4 h4 => ?_)
  refine ql_arr (fun n i (f : Nat → Kq) => wX_multiplyByRoots_62 post (kq_c 7311) n (nI i) (kq_r R) (zI) (zF) (zG) (zsA) (zsB) (zsC) (zga) (zgi) (ztA) (ztB) (ztC) (kq_f (f)) (kq_f (B)) (kq_f (p4))) (fun i f => f i * B i) 64 0 w4 (fun i => w4 i * B i) ?_ ?_ ?_ (Nat.zero_le _)
  · intro n i f hi hW
    refine br_f (nI_ge (b := 64) hi (by decide)) ?_
    simp (disch := omega) only [xi_r32, zb_in, zb_ne, true_and, nI_clamp, kq_r_at, kq_r_w, kq_f_at, kq_f_u, forall_eq, nI_1, kq_mul, kq_mac, kq_mca, kq_add, xw_plus, xw_minus, xw_cell, xw_write, xw_cell5, xw_write5, xw_cell6, xw_write6, xw_cell7, xw_write7, xw_cell8, xw_write8, xw_cell9, xw_write9, xw_cell10, xw_write10, xw_cell11, xw_write11]
    exact hW
  · intro i f _ _ _ hf
    show f i * B i = w4 i * B i
    rw [hf i (Or.inl (Nat.le_refl i))]
  intro n w5 h5
  refine br_t (nI_le (a := 64) (Nat.le_refl 64) (by decide)) ?_
  refine xw_power _ 7311 63 (by decide) ?_
  rw [qv_back]
  refine xw_transform _ qv_b32 w5 p4 (fun w6 p6 h6 => ?_)
  refine xw_power _ (kq_n 64) 12287 (by decide) ?_
  rw [qv_part]
  refine ql_row32 (fun n i Q => wX_multiplyByRoots_128 post (kq_c 12097) n (nI i) (kq_r (Q)) (zI) (zF) (zG) (zsA) (zsB) (zsC) (zga) (zgi) (ztA) (ztB) (ztC) (kq_f (w6)) (kq_f (B)) (kq_f (p6))) 5 (fun i _ => w6 i * 12097) R (qs_c (R a) (R b)) ?_ ?_ ?_
  · intro n i Q hi hW
    refine br_f (nI_ge (b := 32) hi (by decide)) ?_
    simp (disch := omega) only [xi_r32, zb_in, zb_ne, true_and, nI_clamp, kq_r_at, kq_r_w, kq_f_at, kq_f_u, forall_eq, nI_1, kq_mul, kq_mac, kq_mca, kq_add, xw_plus, xw_minus, xw_cell, xw_write, xw_cell5, xw_write5, xw_cell6, xw_write6, xw_cell7, xw_write7, xw_cell8, xw_write8, xw_cell9, xw_write9, xw_cell10, xw_write10, xw_cell11, xw_write11]
    exact hW
  · intro i Q hi _ _
    show w6 i * 12097 = _
    have e1 : w6 i = 64 * qs_c (fun j => if j < 32 then R a j else 0) (fun j => if j < 32 then R b j else 0) i := by
      rw [h6 i (by omega), ← qv_conv _ _ (fun j hj => if_neg (by omega)) (fun j hj => if_neg (by omega)) i hi]
      refine qs_congr (fun k hk => ?_)
      rw [h5 k, if_pos (by omega), h4 k hk, hB k, if_pos (by omega), h2 k hk]
      have t1 : qv_T 7311 w3 k = qv_T 7311 (fun j => if j < 32 then R a j else 0) k := qs_congr (fun m hm => by rw [h3 m hm])
      have t2 : qv_T 7311 w1 k = qv_T 7311 (fun j => if j < 32 then R b j else 0) k := qs_congr (fun m hm => by rw [h1 m hm])
      rw [t1, t2]
    rw [e1, qs_c_em (k := 32) (f' := R a) (g' := R b) (fun j hj => if_pos hj) (fun j hj => if_pos hj) i hi]
    generalize qs_c (R a) (R b) i = y
    grind
  · intro n Q hQ
    refine br_t (nI_le (a := 32) (Nat.le_refl 32) (by decide)) ?_
    show post (kq_r (Q), zI, zF, zG, zsA, zsB, zsC, zga, zgi, ztA, ztB, ztC, kq_f (w6), kq_f (B), kq_f (p6))
    rw [hQ]; exact h _ _ _
end
end
section
section
variable {zR zI zF zG zsA zsB zsC zga zgi ztA ztB ztC zwA zwB zpw : Nat → Int32}
/-! engine 4: the mathematics of differences and falling powers -/
def qz_F : Nat → Nat → Kq
  | 0 => qs_k 1
  | k + 1 => fun i => qs_h 1 (qz_F k) i - kq_n k * qz_F k i
theorem qz_F_s (k : Nat) : qz_F (k + 1) = fun i => qs_h 1 (qz_F k) i - kq_n k * qz_F k i := rfl
theorem qz_F_top (k : Nat) : qz_F k k = 1 ∧ ∀ i, k < i → qz_F k i = 0 := by
  induction k with
  | zero => exact ⟨rfl, fun i hi => qs_k_s 1 (by omega)⟩
  | succ k ih =>
    rw [qz_F_s]
    refine ⟨?_, fun i hi => ?_⟩
    · show qs_h 1 (qz_F k) (k + 1) - kq_n k * qz_F k (k + 1) = 1
      rw [qs_h_ge (by omega), Nat.add_sub_cancel, ih.1, ih.2 (k + 1) (by omega)]; grind
    · show qs_h 1 (qz_F k) i - kq_n k * qz_F k i = 0
      rw [qs_h_ge (by omega), ih.2 (i - 1) (by omega), ih.2 i (by omega)]; grind
theorem qz_ex : ∀ (n : Nat) (C : Nat → Kq), (∀ i, n ≤ i → C i = 0) → ∃ e : Nat → Kq, ∀ i, C i = qs_m n (fun k => e k * qz_F k i) := by
  intro n
  induction n with
  | zero => exact fun C h => ⟨fun _ => 0, fun i => by rw [h i (by omega), qs_m_0]⟩
  | succ n ih =>
    intro C h
    obtain ⟨e, he⟩ := ih (fun i => C i - C n * qz_F n i) (fun i hi => by
      show C i - C n * qz_F n i = 0
      by_cases z : i = n
      · rw [z, (qz_F_top n).1]; grind
      · rw [h i (by omega), (qz_F_top n).2 i (by omega)]; grind)
    refine ⟨kq_u e n (C n), fun i => ?_⟩
    have h1 : C i - C n * qz_F n i = qs_m n (fun k => e k * qz_F k i) := he i
    have h2 : qs_m n (fun k => kq_u e n (C n) k * qz_F k i) = qs_m n (fun k => e k * qz_F k i) := qs_congr (fun k hk => by rw [kq_u_n (by omega)])
    rw [qs_m_s, h2, ← h1, kq_u_s]; grind
def qz_f (y : Kq) : Nat → Kq
  | 0 => 1
  | k + 1 => qz_f y k * (y - kq_n k)
theorem qz_f_s (y : Kq) (k : Nat) : qz_f y (k + 1) = qz_f y k * (y - kq_n k) := rfl
theorem qz_ev (x : Kq) : ∀ k N, k < N → qs_m N (fun i => qz_F k i * qp x i) = qz_f x k := by
  intro k
  induction k with
  | zero =>
    intro N hN
    rw [qs_one (k := 0) hN (fun i _ hne => by rw [show qz_F 0 = qs_k 1 from rfl, qs_k_s 1 hne]; grind)]
    show (1 : Kq) * 1 = 1
    grind
  | succ k ih =>
    intro N hN
    obtain ⟨M, rfl⟩ : ∃ M, N = M + 1 := ⟨N - 1, by omega⟩
    have e1 : qs_m (M + 1) (fun i => qz_F (k + 1) i * qp x i) = qs_m (M + 1) (fun i => qs_h 1 (qz_F k) i * qp x i) - kq_n k * qs_m (M + 1) (fun i => qz_F k i * qp x i) := by
      rw [← qs_mulL, ← qs_sub]
      refine qs_congr (fun i _ => ?_)
      rw [qz_F_s]; grind
    have e2 : qs_m (M + 1) (fun i => qs_h 1 (qz_F k) i * qp x i) = x * qs_m M (fun i => qz_F k i * qp x i) := by
      rw [qs_front, qs_h_lt (by omega), ← qs_mulL]
      have e3 : qs_m M (fun i => qs_h 1 (qz_F k) (i + 1) * qp x (i + 1)) = qs_m M (fun i => x * (qz_F k i * qp x i)) := qs_congr (fun i _ => by
        rw [qs_h_ge (by omega), Nat.add_sub_cancel, qp_s]; grind)
      rw [e3]; grind
    rw [e1, e2, ih M (by omega), ih (M + 1) (by omega), qz_f_s]; grind
theorem qz_f_up (y : Kq) : ∀ k, qz_f (y + 1) (k + 1) = (y + 1) * qz_f y k := by
  intro k
  induction k with
  | zero => show (1 : Kq) * (y + 1 - kq_n 0) = (y + 1) * 1; rw [kq_n_0]; grind
  | succ k ih => rw [qz_f_s, ih, qz_f_s y k, kq_n_s]; grind
theorem qz_f_d (y : Kq) (k : Nat) : qz_f (y + 1) (k + 1) - qz_f y (k + 1) = kq_n (k + 1) * qz_f y k := by
  rw [qz_f_up, qz_f_s, kq_n_s]; grind
theorem qz_f_0 : ∀ k, k ≠ 0 → qz_f 0 k = 0 := by
  intro k
  induction k with
  | zero => intro h; exact absurd rfl h
  | succ k ih =>
    intro _
    rw [qz_f_s]
    by_cases z : k = 0
    · subst z; rw [kq_n_0]; grind
    · rw [ih z]; grind
def qz_E (e : Nat → Kq) : Nat → Nat → Kq
  | 0, k => e k
  | r + 1, k => qz_E e r (k + 1) * kq_n (k + 1) * qt_I (r + 1)
def qz_D (f : Nat → Kq) : Nat → Nat → Kq
  | 0, j => f j
  | r + 1, j => if r + 1 ≤ j ∧ j ≤ 62 then (qz_D f r j - qz_D f r (j - 1)) * qt_I (r + 1) else qz_D f r j
theorem qz_E_k (e : Nat → Kq) : ∀ r k, r < 63 → qz_E e r k * qt_k k * qt_k r = e (k + r) * qt_k (k + r) := by
  intro r
  induction r with
  | zero => intro k _; show e k * qt_k k * 1 = e (k + 0) * qt_k (k + 0); rw [Nat.add_zero]; grind
  | succ r ih =>
    intro k hr
    have h1 := ih (k + 1) (by omega)
    have h2 := qt_I_1 (i := r + 1) (by omega) (by omega)
    rw [show k + 1 + r = k + (r + 1) by omega] at h1
    rw [← h1]
    show qz_E e r (k + 1) * kq_n (k + 1) * qt_I (r + 1) * qt_k k * (qt_k r * kq_n (r + 1)) = qz_E e r (k + 1) * (qt_k k * kq_n (k + 1)) * qt_k r
    grind
theorem qz_E_0 (e : Nat → Kq) (r : Nat) (hr : r < 63) : qz_E e r 0 = e r := by
  have h := qz_E_k e r 0 hr
  have u := qt_kg r (by omega)
  rw [Nat.zero_add] at h
  have h0 : qt_k 0 = 1 := rfl
  rw [h0] at h
  grind
theorem qz_D_E (f e : Nat → Kq) (hf : ∀ x, x < 63 → f x = qs_m 63 (fun k => e k * qz_f (kq_n x) k)) : ∀ r y, r + y < 63 → qz_D f r (r + y) = qs_m (63 - r) (fun k => qz_E e r k * qz_f (kq_n y) k) := by
  intro r
  induction r with
  | zero => intro y hy; show f (0 + y) = _; rw [Nat.zero_add]; exact hf y (by omega)
  | succ r ih =>
    intro y hy
    show (if r + 1 ≤ r + 1 + y ∧ r + 1 + y ≤ 62 then (qz_D f r (r + 1 + y) - qz_D f r (r + 1 + y - 1)) * qt_I (r + 1) else qz_D f r (r + 1 + y)) = _
    rw [if_pos (by omega), show r + 1 + y - 1 = r + y by omega, show r + 1 + y = r + (y + 1) by omega, ih (y + 1) (by omega), ih y (by omega), ← qs_sub, show 63 - r = 63 - (r + 1) + 1 by omega, qs_front]
    have z : qz_E e r 0 * qz_f (kq_n (y + 1)) 0 - qz_E e r 0 * qz_f (kq_n y) 0 = 0 := by
      show _ * (1 : Kq) - _ * 1 = 0
      grind
    rw [z]
    have e1 : qs_m (63 - (r + 1)) (fun k => qz_E e (r + 1) k * qz_f (kq_n y) k) = qs_m (63 - (r + 1)) (fun i => qz_E e r (i + 1) * qz_f (kq_n (y + 1)) (i + 1) - qz_E e r (i + 1) * qz_f (kq_n y) (i + 1)) * qt_I (r + 1) := by
      rw [← qs_mulR]
      refine qs_congr (fun k _ => ?_)
      have d := qz_f_d (kq_n y) k
      rw [← kq_n_s] at d
      show qz_E e r (k + 1) * kq_n (k + 1) * qt_I (r + 1) * qz_f (kq_n y) k = (qz_E e r (k + 1) * qz_f (kq_n (y + 1)) (k + 1) - qz_E e r (k + 1) * qz_f (kq_n y) (k + 1)) * qt_I (r + 1)
      grind
    rw [e1]; grind
theorem qz_D_end (f e : Nat → Kq) (hf : ∀ x, x < 63 → f x = qs_m 63 (fun k => e k * qz_f (kq_n x) k)) (x : Nat) (hx : x < 63) : qz_D f 62 x = e x := by
  have h1 : ∀ d, x + d ≤ 62 → qz_D f (x + d) x = qz_D f x x := by
    intro d
    induction d with
    | zero => intro _; rfl
    | succ d ih =>
      intro hd
      show (if x + d + 1 ≤ x ∧ x ≤ 62 then (qz_D f (x + d) x - qz_D f (x + d) (x - 1)) * qt_I (x + d + 1) else qz_D f (x + d) x) = _
      rw [if_neg (by omega)]; exact ih (by omega)
  have h2 := h1 (62 - x) (by omega)
  rw [show x + (62 - x) = 62 by omega] at h2
  have h3 := qz_D_E f e hf x 0 (by omega)
  rw [Nat.add_zero, kq_n_0, qs_one (k := 0) (by omega) (fun i _ hne => by rw [qz_f_0 i hne]; grind), qz_E_0 e x hx] at h3
  rw [h2, h3]
  show e x * 1 = e x
  grind
def qz_B (c : Nat → Kq) : Nat → Nat → Kq
  | 0 => fun _ => 0
  | m + 1 => fun j => (qs_h 1 (qz_B c m) j - kq_n (62 - m) * qz_B c m j) + qs_k (c (62 - m)) j
theorem qz_B_F (c : Nat → Kq) : ∀ m, m ≤ 63 → ∀ i, qs_c (qz_F (63 - m)) (qz_B c m) i + qs_m (63 - m) (fun k => c k * qz_F k i) = qs_m 63 (fun k => c k * qz_F k i) := by
  intro m
  induction m with
  | zero =>
    intro _ i
    have z : qs_c (qz_F (63 - 0)) (qz_B c 0) i = 0 := qs_zero (fun j _ => by show _ * (0 : Kq) = 0; grind)
    rw [z]; show 0 + _ = _; grind
  | succ m ih =>
    intro hm i
    rw [← ih (by omega) i]
    obtain ⟨x, hx⟩ : ∃ x, x = 62 - m := ⟨_, rfl⟩
    rw [show 63 - (m + 1) = x by omega, show 63 - m = x + 1 by omega, qs_m_s, qz_F_s]
    have e1 : qz_B c (m + 1) = fun j => (qs_h 1 (qz_B c m) j - kq_n x * qz_B c m j) + qs_k (c x) j := by rw [hx]; rfl
    rw [e1, qs_c_add, qs_c_sub, qs_c_sm', qs_h_c', qs_c_sub', qs_c_sm, qs_h_c, qs_c_comm (qz_F x) (qs_k (c x)), qs_c_k]; grind
theorem qz_B_end (c C e : Nat → Kq) (hC : ∀ i, C i = qs_m 63 (fun k => e k * qz_F k i)) (hc : ∀ k, k < 63 → c k = e k) (i : Nat) : qz_B c 63 i = C i := by
  have h := qz_B_F c 63 (Nat.le_refl 63) i
  rw [show 63 - 63 = 0 from rfl, qs_m_0, show qz_F 0 = qs_k 1 from rfl, qs_c_k] at h
  have e2 : qs_m 63 (fun k => c k * qz_F k i) = C i := by
    rw [hC i]
    exact qs_congr (fun k hk => by rw [hc k hk])
  rw [e2] at h
  rw [← h]; grind
/-- values multiply -/
theorem qz_pv (A B : Nat → Kq) (x : Kq) : qs_m 63 (fun n => qs_c (fun j => if j < 32 then A j else 0) (fun j => if j < 32 then B j else 0) n * qp x n) = qs_m 32 (fun i => A i * qp x i) * qs_m 32 (fun i => B i * qp x i) := by
  have e1 : qs_m 63 (fun n => qs_c (fun j => if j < 32 then A j else 0) (fun j => if j < 32 then B j else 0) n * qp x n) = qs_m 63 (fun n => qs_m (n + 1) (fun i => ((if i < 32 then A i else 0) * qp x i) * ((if n - i < 32 then B (n - i) else 0) * qp x (n - i)))) := qs_congr (fun n _ => by
    unfold qs_c
    rw [← qs_mulR]
    refine qs_congr (fun i hi => ?_)
    have e : qp x n = qp x i * qp x (n - i) := by rw [← qp_add, show i + (n - i) = n by omega]
    rw [e]; grind)
  rw [e1, qs_tri 63 (fun i j => ((if i < 32 then A i else 0) * qp x i) * ((if j < 32 then B j else 0) * qp x j)), qs_ext (n := 32) (by omega) (fun i h1 _ => qs_zero (fun j _ => by rw [if_neg (by omega)]; grind)), ← qs_mulR]
  refine qs_congr (fun i hi => ?_)
  rw [qs_mulL, if_pos hi, qs_ext (n := 32) (m := 63 - i) (by omega) (fun j h1 _ => by rw [if_neg (by omega)]; grind)]
  have e2 : qs_m 32 (fun j => (if j < 32 then B j else 0) * qp x j) = qs_m 32 (fun i => B i * qp x i) := qs_congr (fun j hj => by rw [if_pos hj])
  rw [e2]
theorem qz_main (A B : Nat → Kq) (f c : Nat → Kq) (hf : ∀ x, x < 63 → f x = qh_v A (kq_n x) 32 0 * qh_v B (kq_n x) 32 0) (hc : ∀ x, x < 63 → c x = qz_D f 62 x) (i : Nat) (hi : i < 32) : qz_B c 63 i = qs_c A B i := by
  obtain ⟨e, he⟩ := qz_ex 63 (qs_c (fun j => if j < 32 then A j else 0) (fun j => if j < 32 then B j else 0)) (fun n hn => qs_c_end (a := 32) (b := 32) (fun j hj => if_neg (by omega)) (fun j hj => if_neg (by omega)) n (by omega))
  have hf' : ∀ x, x < 63 → f x = qs_m 63 (fun k => e k * qz_f (kq_n x) k) := by
    intro x hx
    rw [hf x hx, qh_v_sum, qh_v_sum]
    have z : ∀ y : Kq, (0 : Kq) * qp (kq_n x) 32 + y = y := fun y => by grind
    rw [z, z, ← qz_pv]
    have e1 : qs_m 63 (fun n => qs_c (fun j => if j < 32 then A j else 0) (fun j => if j < 32 then B j else 0) n * qp (kq_n x) n) = qs_m 63 (fun n => qs_m 63 (fun k => e k * qz_F k n * qp (kq_n x) n)) := qs_congr (fun n _ => by rw [he n, ← qs_mulR])
    rw [e1, qs_swap]
    refine qs_congr (fun k hk => ?_)
    rw [← qz_ev (kq_n x) k 63 hk, ← qs_mulL]
    exact qs_congr (fun n _ => by grind)
  rw [qz_B_end c _ e he (fun k hk => by rw [hc k hk, qz_D_end f e hf' k hk]) i]
  exact qs_c_em (k := 32) (fun j hj => if_pos hj) (fun j hj => if_pos hj) i hi
end
end
section
section
variable {zR zI zF zG zsA zsB zsC zga zgi ztA ztB ztC zwA zwB zpw : Nat → Int32}
/-! engine 4, the walk; all engines -/
theorem xw_valueAtN (post : Int32 → Prop) {R : Nat → Nat → Kq} {r i : Nat} (hr : r < 12) (hi : i < 12289) (h : post (kq_c (qh_v (R r) (kq_n i) 32 0))) : wpX_valueAt post (kq_r R, zI, zF, zG, zsA, zsB, zsC, zga, zgi, ztA, ztB, ztC, zwA, zwB, zpw) (nI r) (nI i) := by
  have t := xw_valueAt (zI := zI) (zF := zF) (zG := zG) (zsA := zsA) (zsB := zsB) (zsC := zsC) (zga := zga) (zgi := zgi) (ztA := ztA) (ztB := ztB) (ztC := ztC) (zwA := zwA) (zwB := zwB) (zpw := zpw) post hr (kq_n i) h
  rw [kq_c_n hi] at t
  exact t
theorem xw_points53 (post : SX → Prop) {J : Int32 → (Nat → Int32) → (Nat → Int32) → (Nat → Int32) → (Nat → Int32) → (Nat → Int32) → (Nat → Int32) → (Nat → Int32) → (Nat → Int32) → (Nat → Int32) → (Nat → Int32) → (Nat → Int32) → (Nat → Int32) → (Nat → Int32) → (Nat → Int32) → (Nat → Int32) → Prop} {r : Nat} (hr : r < 62) (f0 : Nat → Kq)
    (hJ : ∀ f, (∀ j, f j = if r + 1 ≤ j ∧ j ≤ 62 then (f0 j - f0 (j - 1)) * qt_I (r + 1) else f0 j) → J (nI (r + 1 + 1)) (zR) (kq_f qt_I) (zF) (zG) (zsA) (zsB) (zsC) (zga) (zgi) (ztA) (ztB) (ztC) (kq_f (f)) (zwB) (zpw)) : ∃ n, wX_multiplyByPoints_53 post J (nI (r + 1)) n 62 (zR) (kq_f qt_I) (zF) (zG) (zsA) (zsB) (zsC) (zga) (zgi) (ztA) (ztB) (ztC) (kq_f (f0)) (zwB) (zpw) := by
  have e62 : (62 : Int32) = nI (r + (62 - r)) := by rw [show r + (62 - r) = 62 by omega]; rfl
  rw [e62]
  refine ql_dn (fun n k (f : Nat → Kq) => wX_multiplyByPoints_53 post J (nI (r + 1)) n (nI (r + k)) (zR) (kq_f qt_I) (zF) (zG) (zsA) (zsB) (zsC) (zga) (zgi) (ztA) (ztB) (ztC) (kq_f (f)) (zwB) (zpw)) (fun k f => kq_u f (r + k + 1) ((f (r + k + 1) - f (r + k)) * qt_I (r + 1))) (fun k f => ∀ j, f j = if r + k + 1 ≤ j ∧ j ≤ 62 then (f0 j - f0 (j - 1)) * qt_I (r + 1) else f0 j) (62 - r) f0 ?_ ?_ ?_ ?_
  · intro n k f hk _ hW
    show wX_multiplyByPoints_53 post J (nI (r + 1)) (n + 1) (nI (r + k + 1)) (zR) (kq_f qt_I) (zF) (zG) (zsA) (zsB) (zsC) (zga) (zgi) (ztA) (ztB) (ztC) (kq_f (f)) (zwB) (zpw)
    refine br_f (nI_nlt (by omega) (by omega)) ?_
    rw [nI_pred, pk_m1]
    simp (disch := omega) only [xi_r32, zb_in, zb_ne, true_and, nI_clamp, kq_r_at, kq_r_w, kq_f_at, kq_f_u, forall_eq, nI_1, kq_mul, kq_mac, kq_mca, kq_add, xw_plus, xw_minus, xw_cell, xw_write, xw_cell5, xw_write5, xw_cell6, xw_write6, xw_cell7, xw_write7, xw_cell8, xw_write8, xw_cell9, xw_write9, xw_cell10, xw_write10, xw_cell11, xw_write11]
    exact hW
  · intro k f hk hf j
    show (if j = r + k + 1 then (f (r + k + 1) - f (r + k)) * qt_I (r + 1) else f j) = _
    rw [hf (r + k + 1), hf (r + k), hf j, if_neg (show ¬ (r + (k + 1) + 1 ≤ r + k + 1 ∧ r + k + 1 ≤ 62) by omega), if_neg (show ¬ (r + (k + 1) + 1 ≤ r + k ∧ r + k ≤ 62) by omega)]
    by_cases c : j = r + k + 1
    · rw [if_pos c, if_pos (by omega), c, Nat.add_sub_cancel]
    · rw [if_neg c]
      by_cases c2 : r + (k + 1) + 1 ≤ j ∧ j ≤ 62
      · rw [if_pos c2, if_pos (by omega)]
      · rw [if_neg c2, if_neg (by omega)]
  · intro n f hf
    refine br_t (nI_lt (by omega) (by omega)) (nm_r (nI_1 (r + 1)) (hJ f hf))
  · intro j
    rw [if_neg (by omega)]
theorem xw_points140 (post : SX → Prop) {J : Int32 → (Nat → Int32) → (Nat → Int32) → (Nat → Int32) → (Nat → Int32) → (Nat → Int32) → (Nat → Int32) → (Nat → Int32) → (Nat → Int32) → (Nat → Int32) → (Nat → Int32) → (Nat → Int32) → (Nat → Int32) → (Nat → Int32) → (Nat → Int32) → (Nat → Int32) → Prop} {x : Nat} (hx : x < 63) (A f0 : Nat → Kq)
    (hJ : ∀ f, (∀ j, j < 64 → f j = (qs_h 1 f0 j - kq_n x * f0 j) + qs_k (A x) j) → J (nI x + (-1)) (zR) (zI) (zF) (zG) (zsA) (zsB) (zsC) (zga) (zgi) (ztA) (ztB) (ztC) (kq_f (A)) (kq_f (f)) (zpw)) : ∃ n, wX_multiplyByPoints_140 post J (nI x) n 63 (zR) (zI) (zF) (zG) (zsA) (zsB) (zsC) (zga) (zgi) (ztA) (ztB) (ztC) (kq_f (A)) (kq_f (f0)) (zpw) := by
  refine ql_dn (fun n k (f : Nat → Kq) => wX_multiplyByPoints_140 post J (nI x) n (nI k) (zR) (zI) (zF) (zG) (zsA) (zsB) (zsC) (zga) (zgi) (ztA) (ztB) (ztC) (kq_f (A)) (kq_f (f)) (zpw)) (fun k f => kq_u f (k + 1) (f k - f (k + 1) * kq_n x)) (fun k f => ∀ j, j < 64 → f j = if k < j then f0 (j - 1) - f0 j * kq_n x else f0 j) 63 f0 ?_ ?_ ?_ ?_
  · intro n k f hk _ hW
    refine br_f (nI_nle (by omega) (by omega)) ?_
    rw [nI_pred, pk_m1]
    simp (disch := omega) only [kq_muln, xi_r32, zb_in, zb_ne, true_and, nI_clamp, kq_r_at, kq_r_w, kq_f_at, kq_f_u, forall_eq, nI_1, kq_mul, kq_mac, kq_mca, kq_add, xw_plus, xw_minus, xw_cell, xw_write, xw_cell5, xw_write5, xw_cell6, xw_write6, xw_cell7, xw_write7, xw_cell8, xw_write8, xw_cell9, xw_write9, xw_cell10, xw_write10, xw_cell11, xw_write11]
    exact hW
  · intro k f hk hf j hj
    show (if j = k + 1 then f k - f (k + 1) * kq_n x else f j) = _
    rw [hf k (by omega), hf (k + 1) (by omega), hf j hj, if_neg (show ¬ k + 1 < k by omega), if_neg (show ¬ k + 1 < k + 1 by omega)]
    by_cases c : j = k + 1
    · rw [if_pos c, if_pos (by omega), c, Nat.add_sub_cancel]
    · rw [if_neg c]
      by_cases c2 : k + 1 < j
      · rw [if_pos c2, if_pos (by omega)]
      · rw [if_neg c2, if_neg (by omega)]
  · intro n f hf
    refine br_t (show nI 0 ≤ 0 by decide) ?_
    have e2 : ∀ y : Kq, upd (kq_f f) 0 (kq_c y) = kq_f (kq_u f 0 y) := fun y => kq_f_u f 0 y
    simp (disch := omega) only [kq_muln, xi_r32, zb_in, zb_ne, true_and, nI_clamp, kq_r_at, kq_r_w, kq_f_at, kq_f_u, forall_eq, nI_1, kq_mul, kq_mac, kq_mca, kq_add, xw_plus, xw_minus, xw_cell, xw_write, xw_cell5, xw_write5, xw_cell6, xw_write6, xw_cell7, xw_write7, xw_cell8, xw_write8, xw_cell9, xw_write9, xw_cell10, xw_write10, xw_cell11, xw_write11, e2]
    refine hJ _ (fun j hj => ?_)
    by_cases c : j = 0
    · subst c
      rw [kq_u_s, hf 0 (by omega), if_neg (by omega), qs_h_lt (by omega), qs_k_0]; grind
    · rw [kq_u_n c, hf j hj, if_pos (by omega), qs_h_ge (by omega), qs_k_s _ c]; grind
  · intro j hj
    rw [if_neg (by omega)]
theorem xw_points (post : SX → Prop) {R : Nat → Nat → Kq} {a b : Nat} (ha : a < 12) (hb : b < 12) (wA wB : Nat → Kq)
    (h : ∀ wA wB, post (kq_r (kq_s R 5 (qs_c (R a) (R b))), kq_f qt_I, zF, zG, zsA, zsB, zsC, zga, zgi, ztA, ztB, ztC, kq_f (wA), kq_f (wB), zpw)) : wpX_multiplyByPoints post (kq_r R, kq_f qt_I, zF, zG, zsA, zsB, zsC, zga, zgi, ztA, ztB, ztC, kq_f (wA), kq_f (wB), zpw) (nI a) (nI b) := by
  refine ql_arr (fun n i (f : Nat → Kq) => wX_multiplyByPoints_2 post (nI a) (nI b) n (nI i) (kq_r R) (kq_f qt_I) (zF) (zG) (zsA) (zsB) (zsC) (zga) (zgi) (ztA) (ztB) (ztC) (kq_f (f)) (kq_f (wB)) (zpw)) (fun i _ => qh_v (R a) (kq_n i) 32 0 * qh_v (R b) (kq_n i) 32 0) 63 0 wA (fun i => qh_v (R a) (kq_n i) 32 0 * qh_v (R b) (kq_n i) 32 0) ?_ (fun i f _ _ _ _ => rfl) ?_ (Nat.zero_le _)
  · intro n i f hi hW
    refine br_f (nI_ge (b := 63) hi (by decide)) (xw_valueAtN _ ha (by omega) (xw_valueAtN _ hb (by omega) ?_))
    simp (disch := omega) only [xi_r32, zb_in, zb_ne, true_and, nI_clamp, kq_r_at, kq_r_w, kq_f_at, kq_f_u, forall_eq, nI_1, kq_mul, kq_mac, kq_mca, kq_add, xw_plus, xw_minus, xw_cell, xw_write, xw_cell5, xw_write5, xw_cell6, xw_write6, xw_cell7, xw_write7, xw_cell8, xw_write8, xw_cell9, xw_write9, xw_cell10, xw_write10, xw_cell11, xw_write11]
    exact hW
  intro n f0 hf0
  refine br_t (nI_le (a := 63) (Nat.le_refl 63) (by decide)) ?_
  refine pk_loop (fun n r (f : Nat → Kq) => wX_multiplyByPoints_43 post n (nI (r + 1)) (kq_r R) (kq_f qt_I) (zF) (zG) (zsA) (zsB) (zsC) (zga) (zgi) (ztA) (ztB) (ztC) (kq_f (f)) (kq_f (wB)) (zpw)) (fun r f => f = qz_D f0 r) 62 0 f0 (by decide) rfl ?_ ?_
  rotate_left
  · intro n r f hr hf K
    refine br_f (nI_ge (b := 63) (a := r + 1) (by omega) (by decide)) ?_
    refine xw_points53 post hr f (fun g hg => K g ?_)
    funext j
    rw [hg j, hf]; rfl
  intro n A hA
  refine br_t (nI_le (a := 63) (b := 62 + 1) (by omega) (by decide)) ?_
  refine ql_arr (fun n i (f : Nat → Kq) => wX_multiplyByPoints_110 post n (nI i) (kq_r R) (kq_f qt_I) (zF) (zG) (zsA) (zsB) (zsC) (zga) (zgi) (ztA) (ztB) (ztC) (kq_f (A)) (kq_f (f)) (zpw)) (fun i _ => 0) 64 0 wB (fun _ => 0) ?_ (fun i f _ _ _ _ => rfl) ?_ (Nat.zero_le _)
  · intro n i f hi hW
    refine br_f (nI_ge (b := 64) hi (by decide)) ?_
    have e2 : upd (kq_f f) i 0 = kq_f (kq_u f i 0) := kq_f_u _ _ 0
    simp (disch := omega) only [xi_r32, zb_in, zb_ne, true_and, nI_clamp, kq_r_at, kq_r_w, kq_f_at, kq_f_u, forall_eq, nI_1, kq_mul, kq_mac, kq_mca, kq_add, xw_plus, xw_minus, xw_cell, xw_write, xw_cell5, xw_write5, xw_cell6, xw_write6, xw_cell7, xw_write7, xw_cell8, xw_write8, xw_cell9, xw_write9, xw_cell10, xw_write10, xw_cell11, xw_write11, e2]
    exact hW
  intro n B0 hB0
  refine br_t (nI_le (a := 64) (Nat.le_refl 64) (by decide)) ?_
  show ∃ n, wX_multiplyByPoints_132 post n 62 (kq_r R) (kq_f qt_I) (zF) (zG) (zsA) (zsB) (zsC) (zga) (zgi) (ztA) (ztB) (ztC) (kq_f (A)) (kq_f (B0)) (zpw)
  rw [xi_62]
  refine pk_loop (fun n m (f : Nat → Kq) => wX_multiplyByPoints_132 post n (nI (63 - m) + (-1)) (kq_r R) (kq_f qt_I) (zF) (zG) (zsA) (zsB) (zsC) (zga) (zgi) (ztA) (ztB) (ztC) (kq_f (A)) (kq_f (f)) (zpw)) (fun m f => ∀ j, j < 64 → f j = qz_B A m j) 63 0 B0 (by decide) (fun j hj => by rw [hB0 j, if_pos (by omega)]; rfl) ?_ ?_
  rotate_left
  · intro n m f hm hf K
    obtain ⟨x, hx⟩ : ∃ x, 62 - m = x := ⟨_, rfl⟩
    show wX_multiplyByPoints_132 post (n + 1) (nI (63 - m) + (-1)) (kq_r R) (kq_f qt_I) (zF) (zG) (zsA) (zsB) (zsC) (zga) (zgi) (ztA) (ztB) (ztC) (kq_f (A)) (kq_f (f)) (zpw)
    rw [show 63 - m = x + 1 by omega, pk_m1]
    refine br_f (nI_pos (by omega)) ?_
    refine xw_points140 post (by omega) A f (fun g hg => ?_)
    have K' := K g (fun j hj => by
      rw [hg j hj]
      show _ = (qs_h 1 (qz_B A m) j - kq_n (62 - m) * qz_B A m j) + qs_k (A (62 - m)) j
      rw [hx, hf j hj]
      by_cases z : j = 0
      · rw [z, qs_h_lt (by omega), qs_h_lt (by omega)]
      · rw [qs_h_ge (by omega), qs_h_ge (by omega), hf (j - 1) (by omega)])
    rw [show 63 - (m + 1) = x by omega] at K'
    exact K'
  intro n B hB
  refine br_t xi_m1 ?_
  refine ql_row32 (fun n i Q => wX_multiplyByPoints_226 post n (nI i) (kq_r (Q)) (kq_f qt_I) (zF) (zG) (zsA) (zsB) (zsC) (zga) (zgi) (ztA) (ztB) (ztC) (kq_f (A)) (kq_f (B)) (zpw)) 5 (fun i _ => B i) R (qs_c (R a) (R b)) ?_ ?_ ?_
  · intro n i Q hi hW
    refine br_f (nI_ge (b := 32) hi (by decide)) ?_
    simp (disch := omega) only [xi_r32, zb_in, zb_ne, true_and, nI_clamp, kq_r_at, kq_r_w, kq_f_at, kq_f_u, forall_eq, nI_1, kq_mul, kq_mac, kq_mca, kq_add, xw_plus, xw_minus, xw_cell, xw_write, xw_cell5, xw_write5, xw_cell6, xw_write6, xw_cell7, xw_write7, xw_cell8, xw_write8, xw_cell9, xw_write9, xw_cell10, xw_write10, xw_cell11, xw_write11]
    exact hW
  · intro i Q hi _ _
    show B i = _
    rw [hB i (by omega)]
    exact qz_main (R a) (R b) f0 A (fun x hx => by rw [hf0 x, if_pos (by omega)]) (fun x hx => by rw [hA]) i hi
  · intro n Q hQ
    refine br_t (nI_le (a := 32) (Nat.le_refl 32) (by decide)) ?_
    show post (kq_r (Q), kq_f qt_I, zF, zG, zsA, zsB, zsC, zga, zgi, ztA, ztB, ztC, kq_f (A), kq_f (B), zpw)
    rw [hQ]; exact h _ _
/-- what room for work holds doesn't matter -/
def qx_P (post : SX → Prop) (R : Nat → Nat → Kq) : Prop := ∀ sA sB sC ga gi tA tB tC wA wB pw : Nat → Kq, post (kq_r R, kq_f qt_I, kq_f qt_F, kq_f qt_G, kq_f sA, kq_f sB, kq_f sC, kq_f ga, kq_f gi, kq_f tA, kq_f tB, kq_f tC, kq_f wA, kq_f wB, kq_f pw)
theorem xw_rows (post : SX → Prop) {R : Nat → Nat → Kq} {sA sB sC ga gi tA tB tC wA wB pw : Nat → Kq} {e a b : Nat} (he : e < 5) (ha : a < 12) (hb : b < 12) (ha5 : a ≠ 5) (hb5 : b ≠ 5) (h : qx_P post (kq_s R 5 (qs_c (R a) (R b)))) : wpX_multiplyRows post (kq_r R, kq_f qt_I, kq_f qt_F, kq_f qt_G, kq_f sA, kq_f sB, kq_f sC, kq_f ga, kq_f gi, kq_f tA, kq_f tB, kq_f tC, kq_f wA, kq_f wB, kq_f pw) (nI e) (nI a) (nI b) := by
  refine br_f (nI_pos (by omega)) ?_
  by_cases h4 : e = 4
  · subst h4
    exact br_t (by decide) (xw_points _ ha hb wA wB (fun _ _ => h _ _ _ _ _ _ _ _ _ _ _))
  refine br_f (nI_nlt (a := 3) (b := e) (by omega) (by omega)) ?_
  by_cases h0 : e = 0
  · subst h0
    exact br_t rfl (xw_plain _ ha hb ha5 hb5 (h _ _ _ _ _ _ _ _ _ _ _))
  refine br_f (nI_ne0 (by omega) (by omega)) ?_
  by_cases h1 : e = 1
  · subst h1
    exact br_t rfl (xw_halves _ ha hb sA sB sC ga gi (fun _ _ _ _ _ => h _ _ _ _ _ _ _ _ _ _ _))
  refine br_f (fun z => h1 ((nI_eq (b := 1) (by omega) (by decide)).mp z)) ?_
  by_cases h2 : e = 2
  · subst h2
    exact br_t rfl (xw_thirds _ ha hb ha5 hb5 tA tB tC (fun _ _ _ => h _ _ _ _ _ _ _ _ _ _ _))
  refine br_f (fun z => h2 ((nI_eq (b := 2) (by omega) (by decide)).mp z)) ?_
  have h3 : e = 3 := by omega
  subst h3
  exact br_t rfl (xw_roots _ ha hb wA wB pw (fun _ _ _ => h _ _ _ _ _ _ _ _ _ _ _))
end
end
section
section
variable {zR zI zF zG zsA zsB zsC zga zgi ztA ztB ztC zwA zwB zpw : Nat → Int32}
/-! X: inverses and logarithms -/
theorem kq_r_160 (R : Nat → Nat → Kq) {i : Nat} (h : i < 32) : kq_r R (160 + i) = kq_c (R 5 i) := kq_r_at R (r := 5) h
theorem kq_r_192 (R : Nat → Nat → Kq) {i : Nat} (h : i < 32) : kq_r R (192 + i) = kq_c (R 6 i) := kq_r_at R (r := 6) h
theorem xi_a192 (h : Nat) : (192 : Int32) + nI h = nI (192 + h) := nI_add 192 h
theorem kq_r_288 (R : Nat → Nat → Kq) {i : Nat} (h : i < 32) : kq_r R (288 + i) = kq_c (R 9 i) := kq_r_at R (r := 9) h
theorem xi_a288 (h : Nat) : (288 : Int32) + nI h = nI (288 + h) := nI_add 288 h
theorem kq_r_352 (R : Nat → Nat → Kq) {i : Nat} (h : i < 32) : kq_r R (352 + i) = kq_c (R 11 i) := kq_r_at R (r := 11) h
theorem xi_a352 (h : Nat) : (352 : Int32) + nI h = nI (352 + h) := nI_add 352 h
theorem ql_row1 (W : Nat → Nat → (Nat → Nat → Kq) → Prop) (t : Nat) (v : Nat → (Nat → Nat → Kq) → Kq) (e i0 : Nat) (R : Nat → Nat → Kq) (g : Nat → Kq)
    (hs : ∀ n i Q, i0 ≤ i → i < e → W n (i + 1) (kq_w Q t i (v i Q)) → W (n + 1) i Q)
    (hv : ∀ i Q, i0 ≤ i → i < e → (∀ b, i0 ≤ b → b < i → Q t b = g b) → (∀ a b, (a ≠ t ∨ i ≤ b) → Q a b = R a b) → v i Q = g i)
    (hx : ∀ n Q, (∀ a b, Q a b = if a = t ∧ i0 ≤ b ∧ b < e then g b else R a b) → W (n + 1) e Q) (h : i0 ≤ e) : ∃ n, W n i0 R := by
  refine ql_ex W (fun i Q => kq_w Q t i (v i Q)) (fun k Q => i0 ≤ k ∧ ∀ a b, Q a b = if a = t ∧ i0 ≤ b ∧ b < k then g b else R a b) e i0 R (fun n i Q hi hI hW => hs n i Q hI.1 hi hW) ?_ (fun n Q hQ => hx n Q hQ.2) h ?_
  · intro k Q hk hQ
    refine ⟨by omega, fun a b => ?_⟩
    have e1 : v k Q = g k := by
      refine hv k Q hQ.1 hk (fun b h1 h2 => ?_) (fun a b hab => ?_)
      · rw [hQ.2 t b, if_pos (by omega)]
      · rw [hQ.2 a b, if_neg (by omega)]
    show (if a = t ∧ b = k then v k Q else Q a b) = _
    rw [e1, hQ.2 a b]
    by_cases h1 : a = t ∧ b = k
    · rw [if_pos h1, if_pos (by omega), h1.2]
    · rw [if_neg h1]
      by_cases h2 : a = t ∧ i0 ≤ b ∧ b < k
      · rw [if_pos h2, if_pos (by omega)]
      · rw [if_neg h2, if_neg (by omega)]
  · exact ⟨Nat.le_refl _, fun a b => by rw [if_neg (by omega)]⟩
theorem kq_s_w (R : Nat → Nat → Kq) (t : Nat) (c : Kq) : kq_r (kq_w (kq_s R t (fun _ => 0)) t 0 c) = kq_r (kq_s R t (qs_k c)) := kq_r_ext (fun a b _ => by
  show (if a = t ∧ b = 0 then c else if a = t then 0 else R a b) = if a = t then (if b = 0 then c else 0) else R a b
  by_cases h : a = t
  · by_cases z : b = 0
    · rw [if_pos ⟨h, z⟩, if_pos h, if_pos z]
    · rw [if_neg (fun k => z k.2), if_pos h, if_pos h, if_neg z]
  · rw [if_neg (fun k => h k.1), if_neg h, if_neg h])
theorem xw_inv68 (post : SX → Prop) {J34 J51 : Int32 → (Nat → Int32) → (Nat → Int32) → (Nat → Int32) → (Nat → Int32) → (Nat → Int32) → (Nat → Int32) → (Nat → Int32) → (Nat → Int32) → (Nat → Int32) → (Nat → Int32) → (Nat → Int32) → (Nat → Int32) → (Nat → Int32) → (Nat → Int32) → (Nat → Int32) → Prop} {R : Nat → Nat → Kq} {sA sB sC ga gi tA tB tC wA wB pw : Nat → Kq} {x1 x3 : Int32} {i : Nat} (hi : i < 32) (z : Kq) (h : J51 (nI (i + 1)) (kq_r (kq_w R 8 i (z - R 5 i))) (kq_f qt_I) (kq_f qt_F) (kq_f qt_G) (kq_f sA) (kq_f sB) (kq_f sC) (kq_f ga) (kq_f gi) (kq_f tA) (kq_f tB) (kq_f tC) (kq_f wA) (kq_f wB) (kq_f pw)) : wX_invertRow_68 post J34 J51 x1 x3 (nI i) (kq_c z) (kq_r R) (kq_f qt_I) (kq_f qt_F) (kq_f qt_G) (kq_f sA) (kq_f sB) (kq_f sC) (kq_f ga) (kq_f gi) (kq_f tA) (kq_f tB) (kq_f tC) (kq_f wA) (kq_f wB) (kq_f pw) := by
  unfold wX_invertRow_68
  simp (disch := omega) only [xi_a160, kq_r_160, xi_r32, zb_in, zb_ne, true_and, nI_clamp, kq_r_at, kq_r_w, kq_f_at, kq_f_u, forall_eq, nI_1, kq_mul, kq_mac, kq_mca, kq_add, xw_plus, xw_minus, xw_cell, xw_write, xw_cell5, xw_write5, xw_cell6, xw_write6, xw_cell7, xw_write7, xw_cell8, xw_write8, xw_cell9, xw_write9, xw_cell10, xw_write10, xw_cell11, xw_write11]
  exact h
theorem qx_tab : ∀ j, j < 5 → 2 ^ j < 32 ∧ 2 ^ (j + 1) = 2 ^ j * 2 ∧ 1 ≤ 2 ^ j ∧ 2 * 2 ^ j ≤ 32 ∧ 2 ^ (j + 1) = 2 * 2 ^ j := by decide
theorem xw_invertRow (post : SX → Prop) {R : Nat → Nat → Kq} {sA sB sC ga gi tA tB tC wA wB pw : Nat → Kq} {r : Nat} (hr : r < 12) (h5 : r ≠ 5) (h7 : r ≠ 7) (h8 : r ≠ 8) (h0 : R r 0 ≠ 0)
    (h : ∀ S : Nat → Nat → Kq, (∀ a, a ≠ 5 → a ≠ 7 → a ≠ 8 → S a = R a) → qs_o 32 (fun i => qs_k 1 i - qs_c (R r) (S 7) i) → qx_P post S) : wpX_invertRow post (kq_r R, kq_f qt_I, kq_f qt_F, kq_f qt_G, kq_f sA, kq_f sB, kq_f sC, kq_f ga, kq_f gi, kq_f tA, kq_f tB, kq_f tC, kq_f wA, kq_f wB, kq_f pw) (nI r) := by
  refine xw_clearRow (t := 7) _ (by decide) ?_
  have e0 : nI r * 32 + 0 = nI (r * 32 + 0) := xi_r32 r 0
  have er : kq_s R 7 (fun _ => 0) r = R r := kq_s_n h7
  dsimp only
  rw [e0, zb_in (by omega) (by decide), true_and, nI_clamp (by omega), kq_r_at _ (by decide), er]
  refine xw_power _ (R r 0) 12287 (by decide) ?_
  have ew := xw_write (fun u => match u with | (zR, zI, zF, zG, zsA, zsB, zsC, zga, zgi, ztA, ztB, ztC, zwA, zwB, zpw) => ∃ n, wX_invertRow_34 post (nI r) n 1 (zR) (zI) (zF) (zG) (zsA) (zsB) (zsC) (zga) (zgi) (ztA) (ztB) (ztC) (zwA) (zwB) (zpw)) (R := kq_s R 7 (fun _ => 0)) (zI := kq_f qt_I) (zF := kq_f qt_F) (zG := kq_f qt_G) (zsA := kq_f sA) (zsB := kq_f sB) (zsC := kq_f sC) (zga := kq_f ga) (zgi := kq_f gi) (ztA := kq_f tA) (ztB := kq_f tB) (ztC := kq_f tC) (zwA := kq_f wA) (zwB := kq_f wB) (zpw := kq_f pw) (r := 7) (i := 0) (by decide) (by decide) (qp (R r 0) 12287)
  refine cast ew.symm ?_
  dsimp only
  rw [kq_s_w]
  have key : ∀ m j, j + m = 5 → ∀ S : Nat → Nat → Kq, (∀ a, a ≠ 5 → a ≠ 7 → a ≠ 8 → S a = R a) → qs_o (2 ^ j) (fun i => qs_k 1 i - qs_c (R r) (S 7) i) → ∀ sA sB sC ga gi tA tB tC wA wB pw : Nat → Kq, ∀ n, m < n → wX_invertRow_34 post (nI r) n (nI (2 ^ j)) (kq_r (S)) (kq_f qt_I) (kq_f qt_F) (kq_f qt_G) (kq_f sA) (kq_f sB) (kq_f sC) (kq_f ga) (kq_f gi) (kq_f tA) (kq_f tB) (kq_f tC) (kq_f wA) (kq_f wB) (kq_f pw) := by
    intro m
    induction m with
    | zero =>
      intro j hj S hS hq sA sB sC ga gi tA tB tC wA wB pw n hn
      obtain ⟨n', rfl⟩ : ∃ k, n = k + 1 := ⟨n - 1, by omega⟩
      have hj5 : j = 5 := by omega
      subst hj5
      exact br_t (by decide) (h S hS hq _ _ _ _ _ _ _ _ _ _ _)
    | succ m ih =>
      intro j hj S hS hq sA sB sC ga gi tA tB tC wA wB pw n hn
      obtain ⟨n', rfl⟩ : ∃ k, n = k + 1 := ⟨n - 1, by omega⟩
      obtain ⟨k1, k2, k3, k4, k5⟩ := qx_tab j (by omega)
      refine br_f (nI_ge (b := 32) k1 (by decide)) ?_
      refine xw_rows (e := 3) (b := 7) _ (by decide) hr (by decide) h5 (by decide) ?_
      intro sA sB sC ga gi tA tB tC wA wB pw
      refine ql_row32 (fun n i Q => wX_invertRow_51 post (wX_invertRow_34 post (nI r) n') (nI r) (nI (2 ^ j)) n (nI i) (kq_r (Q)) (kq_f qt_I) (kq_f qt_F) (kq_f qt_G) (kq_f sA) (kq_f sB) (kq_f sC) (kq_f ga) (kq_f gi) (kq_f tA) (kq_f tB) (kq_f tC) (kq_f wA) (kq_f wB) (kq_f pw)) 8 (fun i Q => qs_k 2 i - Q 5 i) (kq_s S 5 (qs_c (S r) (S 7))) (fun i => qs_k 2 i - qs_c (R r) (S 7) i) ?_ ?_ ?_
      · intro n i Q hi hW
        refine br_f (nI_ge (b := 32) hi (by decide)) ?_
        by_cases z : i = 0
        · subst z
          exact br_t rfl (xw_inv68 post (by decide) 2 hW)
        · have e : qs_k 2 i = 0 := qs_k_s 2 z
          rw [e] at hW
          exact br_f (nI_ne0 (by omega) (by omega)) (xw_inv68 post hi 0 hW)
      · intro i Q hi _ h2
        show qs_k 2 i - Q 5 i = _
        rw [h2 5 i (Or.inl (by decide)), kq_s_s, hS r h5 h7 h8]
      · intro n Q hQ
        refine br_t (nI_le (a := 32) (Nat.le_refl 32) (by decide)) ?_
        rw [hQ]
        refine xw_rows (e := 3) (a := 8) (b := 7) _ (by decide) (by decide) (by decide) (by decide) (by decide) ?_
        intro sA sB sC ga gi tA tB tC wA wB pw
        refine xw_copyRow (f := 5) (t := 7) _ (by decide) (by decide) (nm_r (xi_t2 _) ?_)
        rw [← k2]
        refine ih (j + 1) (by omega) _ (fun a a5 a7 a8 => ?_) ?_ _ _ _ _ _ _ _ _ _ _ _ n' (by omega)
        · rw [kq_s_n a7, kq_s_n a5, kq_s_n a8, kq_s_n a5]; exact hS a a5 a7 a8
        · have e7 : kq_s (kq_s S 5 (qs_c (S r) (S 7))) 8 (fun i => qs_k 2 i - qs_c (R r) (S 7) i) 7 = S 7 := by rw [kq_s_n (by decide), kq_s_n (by decide)]
          rw [kq_s_s, kq_s_s, kq_s_s, e7, qn_inv]
          exact qs_o_le (qs_o_mul hq hq) (by omega)
  refine ⟨6, key 5 0 rfl _ (fun a _ a7 _ => kq_s_n a7) ?_ _ _ _ _ _ _ _ _ _ _ _ 6 (by decide)⟩
  intro i hi
  have hi0 : i = 0 := by have : (2 : Nat) ^ 0 = 1 := rfl; omega
  subst hi0
  show qs_k 1 0 - qs_c (R r) (kq_s R 7 (qs_k (qp (R r 0) 12287)) 7) 0 = 0
  rw [kq_s_s, qs_c_at0, qs_k_0, qs_k_0]
  have := qf_inv (R r 0) h0
  grind
theorem xw_log41 (post : SX → Prop) {J : Int32 → (Nat → Int32) → (Nat → Int32) → (Nat → Int32) → (Nat → Int32) → (Nat → Int32) → (Nat → Int32) → (Nat → Int32) → (Nat → Int32) → (Nat → Int32) → (Nat → Int32) → (Nat → Int32) → (Nat → Int32) → (Nat → Int32) → (Nat → Int32) → (Nat → Int32) → Prop} {R : Nat → Nat → Kq} {sA sB sC ga gi tA tB tC wA wB pw : Nat → Kq} {x1 : Int32} {i : Nat} (hi : i < 32) (z : Kq) (h : J (nI (i + 1)) (kq_r (kq_w R 9 i z)) (kq_f qt_I) (kq_f qt_F) (kq_f qt_G) (kq_f sA) (kq_f sB) (kq_f sC) (kq_f ga) (kq_f gi) (kq_f tA) (kq_f tB) (kq_f tC) (kq_f wA) (kq_f wB) (kq_f pw)) : wX_logRow_41 post J x1 (nI i) (kq_c z) (kq_r R) (kq_f qt_I) (kq_f qt_F) (kq_f qt_G) (kq_f sA) (kq_f sB) (kq_f sC) (kq_f ga) (kq_f gi) (kq_f tA) (kq_f tB) (kq_f tC) (kq_f wA) (kq_f wB) (kq_f pw) := by
  unfold wX_logRow_41
  simp (disch := omega) only [xi_r32, zb_in, zb_ne, true_and, nI_clamp, kq_r_at, kq_r_w, kq_f_at, kq_f_u, forall_eq, nI_1, kq_mul, kq_mac, kq_mca, kq_add, xw_plus, xw_minus, xw_cell, xw_write, xw_cell5, xw_write5, xw_cell6, xw_write6, xw_cell7, xw_write7, xw_cell8, xw_write8, xw_cell9, xw_write9, xw_cell10, xw_write10, xw_cell11, xw_write11]
  exact h
theorem xw_logRow (post : SX → Prop) {R : Nat → Nat → Kq} {sA sB sC ga gi tA tB tC wA wB pw : Nat → Kq} {r : Nat} (hr : r < 12) (h5 : r ≠ 5) (h7 : r ≠ 7) (h8 : r ≠ 8) (h9 : r ≠ 9) (h0 : R r 0 ≠ 0)
    (h : ∀ S : Nat → Nat → Kq, (∀ a, a ≠ 5 → a ≠ 7 → a ≠ 8 → a ≠ 9 → S a = R a) → qn_L (R r) (S 9) → qx_P post S) : wpX_logRow post (kq_r R, kq_f qt_I, kq_f qt_F, kq_f qt_G, kq_f sA, kq_f sB, kq_f sC, kq_f ga, kq_f gi, kq_f tA, kq_f tB, kq_f tC, kq_f wA, kq_f wB, kq_f pw) (nI r) := by
  refine xw_invertRow _ hr h5 h7 h8 h0 (fun S hS hq => ?_)
  intro sA sB sC ga gi tA tB tC wA wB pw
  have hSr : S r = R r := hS r h5 h7 h8
  refine ql_row32 (fun n i Q => wX_logRow_7 post (nI r) n (nI i) (kq_r (Q)) (kq_f qt_I) (kq_f qt_F) (kq_f qt_G) (kq_f sA) (kq_f sB) (kq_f sC) (kq_f ga) (kq_f gi) (kq_f tA) (kq_f tB) (kq_f tC) (kq_f wA) (kq_f wB) (kq_f pw)) 9 (fun i Q => if i + 1 < 32 then kq_n (i + 1) * Q r (i + 1) else 0) S (fun i => if i + 1 < 32 then kq_n (i + 1) * R r (i + 1) else 0) ?_ ?_ ?_
  · intro n i Q hi hW
    refine br_f (nI_ge (b := 32) hi (by decide)) ?_
    rw [nI_1]
    by_cases c : i + 1 < 32
    · rw [if_pos c] at hW
      refine br_f (nI_ge (b := 32) c (by decide)) ?_
      simp (disch := omega) only [kq_nmul, xi_r32, zb_in, zb_ne, true_and, nI_clamp, kq_r_at, kq_r_w, kq_f_at, kq_f_u, forall_eq, nI_1, kq_mul, kq_mac, kq_mca, kq_add, xw_plus, xw_minus, xw_cell, xw_write, xw_cell5, xw_write5, xw_cell6, xw_write6, xw_cell7, xw_write7, xw_cell8, xw_write8, xw_cell9, xw_write9, xw_cell10, xw_write10, xw_cell11, xw_write11]
      exact xw_log41 post hi _ hW
    · rw [if_neg c] at hW
      exact br_t (nI_le (a := 32) (by omega) (by omega)) (xw_log41 post hi 0 hW)
  · intro i Q hi _ h2
    show (if i + 1 < 32 then kq_n (i + 1) * Q r (i + 1) else 0) = _
    rw [h2 r (i + 1) (Or.inl h9), hSr]
  intro n Q hQ
  refine br_t (nI_le (a := 32) (Nat.le_refl 32) (by decide)) ?_
  rw [hQ]
  refine xw_rows (e := 4) (a := 9) (b := 7) _ (by decide) (by decide) (by decide) (by decide) (by decide) ?_
  intro sA sB sC ga gi tA tB tC wA wB pw
  rw [kq_s_s, kq_s_n (show (7 : Nat) ≠ 9 by decide)]
  generalize hE : (fun i => if i + 1 < 32 then kq_n (i + 1) * R r (i + 1) else 0) = dE
  generalize hR1 : kq_s (kq_s S 9 dE) 5 (qs_c dE (S 7)) = R1
  have ew := xw_write (fun u => match u with | (zR, zI, zF, zG, zsA, zsB, zsC, zga, zgi, ztA, ztB, ztC, zwA, zwB, zpw) => ∃ n, wX_logRow_75 post n 1 (zR) (zI) (zF) (zG) (zsA) (zsB) (zsC) (zga) (zgi) (ztA) (ztB) (ztC) (zwA) (zwB) (zpw)) (R := R1) (zI := kq_f qt_I) (zF := kq_f qt_F) (zG := kq_f qt_G) (zsA := kq_f sA) (zsB := kq_f sB) (zsC := kq_f sC) (zga := kq_f ga) (zgi := kq_f gi) (ztA := kq_f tA) (ztB := kq_f tB) (ztC := kq_f tC) (zwA := kq_f wA) (zwB := kq_f wB) (zpw := kq_f pw) (r := 9) (i := 0) (by decide) (by decide) 0
  refine cast ew.symm ?_
  have hR15 : ∀ i, R1 5 i = qs_c dE (S 7) i := fun i => by rw [← hR1, kq_s_s]
  refine ql_row1 (fun n i Q => wX_logRow_75 post n (nI i) (kq_r (Q)) (kq_f qt_I) (kq_f qt_F) (kq_f qt_G) (kq_f sA) (kq_f sB) (kq_f sC) (kq_f ga) (kq_f gi) (kq_f tA) (kq_f tB) (kq_f tC) (kq_f wA) (kq_f wB) (kq_f pw)) 9 (fun i Q => Q 5 (i - 1) * qt_I i) 32 1 (kq_w R1 9 0 0) (fun i => qs_c dE (S 7) (i - 1) * qt_I i) ?_ ?_ ?_ (by decide)
  · intro n i Q h1 hi hW
    refine br_f (nI_ge (b := 32) hi (by decide)) ?_
    have e : (160 : Int32) + nI i - 1 = nI (160 + (i - 1)) := by
      rw [xi_a160, show 160 + i = 160 + (i - 1) + 1 by omega, nI_pred]
    simp (disch := omega) only [e, kq_r_160, xi_r32, zb_in, zb_ne, true_and, nI_clamp, kq_r_at, kq_r_w, kq_f_at, kq_f_u, forall_eq, nI_1, kq_mul, kq_mac, kq_mca, kq_add, xw_plus, xw_minus, xw_cell, xw_write, xw_cell5, xw_write5, xw_cell6, xw_write6, xw_cell7, xw_write7, xw_cell8, xw_write8, xw_cell9, xw_write9, xw_cell10, xw_write10, xw_cell11, xw_write11]
    exact hW
  · intro i Q h1 hi _ h2
    show Q 5 (i - 1) * qt_I i = _
    rw [h2 5 (i - 1) (Or.inl (by decide))]
    have : kq_w R1 9 0 0 5 (i - 1) = R1 5 (i - 1) := if_neg (by omega)
    rw [this, hR15]
  intro n Q hQ
  refine br_t (nI_le (a := 32) (Nat.le_refl 32) (by decide)) ?_
  have eQ : kq_r Q = kq_r (kq_s R1 9 (fun i => if i = 0 then 0 else qs_c dE (S 7) (i - 1) * qt_I i)) := kq_r_ext (fun a b hb => by
    rw [hQ a b]
    show (if a = 9 ∧ 1 ≤ b ∧ b < 32 then _ else if a = 9 ∧ b = 0 then 0 else R1 a b) = if a = 9 then (if b = 0 then 0 else _) else R1 a b
    by_cases ha : a = 9
    · by_cases z : b = 0
      · rw [if_neg (by omega), if_pos ⟨ha, z⟩, if_pos ha, if_pos z]
      · rw [if_pos (by omega), if_pos ha, if_neg z]
    · rw [if_neg (fun k => ha k.1), if_neg (fun k => ha k.1), if_neg ha])
  show post (kq_r (Q), kq_f qt_I, kq_f qt_F, kq_f qt_G, kq_f sA, kq_f sB, kq_f sC, kq_f ga, kq_f gi, kq_f tA, kq_f tB, kq_f tC, kq_f wA, kq_f wB, kq_f pw)
  rw [eQ]
  refine h _ (fun a a5 a7 a8 a9 => ?_) ?_ _ _ _ _ _ _ _ _ _ _ _
  · rw [kq_s_n a9, ← hR1, kq_s_n a5, kq_s_n a9]; exact hS a a5 a7 a8
  · rw [kq_s_s]
    refine qn_Lof (t := S 7) rfl hq (fun i hi => ?_)
    show kq_n (i + 1) * (if i + 1 = 0 then 0 else qs_c dE (S 7) (i + 1 - 1) * qt_I (i + 1)) = _
    rw [if_neg (by omega), Nat.add_sub_cancel, qs_c_em (k := 31) (f' := qs_d (R r)) (g' := S 7) (fun j hj => by rw [← hE]; exact if_pos (by omega)) (fun j _ => rfl) i hi]
    have u := qt_I_1 (i := i + 1) (by omega) (by omega)
    generalize qs_c (qs_d (R r)) (S 7) i = y
    grind
end
end
section
section
variable {zR zI zF zG zsA zsB zsC zga zgi ztA ztB ztC zwA zwB zpw : Nat → Int32}
/-! X: products by bits -/
def qw_p (n : Nat) : Nat := (n % 2 + n / 2 % 2 + n / 4 % 2 + n / 8 % 2 + n / 16 % 2) % 2
def qw_H (i k : Nat) : Kq := if qw_p (i &&& k) = 0 then 1 else -1
theorem qw_and : ∀ t, t < 5 → ∀ i, i < 32 → ((i &&& 2 ^ t = 0) ↔ i / 2 ^ t % 2 = 0) := by decide +kernel
def qw_ck (t i k : Nat) : Bool := !(decide (i < 2 ^ t) && decide (k < 2 ^ t)) || (decide (qw_H (2 ^ t + i) k = qw_H i k) && decide (qw_H i (2 ^ t + k) = qw_H i k) && decide (qw_H (2 ^ t + i) (2 ^ t + k) = - qw_H i k))
theorem qw_ckA : ∀ t, t < 5 → ∀ i, i < 16 → ∀ k, k < 16 → qw_ck t i k = true := by decide +kernel
theorem qw_Hs (t : Nat) (ht : t < 5) (i : Nat) (hi : i < 16) (k : Nat) (hk : k < 16) (h1 : i < 2 ^ t) (h2 : k < 2 ^ t) : qw_H (2 ^ t + i) k = qw_H i k ∧ qw_H i (2 ^ t + k) = qw_H i k ∧ qw_H (2 ^ t + i) (2 ^ t + k) = - qw_H i k := by
  have c := qw_ckA t ht i hi k hk
  unfold qw_ck at c
  simp only [h1, h2, decide_true, Bool.and_self, Bool.not_true, Bool.false_or, Bool.and_eq_true, decide_eq_true_eq] at c
  exact ⟨c.1.1, c.1.2, c.2⟩
theorem qw_px : ∀ a, a < 32 → ∀ b, b < 32 → qw_p (a ^^^ b) = (qw_p a + qw_p b) % 2 := by decide +kernel
theorem qw_p01 (n : Nat) : qw_p n = 0 ∨ qw_p n = 1 := by unfold qw_p; omega
theorem qw_sum : ∀ e, e < 32 → qs_m 32 (fun k => qw_H e k) = if e = 0 then 32 else 0 := by decide +kernel
theorem qw_sym (i k : Nat) : qw_H i k = qw_H k i := by unfold qw_H; rw [Nat.and_comm]
theorem qw_mul {i j k : Nat} (hi : i < 32) (hj : j < 32) : qw_H i k * qw_H j k = qw_H (i ^^^ j) k := by
  unfold qw_H
  have e : (i ^^^ j) &&& k = (i &&& k) ^^^ (j &&& k) := Nat.and_xor_distrib_right
  have h1 : i &&& k < 32 := Nat.lt_of_le_of_lt Nat.and_le_left hi
  have h2 : j &&& k < 32 := Nat.lt_of_le_of_lt Nat.and_le_left hj
  rw [e, qw_px _ h1 _ h2]
  rcases qw_p01 (i &&& k) with a | a <;> rcases qw_p01 (j &&& k) with b | b <;> rw [a, b] <;> decide
theorem qw_x0 {i j n : Nat} : (i ^^^ j) ^^^ n = 0 ↔ j = i ^^^ n := by
  constructor
  · intro h
    have h1 : i ^^^ j = n := by
      have := congrArg (· ^^^ n) h
      simp only [Nat.xor_assoc, Nat.xor_self, Nat.xor_zero, Nat.zero_xor] at this
      exact this
    rw [← h1, ← Nat.xor_assoc, Nat.xor_self, Nat.zero_xor]
  · intro h
    rw [h, ← Nat.xor_assoc i i n, Nat.xor_self, Nat.zero_xor, Nat.xor_self]
theorem qw_lt {i n : Nat} (hi : i < 32) (hn : n < 32) : i ^^^ n < 32 := Nat.xor_lt_two_pow (n := 5) hi hn
/-- Walsh's sums -/
def qw_W (x : Nat → Kq) (k : Nat) : Kq := qs_m 32 (fun i => qw_H i k * x i)
theorem qw_main (s t : Nat → Kq) (n : Nat) (hn : n < 32) : qw_W (fun k => qw_W s k * qw_W t k) n * qt_I 32 = qs_m 32 (fun i => s i * t (i ^^^ n)) := by
  have s1 : qw_W (fun k => qw_W s k * qw_W t k) n = qs_m 32 (fun i => qs_m 32 (fun j => s i * t j * qs_m 32 (fun k => qw_H ((i ^^^ j) ^^^ n) k))) := by
    have a1 : qw_W (fun k => qw_W s k * qw_W t k) n = qs_m 32 (fun k => qs_m 32 (fun i => qs_m 32 (fun j => s i * t j * qw_H ((i ^^^ j) ^^^ n) k))) := by
      refine qs_congr (fun k hk => ?_)
      show qw_H k n * (qs_m 32 (fun i => qw_H i k * s i) * qs_m 32 (fun j => qw_H j k * t j)) = _
      rw [← qs_mulR, ← qs_mulL]
      refine qs_congr (fun i hi => ?_)
      rw [← qs_mulL, ← qs_mulL]
      refine qs_congr (fun j hj => ?_)
      rw [← qw_mul (qw_lt hi hj) hn, ← qw_mul hi hj, qw_sym k n]; grind
    rw [a1, qs_swap]
    refine qs_congr (fun i hi => ?_)
    rw [qs_swap]
    refine qs_congr (fun j hj => ?_)
    rw [qs_mulL]
  have s2 : qw_W (fun k => qw_W s k * qw_W t k) n = qs_m 32 (fun i => s i * t (i ^^^ n)) * 32 := by
    rw [s1, ← qs_mulR]
    refine qs_congr (fun i hi => ?_)
    rw [qs_one (k := i ^^^ n) (qw_lt hi hn) (fun j hj hne => ?_)]
    · show s i * t (i ^^^ n) * _ = _
      rw [qw_sum _ (qw_lt (qw_lt hi (qw_lt hi hn)) hn), if_pos (qw_x0.mpr rfl)]
    · rw [qw_sum _ (qw_lt (qw_lt hi hj) hn), if_neg (fun z => hne (qw_x0.mp z))]; grind
  have u := qt_I_1 (i := 32) (by decide) (by decide)
  rw [show kq_n 32 = 32 from rfl] at u
  rw [s2]
  generalize qs_m 32 (fun i => s i * t (i ^^^ n)) = y
  grind
theorem qw_tab : ∀ t, t < 5 → 2 ^ (t + 1) = 2 * 2 ^ t ∧ 2 ^ t < 32 ∧ 0 < 2 ^ t ∧ 2 ^ t ≤ 16 ∧ 2 ^ t * 2 ^ (4 - t) = 16 ∧ 2 ^ (5 - t) = 2 * 2 ^ (4 - t) ∧ 5 - (t + 1) = 4 - t := by decide
/-- a stage: i with its bit not set, and i + h -/
def qw_x (r h i : Nat) (Q : Nat → Nat → Kq) : Nat → Nat → Kq := if i / h % 2 = 0 then kq_w (kq_w Q r i (Q r i + Q r (i + h))) r (i + h) (Q r i - Q r (i + h)) else Q
theorem qw_dm {h b k : Nat} (hk : k < h) : (b * h + k) / h = b ∧ (b * h + k) % h = k := by
  have h0 : 0 < h := by omega
  refine ⟨?_, ?_⟩
  · rw [Nat.mul_comm b h, Nat.mul_add_div h0, Nat.div_eq_of_lt hk, Nat.add_zero]
  · rw [Nat.mul_comm b h, Nat.mul_add_mod, Nat.mod_eq_of_lt hk]
theorem xw_fold10 (post : SX → Prop) {J : Int32 → (Nat → Int32) → (Nat → Int32) → (Nat → Int32) → (Nat → Int32) → (Nat → Int32) → (Nat → Int32) → (Nat → Int32) → (Nat → Int32) → (Nat → Int32) → (Nat → Int32) → (Nat → Int32) → (Nat → Int32) → (Nat → Int32) → (Nat → Int32) → (Nat → Int32) → Prop} {R : Nat → Nat → Kq} {r t : Nat} (hr : r < 12) (ht : t < 5)
    (hJ : ∀ Q : Nat → Nat → Kq, (∀ a, a ≠ r → Q a = R a) → (∀ b k, b < 2 ^ (4 - t) → k < 2 ^ t → Q r (2 * b * 2 ^ t + k) = R r (2 * b * 2 ^ t + k) + R r ((2 * b + 1) * 2 ^ t + k) ∧ Q r ((2 * b + 1) * 2 ^ t + k) = R r (2 * b * 2 ^ t + k) - R r ((2 * b + 1) * 2 ^ t + k)) → J (nI (2 ^ (t + 1))) (kq_r (Q)) (zI) (zF) (zG) (zsA) (zsB) (zsC) (zga) (zgi) (ztA) (ztB) (ztC) (zwA) (zwB) (zpw)) :
    ∃ n, wX_foldRow_10 post J (nI r) (nI (2 ^ t)) n 0 (kq_r R) (zI) (zF) (zG) (zsA) (zsB) (zsC) (zga) (zgi) (ztA) (ztB) (ztC) (zwA) (zwB) (zpw) := by
  obtain ⟨k1, k2, k3, k4, k5, k6, k7⟩ := qw_tab t ht
  have hand := qw_and t ht
  refine ql_ex (fun n i (Q : Nat → Nat → Kq) => wX_foldRow_10 post J (nI r) (nI (2 ^ t)) n (nI i) (kq_r (Q)) (zI) (zF) (zG) (zsA) (zsB) (zsC) (zga) (zgi) (ztA) (ztB) (ztC) (zwA) (zwB) (zpw)) (fun i Q => qw_x r (2 ^ t) i Q) (fun n Q => (∀ a, a ≠ r → Q a = R a) ∧ ∀ b k, b < 2 ^ (4 - t) → k < 2 ^ t → Q r (2 * b * 2 ^ t + k) = (if 2 * b * 2 ^ t + k < n then R r (2 * b * 2 ^ t + k) + R r ((2 * b + 1) * 2 ^ t + k) else R r (2 * b * 2 ^ t + k)) ∧ Q r ((2 * b + 1) * 2 ^ t + k) = (if 2 * b * 2 ^ t + k < n then R r (2 * b * 2 ^ t + k) - R r ((2 * b + 1) * 2 ^ t + k) else R r ((2 * b + 1) * 2 ^ t + k))) 32 0 R ?_ ?_ ?_ (by decide) ?_
  · intro n i Q hi _ hW
    have ea : nI i &&& nI (2 ^ t) = nI (i &&& 2 ^ t) := nx_and _ _
    have hle : i &&& 2 ^ t < 32 := Nat.lt_of_le_of_lt Nat.and_le_left hi
    refine br_f (nI_ge (b := 32) hi (by decide)) ?_
    by_cases c : i / 2 ^ t % 2 = 0
    · have hx : qw_x r (2 ^ t) i Q = kq_w (kq_w Q r i (Q r i + Q r (i + 2 ^ t))) r (i + 2 ^ t) (Q r i - Q r (i + 2 ^ t)) := if_pos c
      have h0 : i &&& 2 ^ t = 0 := (hand i hi).mpr c
      have hib : i + 2 ^ t < 32 := by
        have d := Nat.div_add_mod i (2 ^ t)
        have m := Nat.mod_lt i k3
        have d2 : 2 ^ t * (i / 2 ^ t) = 2 * (2 ^ t * (i / 2 ^ t / 2)) := by
          have : i / 2 ^ t = 2 * (i / 2 ^ t / 2) := by omega
          calc 2 ^ t * (i / 2 ^ t) = 2 ^ t * (2 * (i / 2 ^ t / 2)) := by rw [← this]
            _ = 2 * (2 ^ t * (i / 2 ^ t / 2)) := by grind
        have q : i / 2 ^ t / 2 < 2 ^ (4 - t) := by
          rw [Nat.div_div_eq_div_mul, Nat.div_lt_iff_lt_mul (by omega)]
          have : 2 ^ (4 - t) * (2 ^ t * 2) = 32 := by rw [← Nat.mul_assoc, Nat.mul_comm (2 ^ (4 - t)), k5]
          omega
        have q2 : 2 ^ t * (i / 2 ^ t / 2 + 1) ≤ 2 ^ t * 2 ^ (4 - t) := Nat.mul_le_mul_left _ q
        rw [k5, Nat.mul_add] at q2
        omega
      have ei : nI r * 32 + nI i + nI (2 ^ t) = nI (r * 32 + (i + 2 ^ t)) := by rw [xi_r32, nI_add, Nat.add_assoc]
      refine br_t (by rw [ea, h0]; rfl) ?_
      rw [ei]
      generalize 2 ^ t = hh at *
      simp (disch := omega) only [nI_add, xi_r32, zb_in, zb_ne, true_and, nI_clamp, kq_r_at, kq_r_w, kq_f_at, kq_f_u, forall_eq, nI_1, kq_mul, kq_mac, kq_mca, kq_add, xw_plus, xw_minus, xw_cell, xw_write, xw_cell5, xw_write5, xw_cell6, xw_write6, xw_cell7, xw_write7, xw_cell8, xw_write8, xw_cell9, xw_write9, xw_cell10, xw_write10, xw_cell11, xw_write11]
      rw [hx] at hW
      exact hW
    · have hx : qw_x r (2 ^ t) i Q = Q := if_neg c
      have h0 : i &&& 2 ^ t ≠ 0 := fun z => c ((hand i hi).mp z)
      refine br_f (by rw [ea]; exact nI_ne0 (by omega) (by omega)) (nm_r (nI_1 i) ?_)
      rw [hx] at hW
      exact hW
  · intro n Q hn hQ
    generalize 2 ^ t = h at *
    refine ⟨fun a ha => ?_, fun b k hb hk => ?_⟩
    · rw [← hQ.1 a ha]
      funext j
      unfold qw_x
      by_cases c : n / h % 2 = 0
      · rw [if_pos c]
        show (if a = r ∧ _ then _ else if a = r ∧ _ then _ else Q a j) = _
        rw [if_neg (fun z => ha z.1), if_neg (fun z => ha z.1)]
      · rw [if_neg c]
    · obtain ⟨q1, q2⟩ := hQ.2 b k hb hk
      have d1 := qw_dm (b := 2 * b) hk
      have d2 := qw_dm (b := 2 * b + 1) hk
      have w : (2 * b + 1) * h + k = 2 * b * h + k + h := by grind
      by_cases c : n / h % 2 = 0
      · have hx : qw_x r h n Q = kq_w (kq_w Q r n (Q r n + Q r (n + h))) r (n + h) (Q r n - Q r (n + h)) := if_pos c
        rw [hx]
        have dn : (n + h) / h = n / h + 1 := Nat.add_div_right n k3
        by_cases e : 2 * b * h + k = n
        · have e2 : (2 * b + 1) * h + k = n + h := by omega
          rw [e, e2] at q1 q2 ⊢
          rw [if_neg (by omega)] at q1 q2
          rw [if_pos (by omega), if_pos (by omega), ← q1, ← q2]
          refine ⟨?_, ?_⟩
          · show (if r = r ∧ n = n + h then _ else if r = r ∧ n = n then _ else _) = _
            rw [if_neg (by omega), if_pos ⟨rfl, rfl⟩]
          · show (if r = r ∧ n + h = n + h then _ else _) = _
            rw [if_pos ⟨rfl, rfl⟩]
        · have x1 : (2 * b * h + k) ≠ n + h := fun z => by
            have := d1.1
            rw [z, dn] at this; omega
          have x2 : (2 * b + 1) * h + k ≠ n := fun z => by
            have := d2.1
            rw [z] at this; omega
          have x3 : (2 * b + 1) * h + k ≠ n + h := fun z => e (by omega)
          have r1 : kq_w (kq_w Q r n (Q r n + Q r (n + h))) r (n + h) (Q r n - Q r (n + h)) r (2 * b * h + k) = Q r (2 * b * h + k) := by
            show (if r = r ∧ _ = n + h then _ else if r = r ∧ _ = n then _ else _) = _
            rw [if_neg (fun z => x1 z.2), if_neg (fun z => e z.2)]
          have r2 : kq_w (kq_w Q r n (Q r n + Q r (n + h))) r (n + h) (Q r n - Q r (n + h)) r ((2 * b + 1) * h + k) = Q r ((2 * b + 1) * h + k) := by
            show (if r = r ∧ _ = n + h then _ else if r = r ∧ _ = n then _ else _) = _
            rw [if_neg (fun z => x3 z.2), if_neg (fun z => x2 z.2)]
          rw [r1, r2, q1, q2]
          by_cases c2 : 2 * b * h + k < n
          · rw [if_pos c2, if_pos c2, if_pos (by omega), if_pos (by omega)]; exact ⟨rfl, rfl⟩
          · rw [if_neg c2, if_neg c2, if_neg (by omega), if_neg (by omega)]; exact ⟨rfl, rfl⟩
      · have hx : qw_x r h n Q = Q := if_neg c
        have e : 2 * b * h + k ≠ n := fun z => c (by rw [← z, d1.1]; omega)
        rw [hx, q1, q2]
        by_cases c2 : 2 * b * h + k < n
        · rw [if_pos c2, if_pos c2, if_pos (by omega), if_pos (by omega)]; exact ⟨rfl, rfl⟩
        · rw [if_neg c2, if_neg c2, if_neg (by omega), if_neg (by omega)]; exact ⟨rfl, rfl⟩
  · intro n Q hQ
    refine br_t (nI_le (a := 32) (Nat.le_refl 32) (by decide)) (nm_r (xi_t2 _) ?_)
    rw [← Nat.pow_succ]
    refine hJ Q hQ.1 (fun b k hb hk => ?_)
    obtain ⟨q1, q2⟩ := hQ.2 b k hb hk
    have b2 : (b + 1) * 2 ^ t ≤ 2 ^ (4 - t) * 2 ^ t := Nat.mul_le_mul_right _ hb
    rw [Nat.mul_comm (2 ^ (4 - t)), k5, Nat.add_mul] at b2
    have b3 : 2 * b * 2 ^ t = 2 * (b * 2 ^ t) := Nat.mul_assoc _ _ _
    rw [if_pos (by omega)] at q1 q2
    exact ⟨q1, q2⟩
  · refine ⟨fun a _ => rfl, fun b k hb hk => ?_⟩
    rw [if_neg (by omega), if_neg (by omega)]
    exact ⟨rfl, rfl⟩
theorem xw_foldRow (post : SX → Prop) {R : Nat → Nat → Kq} {r : Nat} (hr : r < 12)
    (h : post (kq_r (kq_s R r (qw_W (R r))), zI, zF, zG, zsA, zsB, zsC, zga, zgi, ztA, ztB, ztC, zwA, zwB, zpw)) : wpX_foldRow post (kq_r R, zI, zF, zG, zsA, zsB, zsC, zga, zgi, ztA, ztB, ztC, zwA, zwB, zpw) (nI r) := by
  refine pk_loop (fun n t (Q : Nat → Nat → Kq) => wX_foldRow_2 post (nI r) n (nI (2 ^ t)) (kq_r (Q)) (zI) (zF) (zG) (zsA) (zsB) (zsC) (zga) (zgi) (ztA) (ztB) (ztC) (zwA) (zwB) (zpw)) (fun t Q => (∀ a, a ≠ r → Q a = R a) ∧ ∀ b k, b < 2 ^ (5 - t) → k < 2 ^ t → Q r (b * 2 ^ t + k) = qs_m (2 ^ t) (fun i => qw_H i k * R r (b * 2 ^ t + i))) 5 0 R (by decide) ?_ ?_ ?_
  · refine ⟨fun a _ => rfl, fun b k hb hk => ?_⟩
    have hk0 : k = 0 := by have : (2 : Nat) ^ 0 = 1 := rfl; omega
    subst hk0
    show R r (b * 1 + 0) = qs_m (0 + 1) (fun i => qw_H i 0 * R r (b * 1 + i))
    rw [qs_m_s, qs_m_0, show qw_H 0 0 = 1 from rfl]; grind
  · intro n Q hQ
    refine br_t (show (32 : Int32) ≤ nI (2 ^ 5) by decide) ?_
    have e : kq_r Q = kq_r (kq_s R r (qw_W (R r))) := kq_r_ext (fun a b hb => by
      by_cases ha : a = r
      · subst ha
        rw [kq_s_s]
        have q := hQ.2 0 b (by decide) hb
        rw [Nat.zero_mul, Nat.zero_add] at q
        rw [q]
        exact qs_congr (fun i _ => by rw [Nat.zero_add])
      · rw [kq_s_n ha, hQ.1 a ha])
    show post (kq_r (Q), zI, zF, zG, zsA, zsB, zsC, zga, zgi, ztA, ztB, ztC, zwA, zwB, zpw)
    rw [e]; exact h
  · intro n t Q ht hQ K
    obtain ⟨k1, k2, k3, k4, k5, k6, k7⟩ := qw_tab t ht
    refine br_f (nI_ge (b := 32) k2 (by decide)) ?_
    refine xw_fold10 post hr ht (fun Q' h1 h2 => K Q' ⟨fun a ha => by rw [h1 a ha, hQ.1 a ha], fun b k hb hk => ?_⟩)
    rw [k7] at hb
    have hq0 := hQ.2 (2 * b)
    have hq1 := hQ.2 (2 * b + 1)
    have hH := qw_Hs t ht
    rw [k6] at hq0 hq1
    rw [k1] at hk ⊢
    generalize 2 ^ t = hh at *
    rw [show 2 * hh = hh + hh by omega, qs_app]
    by_cases c : k < hh
    · rw [show b * (hh + hh) + k = 2 * b * hh + k by grind, (h2 b k hb c).1, hq0 k (by omega) c, hq1 k (by omega) c]
      congr 1
      · exact qs_congr (fun i _ => by rw [show 2 * b * hh + i = b * (hh + hh) + i by grind])
      · exact qs_congr (fun i hi => by rw [(hH i (by omega) k (by omega) hi c).1, show (2 * b + 1) * hh + i = b * (hh + hh) + (hh + i) by grind])
    · obtain ⟨l, rfl⟩ : ∃ l, k = hh + l := ⟨k - hh, by omega⟩
      have hl : l < hh := by omega
      rw [show b * (hh + hh) + (hh + l) = (2 * b + 1) * hh + l by grind, (h2 b l hb hl).2, hq0 l (by omega) hl, hq1 l (by omega) hl]
      have e0 : qs_m hh (fun i => qw_H i (hh + l) * R r (b * (hh + hh) + i)) = qs_m hh (fun i => qw_H i l * R r (2 * b * hh + i)) := qs_congr (fun i hi => by rw [(hH i (by omega) l (by omega) hi hl).2.1, show 2 * b * hh + i = b * (hh + hh) + i by grind])
      have e1 : qs_m hh (fun i => qw_H (hh + i) (hh + l) * R r (b * (hh + hh) + (hh + i))) = - qs_m hh (fun i => qw_H i l * R r ((2 * b + 1) * hh + i)) := by
        have e2 : - qs_m hh (fun i => qw_H i l * R r ((2 * b + 1) * hh + i)) = qs_m hh (fun i => (-1) * (qw_H i l * R r ((2 * b + 1) * hh + i))) := by rw [qs_mulL]; grind
        rw [e2]
        exact qs_congr (fun i hi => by rw [(hH i (by omega) l (by omega) hi hl).2.2, show (2 * b + 1) * hh + i = b * (hh + hh) + (hh + i) by grind]; grind)
      rw [e0, e1]; grind
/-- the class's cross, behind its checks -/
theorem xw_cross (post : Int32 → SX → Prop) {R : Nat → Nat → Kq} {s t : Nat} (hs : s < 5) (ht : t < 5)
    (h : ∀ S : Nat → Nat → Kq, (∀ a, a < 5 → a ≠ s → S a = R a) → S s = (fun n => qw_W (fun k => qw_W (R s) k * qw_W (R t) k) n * qt_I 32) → post 1 (kq_r (S), kq_f qt_I, zF, zG, zsA, zsB, zsC, zga, zgi, ztA, ztB, ztC, zwA, zwB, zpw)) :
    wpX_copyRow (fun u => match u with | (zR, zI, zF, zG, zsA, zsB, zsC, zga, zgi, ztA, ztB, ztC, zwA, zwB, zpw) => wpX_foldRow (fun u => match u with | (zR, zI, zF, zG, zsA, zsB, zsC, zga, zgi, ztA, ztB, ztC, zwA, zwB, zpw) => wpX_foldRow (fun u => match u with | (zR, zI, zF, zG, zsA, zsB, zsC, zga, zgi, ztA, ztB, ztC, zwA, zwB, zpw) => ∃ n36, wX_cross_36 post (nI s) n36 0 (zR) (zI) (zF) (zG) (zsA) (zsB) (zsC) (zga) (zgi) (ztA) (ztB) (ztC) (zwA) (zwB) (zpw)) (zR, zI, zF, zG, zsA, zsB, zsC, zga, zgi, ztA, ztB, ztC, zwA, zwB, zpw) (nI s)) (zR, zI, zF, zG, zsA, zsB, zsC, zga, zgi, ztA, ztB, ztC, zwA, zwB, zpw) 6) (kq_r R, kq_f qt_I, zF, zG, zsA, zsB, zsC, zga, zgi, ztA, ztB, ztC, zwA, zwB, zpw) (nI t) 6 := by
  refine xw_copyRow (t := 6) _ (by omega) (by decide) ?_
  refine xw_foldRow (r := 6) _ (by decide) ?_
  refine xw_foldRow (r := s) _ (by omega) ?_
  have hs6 : s ≠ 6 := by omega
  generalize hS : kq_s (kq_s (kq_s R 6 (R t)) 6 (qw_W (kq_s R 6 (R t) 6))) s (qw_W (kq_s (kq_s R 6 (R t)) 6 (qw_W (kq_s R 6 (R t) 6)) s)) = S
  have hSs : S s = qw_W (R s) := by rw [← hS, kq_s_s, kq_s_n hs6, kq_s_n hs6]
  have hS6 : S 6 = qw_W (R t) := by rw [← hS, kq_s_n (fun z => hs6 z.symm), kq_s_s, kq_s_s]
  have hSa : ∀ a, a < 5 → a ≠ s → S a = R a := fun a ha has => by rw [← hS, kq_s_n has, kq_s_n (by omega), kq_s_n (by omega)]
  refine ql_row32 (fun n i Q => wX_cross_36 post (nI s) n (nI i) (kq_r (Q)) (kq_f qt_I) (zF) (zG) (zsA) (zsB) (zsC) (zga) (zgi) (ztA) (ztB) (ztC) (zwA) (zwB) (zpw)) s (fun i Q => Q s i * Q 6 i) S (fun k => qw_W (R s) k * qw_W (R t) k) ?_ ?_ ?_
  · intro n i Q hi hW
    refine br_f (nI_ge (b := 32) hi (by decide)) ?_
    simp (disch := omega) only [xi_a192, kq_r_192, xi_r32, zb_in, zb_ne, true_and, nI_clamp, kq_r_at, kq_r_w, kq_f_at, kq_f_u, forall_eq, nI_1, kq_mul, kq_mac, kq_mca, kq_add, xw_plus, xw_minus, xw_cell, xw_write, xw_cell5, xw_write5, xw_cell6, xw_write6, xw_cell7, xw_write7, xw_cell8, xw_write8, xw_cell9, xw_write9, xw_cell10, xw_write10, xw_cell11, xw_write11]
    exact hW
  · intro i Q hi _ h2
    show Q s i * Q 6 i = _
    rw [h2 s i (Or.inr (Nat.le_refl i)), h2 6 i (Or.inl (fun z => hs6 z.symm)), hSs, hS6]
  intro n Q hQ
  refine br_t (nI_le (a := 32) (Nat.le_refl 32) (by decide)) ?_
  rw [hQ]
  refine xw_foldRow (r := s) _ (by omega) ?_
  rw [kq_s_s]
  refine ql_row32 (fun n i Q => wX_cross_87 post (nI s) n (nI i) (kq_r (Q)) (kq_f qt_I) (zF) (zG) (zsA) (zsB) (zsC) (zga) (zgi) (ztA) (ztB) (ztC) (zwA) (zwB) (zpw)) s (fun i Q => Q s i * qt_I 32) _ (fun n => qw_W (fun k => qw_W (R s) k * qw_W (R t) k) n * qt_I 32) ?_ ?_ ?_
  · intro n i Q hi hW
    refine br_f (nI_ge (b := 32) hi (by decide)) ?_
    simp (disch := omega) only [xi_r32, zb_in, zb_ne, true_and, nI_clamp, kq_r_at, kq_r_w, kq_f_at, kq_f_u, forall_eq, nI_1, kq_mul, kq_mac, kq_mca, kq_add, xw_plus, xw_minus, xw_cell, xw_write, xw_cell5, xw_write5, xw_cell6, xw_write6, xw_cell7, xw_write7, xw_cell8, xw_write8, xw_cell9, xw_write9, xw_cell10, xw_write10, xw_cell11, xw_write11]
    exact hW
  · intro i Q hi _ h2
    show Q s i * qt_I 32 = _
    rw [h2 s i (Or.inr (Nat.le_refl i)), kq_s_s]
  · intro n Q hQ
    refine br_t (nI_le (a := 32) (Nat.le_refl 32) (by decide)) ?_
    show post 1 (kq_r (Q), kq_f qt_I, zF, zG, zsA, zsB, zsC, zga, zgi, ztA, ztB, ztC, zwA, zwB, zpw)
    rw [hQ]
    refine h _ (fun a ha has => ?_) ?_
    · rw [kq_s_n has, kq_s_n has, kq_s_n has]; exact hSa a ha has
    · rw [kq_s_s]
end
end
section
/-! Y: longs, and the small methods -/
/-- x stands for z, and is not beyond b -/
def yl_R (x : Int64) (z : Kq) (b : Nat) : Prop := kq_i x.toInt = z ∧ -(b : Int) ≤ x.toInt ∧ x.toInt ≤ b
theorem yl_c (a : Kq) : yl_R (kq_c a).toInt64 a 12288 := by
  have h := a.isLt
  refine ⟨?_, ?_, ?_⟩
  · rw [Int32.toInt_toInt64, kq_c_toInt, kq_i_v]
  · rw [Int32.toInt_toInt64, kq_c_toInt]; omega
  · rw [Int32.toInt_toInt64, kq_c_toInt]; omega
theorem yl_n {n : Nat} (h : n < 2 ^ 31) : yl_R (nI n).toInt64 (kq_n n) n := by
  refine ⟨?_, ?_, ?_⟩
  · rw [Int32.toInt_toInt64, nI_toInt h, kq_i_n]
  · rw [Int32.toInt_toInt64, nI_toInt h]; omega
  · rw [Int32.toInt_toInt64, nI_toInt h]; omega
theorem yl_0 (b : Nat) : yl_R 0 0 b := ⟨rfl, by show -(b : Int) ≤ 0; omega, by show (0 : Int) ≤ b; omega⟩
theorem yl_1 : yl_R 1 1 1 := ⟨rfl, by decide, by decide⟩
theorem yl_m1 : yl_R (-1) (-1) 1 := ⟨by decide, by decide, by decide⟩
theorem yl_6145 : yl_R 6145 6145 6145 := ⟨by decide, by decide, by decide⟩
theorem yl_le {x : Int64} {z : Kq} {b c : Nat} (h : yl_R x z b) (hbc : b ≤ c) : yl_R x z c := ⟨h.1, by have := h.2.1; omega, by have := h.2.2; omega⟩
theorem yl_add {x y : Int64} {a c : Kq} {m n : Nat} (hx : yl_R x a m) (hy : yl_R y c n) (h : m + n < 2 ^ 62) : yl_R (x + y) (a + c) (m + n) := by
  obtain ⟨x1, x2, x3⟩ := hx
  obtain ⟨y1, y2, y3⟩ := hy
  have e : (x + y).toInt = x.toInt + y.toInt := Jvm.Kit.i64_add (by omega) (by omega)
  refine ⟨by rw [e, kq_i_add, x1, y1], ?_, ?_⟩
  · rw [e]; omega
  · rw [e]; omega
theorem yl_sub {x y : Int64} {a c : Kq} {m n : Nat} (hx : yl_R x a m) (hy : yl_R y c n) (h : m + n < 2 ^ 62) : yl_R (x - y) (a - c) (m + n) := by
  obtain ⟨x1, x2, x3⟩ := hx
  obtain ⟨y1, y2, y3⟩ := hy
  have e : (x - y).toInt = x.toInt - y.toInt := Jvm.Kit.i64_sub (by omega) (by omega)
  refine ⟨by rw [e, kq_i_sub, x1, y1], ?_, ?_⟩
  · rw [e]; omega
  · rw [e]; omega
theorem yl_neg {x : Int64} {a : Kq} {m : Nat} (hx : yl_R x a m) (h : m < 2 ^ 62) : yl_R (-x) (-a) m := by
  obtain ⟨x1, x2, x3⟩ := hx
  have e : (-x).toInt = -x.toInt := Jvm.Kit.i64_neg (by omega)
  refine ⟨by rw [e, kq_i_neg, x1], ?_, ?_⟩
  · rw [e]; omega
  · rw [e]; omega
theorem yl_abs {u v : Int} {m n : Nat} (h1 : -(m : Int) ≤ u) (h2 : u ≤ m) (h3 : -(n : Int) ≤ v) (h4 : v ≤ n) : -((m * n : Nat) : Int) ≤ u * v ∧ u * v ≤ ((m * n : Nat) : Int) := by
  have a1 : u.natAbs ≤ m := by omega
  have a2 : v.natAbs ≤ n := by omega
  have a3 : (u * v).natAbs ≤ m * n := by
    rw [Int.natAbs_mul]; exact Nat.mul_le_mul a1 a2
  generalize u * v = w at *
  generalize m * n = q at *
  omega
theorem yl_mul {x y : Int64} {a c : Kq} {m n : Nat} (hx : yl_R x a m) (hy : yl_R y c n) (h : m * n < 2 ^ 62) : yl_R (x * y) (a * c) (m * n) := by
  obtain ⟨x1, x2, x3⟩ := hx
  obtain ⟨y1, y2, y3⟩ := hy
  obtain ⟨b1, b2⟩ := yl_abs x2 x3 y2 y3
  have e : (x * y).toInt = x.toInt * y.toInt := Jvm.Kit.i64_mul (by omega) (by omega)
  refine ⟨by rw [e, kq_i_mul, x1, y1], ?_, ?_⟩
  · rw [e]; exact b1
  · rw [e]; exact b2
theorem yl_mm (a b : Kq) : yl_R ((kq_c a).toInt64 * (kq_c b).toInt64) (a * b) 150994944 := yl_mul (yl_c a) (yl_c b) (by decide)
theorem yl_red {post : Int32 → Prop} {u : SY} {x : Int64} {z : Kq} {b : Nat} (h : yl_R x z b) : wpY_reduced post u x = post (kq_c z) := by rw [yw_reduced, h.1]
/-- a sum in a long -/
theorem yl_loop (W : Nat → Nat → Int64 → Prop) (F : Nat → Kq) (e i0 : Nat) (x0 : Int64) (z0 : Kq) (h0 : yl_R x0 z0 (2 ^ 40)) (he : i0 ≤ e) (he2 : e ≤ i0 + 100)
    (hs : ∀ n i x z b, i0 ≤ i → i < e → b ≤ 2 ^ 50 → yl_R x z b → (∀ y, yl_R y (z + F i) (b + 2 ^ 40) → W n (i + 1) y) → W (n + 1) i x)
    (hx : ∀ n x b, yl_R x (z0 + qs_m (e - i0) (fun l => F (i0 + l))) b → W (n + 1) e x) : ∃ n, W n i0 x0 := by
  refine pk_loop W (fun i x => i0 ≤ i ∧ yl_R x (z0 + qs_m (i - i0) (fun l => F (i0 + l))) (2 ^ 40 + (i - i0) * 2 ^ 40)) e i0 x0 he ?_ (fun n x hI => hx n x _ hI.2) ?_
  · refine ⟨Nat.le_refl _, ?_⟩
    rw [Nat.sub_self, qs_m_0, Nat.zero_mul, Nat.add_zero, show z0 + 0 = z0 by grind]; exact h0
  · intro n i x hi hI K
    refine hs n i x _ _ hI.1 hi ?_ hI.2 (fun y hy => K y ⟨by omega, ?_⟩)
    · omega
    · have hI1 := hI.1
      rw [show i + 1 - i0 = (i - i0) + 1 by omega, qs_m_s, show i0 + (i - i0) = i by omega]
      have ez : z0 + (qs_m (i - i0) (fun l => F (i0 + l)) + F i) = z0 + qs_m (i - i0) (fun l => F (i0 + l)) + F i := by grind
      rw [ez]
      exact yl_le hy (by omega)

theorem yi_r32 (s i : Nat) : (32 : Int32) * nI s + nI i = nI (32 * s + i) := by rw [show (32 : Int32) * nI s = nI (32 * s) from pk_mul 32 s, nI_add]
theorem yw_at (post : Int32 → Prop) {A : Nat → Nat → Kq} {m : Nat → Int32} {s i : Nat} (hs : s < 5) (hi : i < 32) : wpY_at post (kq_r A, m) (nI s) (nI i) = post (kq_c (A s i)) := by
  show (vp_in (32 * nI s + nI i) 160 ∧ post (kq_r A (32 * nI s + nI i).toNatClampNeg)) = _
  rw [yi_r32, zb_in (by omega) (by omega), true_and, nI_clamp (by omega), kq_r_at' A hi]
theorem yw_take (post : SY → Prop) {A : Nat → Nat → Kq} {M : Nat → Kq} {s : Nat} (hs : s < 5) (h : post (kq_r (kq_s A s M), kq_f M)) : wpY_take post (kq_r A, kq_f M) (nI s) := by
  refine ql_row32 (fun n i Q => wY_take_2 post (nI s) n (nI i) (kq_r Q) (kq_f M)) s (fun i _ => M i) A M ?_ (fun i Q _ _ _ => rfl) ?_
  · intro n i Q hi hW
    refine br_f (nI_ge (b := 32) hi (by decide)) ?_
    simp (disch := omega) only [yi_r32, zb_in, true_and, nI_clamp, kq_f_at, kq_r_w', forall_eq, nI_1]
    exact hW
  · intro n Q hQ
    refine br_t (nI_le (a := 32) (Nat.le_refl 32) (by decide)) ?_
    rw [hQ]; exact h
theorem yw_degree14 (post : Int32 → Prop) {A : Nat → Nat → Kq} {m : Nat → Int32} {s : Nat} (hs : s < 5) : ∀ (k n : Nat), k ≤ 32 → k < n → post (nI (qd_g (A s) k) + (-1)) → wY_degree_14 post (nI s) (kq_r A) m n (nI k + (-1)) := by
  intro k
  induction k with
  | zero =>
    intro n _ hn h
    obtain ⟨m, rfl⟩ : ∃ m, n = m + 1 := ⟨n - 1, by omega⟩
    exact br_t xi_m1 h
  | succ k ih =>
    intro n hk hn h
    obtain ⟨m, rfl⟩ : ∃ m, n = m + 1 := ⟨n - 1, by omega⟩
    rw [pk_m1]
    refine br_f (nI_pos (by omega)) ?_
    rw [yw_at _ hs (by omega)]
    by_cases z : A s k = 0
    · refine br_t (by rw [z]; rfl) (nm_e ?_)
      refine ih _ (by omega) (by omega) ?_
      have e : qd_g (A s) (k + 1) = qd_g (A s) k := if_pos z
      rw [e] at h; exact h
    · refine br_f (by rw [kq_c_eq0]; exact z) ?_
      have e : qd_g (A s) (k + 1) = k + 1 := if_neg z
      rw [e, pk_m1] at h; exact h
/-- the inverse by trial is the power -/
theorem yw_inverse (post : Int32 → Prop) (u : SY) (a : Kq) (ha : a ≠ 0) (h : post (kq_c (qp a 12287))) : wpY_inverse post u (kq_c a) := by
  obtain ⟨p, q⟩ := u
  have ha' := a.isLt
  have h0 : a.val ≠ 0 := fun z => ha (Fin.ext z)
  have hb' := (qp a 12287).isLt
  have hab := qf_inv a ha
  generalize hb : qp a 12287 = b at *
  have hv : (b.val * a.val) % 12289 = 1 := by
    have := congrArg Fin.val hab
    rw [Fin.val_mul] at this
    exact this
  have hd := Nat.div_add_mod (b.val * a.val) 12289
  rw [hv] at hd
  generalize hJ : b.val * a.val / 12289 = J at hd
  have hle := kq_mlt b a
  have key : ∀ m j n, j + m = J → m < n → wY_inverse_2 post (nI a.val) p q n (nI (12289 * j + 1)) := by
    intro m
    induction m with
    | zero =>
      intro j n hj hn
      obtain ⟨n', rfl⟩ : ∃ k, n = k + 1 := ⟨n - 1, by omega⟩
      have hj' : j = J := by omega
      subst hj'
      have e : nI (12289 * j + 1) - nI (12289 * j + 1) / nI a.val * nI a.val = nI ((12289 * j + 1) % a.val) := pk_rem (by omega) (by omega) (by omega)
      have hz : (12289 * j + 1) % a.val = 0 := by rw [hd]; exact Nat.mul_mod_left _ _
      refine ⟨nI_ne0 (by omega) (by omega), br_t (by rw [e, hz]; rfl) ⟨nI_ne0 (by omega) (by omega), ?_⟩⟩
      rw [pk_div (by omega) (by omega) (by omega), hd, Nat.mul_div_cancel _ (by omega)]
      exact h
    | succ m ih =>
      intro j n hj hn
      obtain ⟨n', rfl⟩ : ∃ k, n = k + 1 := ⟨n - 1, by omega⟩
      have e : nI (12289 * j + 1) - nI (12289 * j + 1) / nI a.val * nI a.val = nI ((12289 * j + 1) % a.val) := pk_rem (by omega) (by omega) (by omega)
      by_cases hz : (12289 * j + 1) % a.val = 0
      · refine ⟨nI_ne0 (by omega) (by omega), br_t (by rw [e, hz]; rfl) ⟨nI_ne0 (by omega) (by omega), ?_⟩⟩
        rw [pk_div (by omega) (by omega) (by omega)]
        have hc : (12289 * j + 1) / a.val * a.val = 12289 * j + 1 := Nat.div_mul_cancel (Nat.dvd_of_mod_eq_zero hz)
        generalize (12289 * j + 1) / a.val = c at hc ⊢
        have hcb : c ≤ b.val := by
          refine Nat.le_of_mul_le_mul_right (c := a.val) ?_ (by omega)
          omega
        have e1 : kq_n c * a = 1 := by
          rw [← kq_n_v a, ← kq_n_mul, hc, kq_n_add, kq_n_mul]
          show (0 : Kq) * kq_n j + 1 = 1
          grind
        have e2 : kq_n c = b := by grind
        have e3 : c = b.val := by rw [← e2, kq_n_small (by omega)]
        rw [e3]; exact h
      · refine ⟨nI_ne0 (by omega) (by omega), br_f (by rw [e]; exact nI_ne0 (by omega) (by
          have := Nat.mod_lt (12289 * j + 1) (show 0 < a.val by omega)
          omega)) (nm_r (show nI (12289 * j + 1) + 12289 = nI (12289 * (j + 1) + 1) from ?_) (ih (j + 1) n' (by omega) (by omega)))⟩
        rw [show nI (12289 * j + 1) + 12289 = nI (12289 * j + 1 + 12289) from nI_add _ 12289]
        exact congrArg nI (by omega)
  exact ⟨J + 1, key J 0 (J + 1) (by omega) (by omega)⟩
end
section
/-! Y: what its methods reckon, behind their checks -/
theorem ql_rec1 (W : Nat → Nat → (Nat → Kq) → Prop) (v : Nat → (Nat → Kq) → Kq) (e i0 : Nat) (f0 : Nat → Kq)
    (hs : ∀ n i f, i0 ≤ i → i < e → W n (i + 1) (kq_u f i (v i f)) → W (n + 1) i f)
    (hv : ∀ i f f', i0 ≤ i → (∀ j, j < i → f j = f' j) → v i f = v i f')
    (hx : ∀ n f, (∀ j, i0 ≤ j → j < e → f j = v j f) → (∀ j, j < i0 → f j = f0 j) → W (n + 1) e f) (h : i0 ≤ e) : ∃ n, W n i0 f0 := by
  refine ql_ex W (fun i f => kq_u f i (v i f)) (fun k f => i0 ≤ k ∧ (∀ j, i0 ≤ j → j < k → f j = v j f) ∧ (∀ j, j < i0 → f j = f0 j)) e i0 f0 (fun n i f hi hI hW => hs n i f hI.1 hi hW) ?_ (fun n f hf => hx n f hf.2.1 hf.2.2) h ?_
  · intro k f hk hf
    refine ⟨by omega, fun j h1 h2 => ?_, fun j hj => ?_⟩
    · have e1 : v j (kq_u f k (v k f)) = v j f := hv j _ _ h1 (fun l hl => kq_u_n (by omega))
      rw [e1]
      by_cases h3 : j = k
      · rw [h3, kq_u_s]
      · rw [kq_u_n h3]; exact hf.2.1 j h1 (by omega)
    · rw [kq_u_n (by omega)]; exact hf.2.2 j hj
  · exact ⟨Nat.le_refl _, fun j h1 h2 => by omega, fun j _ => rfl⟩
theorem yw_takeG (post : SY → Prop) {A : Nat → Nat → Kq} {M g : Nat → Kq} {s : Nat} (hs : s < 5) (hM : ∀ i, i < 32 → M i = g i) (h : ∀ M, post (kq_r (kq_s A s g), kq_f M)) : wpY_take post (kq_r A, kq_f M) (nI s) := by
  refine yw_take post hs ?_
  have e : kq_r (kq_s A s M) = kq_r (kq_s A s g) := kq_r_ext (fun a b hb => by
    by_cases c : a = s
    · rw [c, kq_s_s, kq_s_s, hM b hb]
    · rw [kq_s_n c, kq_s_n c])
  rw [e]; exact h M
theorem ym_copy (post : Int32 → SY → Prop) {A : Nat → Nat → Kq} {m : Nat → Int32} {s t : Nat} (hs : s < 5) (ht : t < 5) (h : post 1 (kq_r (kq_s A s (A t)), m)) : ∃ n, wY_copy_20 post (nI s) (nI t) n 0 (kq_r A) m := by
  refine ql_row32 (fun n i Q => wY_copy_20 post (nI s) (nI t) n (nI i) (kq_r Q) m) s (fun i Q => Q t i) A (A t) ?_ (fun i Q _ _ h2 => h2 t i (Or.inr (Nat.le_refl i))) ?_
  · intro n i Q hi hW
    refine br_f (nI_ge (b := 32) hi (by decide)) ?_
    rw [yw_at _ ht hi]
    simp (disch := omega) only [yi_r32, zb_in, true_and, nI_clamp, kq_r_w', forall_eq, nI_1]
    exact hW
  · intro n Q hQ
    refine br_t (nI_le (a := 32) (Nat.le_refl 32) (by decide)) ?_
    rw [hQ]; exact h
theorem ym_add (post : Int32 → SY → Prop) {A : Nat → Nat → Kq} {M : Nat → Kq} {s t : Nat} (hs : s < 5) (ht : t < 5) (x : Int32) (h : ∀ M, post 1 (kq_r (kq_s A s (fun i => A s i + kq_i x.toInt * A t i)), kq_f M)) : ∃ n, wY_add_21 post (nI s) (nI t) x n 0 (kq_r A) (kq_f M) := by
  refine ql_arr (fun n i f => wY_add_21 post (nI s) (nI t) x n (nI i) (kq_r A) (kq_f f)) (fun i _ => A s i + kq_i x.toInt * A t i) 32 0 M (fun i => A s i + kq_i x.toInt * A t i) ?_ (fun i f _ _ _ _ => rfl) ?_ (Nat.zero_le _)
  · intro n i f hi hW
    refine br_f (nI_ge (b := 32) hi (by decide)) ?_
    rw [yw_at _ hs hi, yw_reduced, Int32.toInt_toInt64, yw_at _ ht hi, yl_red (yl_add (yl_c _) (yl_mm _ _) (by decide))]
    simp (disch := omega) only [zb_in, true_and, nI_clamp, kq_f_u, forall_eq, nI_1]
    exact hW
  · intro n f hf
    refine br_t (nI_le (a := 32) (Nat.le_refl 32) (by decide)) ?_
    exact yw_takeG _ hs (fun i hi => by rw [hf i, if_pos (by omega)]) h
theorem ym_mul (post : Int32 → SY → Prop) {A : Nat → Nat → Kq} {M : Nat → Kq} {s t : Nat} (hs : s < 5) (ht : t < 5) (h : ∀ M, post 1 (kq_r (kq_s A s (qs_c (A s) (A t))), kq_f M)) : ∃ n, wY_multiply_30 post (nI s) (nI t) n 0 (kq_r A) (kq_f M) := by
  refine ql_arr (fun n i f => wY_multiply_30 post (nI s) (nI t) n (nI i) (kq_r A) (kq_f f)) (fun i _ => qs_c (A s) (A t) i) 32 0 M (qs_c (A s) (A t)) ?_ (fun i f _ _ _ _ => rfl) ?_ (Nat.zero_le _)
  · intro n k f hk hW
    refine br_f (nI_ge (b := 32) hk (by decide)) ?_
    refine yl_loop (fun n' i x => wY_multiply_43 post (wY_multiply_30 post (nI s) (nI t) n) (nI s) (nI t) (nI k) (kq_r A) (kq_f f) n' x (nI i)) (fun i => A s i * A t (k - i)) (k + 1) 0 0 0 (yl_0 _) (by omega) (by omega) ?_ ?_
    · intro n' i x z b _ hi hb hx K
      refine br_f (nI_nlt (by omega) (by omega)) ?_
      rw [pk_sub (show i ≤ k by omega), yw_at _ hs (by omega), yw_at _ ht (by omega)]
      simp only [forall_eq, nI_1]
      exact K _ (yl_le (yl_add hx (yl_mm _ _) (by omega)) (by omega))
    · intro n' x b hx
      refine br_t (nI_lt (by omega) (by omega)) ?_
      have e : (0 : Kq) + qs_m (k + 1 - 0) (fun l => A s (0 + l) * A t (k - (0 + l))) = qs_c (A s) (A t) k := by
        have e2 : qs_m (k + 1 - 0) (fun l => A s (0 + l) * A t (k - (0 + l))) = qs_c (A s) (A t) k := qs_congr (fun l _ => by rw [Nat.zero_add])
        rw [e2]; grind
      rw [e] at hx
      rw [yl_red hx]
      simp (disch := omega) only [zb_in, true_and, nI_clamp, kq_f_u, forall_eq, nI_1]
      exact hW
  · intro n f hf
    refine br_t (nI_le (a := 32) (Nat.le_refl 32) (by decide)) ?_
    exact yw_takeG _ hs (fun i hi => by rw [hf i, if_pos (by omega)]) h
theorem ym_cross (post : Int32 → SY → Prop) {A : Nat → Nat → Kq} {M : Nat → Kq} {s t : Nat} (hs : s < 5) (ht : t < 5) (h : ∀ M, post 1 (kq_r (kq_s A s (fun n => qs_m 32 (fun i => A s i * A t (i ^^^ n)))), kq_f M)) : ∃ n, wY_cross_20 post (nI s) (nI t) n 0 (kq_r A) (kq_f M) := by
  refine ql_arr (fun n i f => wY_cross_20 post (nI s) (nI t) n (nI i) (kq_r A) (kq_f f)) (fun n _ => qs_m 32 (fun i => A s i * A t (i ^^^ n))) 32 0 M (fun n => qs_m 32 (fun i => A s i * A t (i ^^^ n))) ?_ (fun i f _ _ _ _ => rfl) ?_ (Nat.zero_le _)
  · intro n k f hk hW
    refine br_f (nI_ge (b := 32) hk (by decide)) ?_
    refine yl_loop (fun n' i x => wY_cross_32 post (wY_cross_20 post (nI s) (nI t) n) (nI s) (nI t) (nI k) (kq_r A) (kq_f f) n' x (nI i)) (fun i => A s i * A t (i ^^^ k)) 32 0 0 0 (yl_0 _) (by omega) (by omega) ?_ ?_
    · intro n' i x z b _ hi hb hx K
      have hik : i ^^^ k < 32 := Nat.xor_lt_two_pow (n := 5) hi hk
      refine br_f (nI_ge (b := 32) hi (by decide)) ?_
      rw [nx_xor, yw_at _ hs (by omega), yw_at _ ht hik]
      simp only [forall_eq, nI_1]
      exact K _ (yl_le (yl_add hx (yl_mm _ _) (by omega)) (by omega))
    · intro n' x b hx
      refine br_t (nI_le (a := 32) (Nat.le_refl 32) (by decide)) ?_
      have e : (0 : Kq) + qs_m (32 - 0) (fun l => A s (0 + l) * A t ((0 + l) ^^^ k)) = qs_m 32 (fun i => A s i * A t (i ^^^ k)) := by
        have e2 : qs_m (32 - 0) (fun l => A s (0 + l) * A t ((0 + l) ^^^ k)) = qs_m 32 (fun i => A s i * A t (i ^^^ k)) := qs_congr (fun l _ => by rw [Nat.zero_add])
        rw [e2]; grind
      rw [e] at hx
      rw [yl_red hx]
      simp (disch := omega) only [zb_in, true_and, nI_clamp, kq_f_u, forall_eq, nI_1]
      exact hW
  · intro n f hf
    refine br_t (nI_le (a := 32) (Nat.le_refl 32) (by decide)) ?_
    exact yw_takeG _ hs (fun i hi => by rw [hf i, if_pos (by omega)]) h
theorem ym_inv (post : Int32 → SY → Prop) {A : Nat → Nat → Kq} {M : Nat → Kq} {s : Nat} (hs : s < 5) {c : Kq} (hc : c * A s 0 = 1) (h : ∀ M, qs_o 32 (fun i => qs_k 1 i - qs_c (A s) M i) → post 1 (kq_r (kq_s A s M), kq_f M)) : ∃ n, wY_invert_32 post (nI s) (kq_c c) n 0 (kq_r A) (kq_f M) := by
  refine ql_rec1 (fun n i f => wY_invert_32 post (nI s) (kq_c c) n (nI i) (kq_r A) (kq_f f)) (fun k f => - ((if k = 0 then -1 else 0) + qs_m k (fun l => A s (1 + l) * f (k - (1 + l)))) * c) 32 0 M ?_ ?_ ?_ (Nat.zero_le _)
  · intro n k f _ hk hW
    refine br_f (nI_ge (b := 32) hk (by decide)) ?_
    have key : ∀ (x0 : Int64) (z0 : Kq), yl_R x0 z0 (2 ^ 40) → z0 = (if k = 0 then -1 else 0) → ∃ n', wY_invert_54 post (wY_invert_32 post (nI s) (kq_c c) n) (nI s) (kq_c c) (nI k) (kq_r A) (kq_f f) n' x0 1 := by
      intro x0 z0 hx0 hz0
      refine yl_loop (fun n' i x => wY_invert_54 post (wY_invert_32 post (nI s) (kq_c c) n) (nI s) (kq_c c) (nI k) (kq_r A) (kq_f f) n' x (nI i)) (fun i => A s i * f (k - i)) (k + 1) 1 x0 z0 hx0 (by omega) (by omega) ?_ ?_
      · intro n' i x z b _ hi hb hx K
        refine br_f (nI_nlt (by omega) (by omega)) ?_
        rw [pk_sub (show i ≤ k by omega), yw_at _ hs (by omega)]
        simp (disch := omega) only [zb_in, true_and, nI_clamp, kq_f_at, forall_eq, nI_1]
        exact K _ (yl_le (yl_add hx (yl_mm _ _) (by omega)) (by omega))
      · intro n' x b hx
        refine br_t (nI_lt (by omega) (by omega)) ?_
        rw [yl_red hx, yl_red (yl_mul (yl_neg (yl_c _) (by decide)) (yl_c c) (by decide))]
        simp (disch := omega) only [zb_in, true_and, nI_clamp, kq_f_u, forall_eq, nI_1]
        rw [hz0]
        exact hW
    by_cases z : k = 0
    · exact br_t (by rw [z]; rfl) (key (-1) (-1) (yl_le yl_m1 (by decide)) (by rw [if_pos z]))
    · exact br_f (nI_ne0 (by omega) (by omega)) (key 0 0 (yl_0 _) (by rw [if_neg z]))
  · intro k f f' _ hf
    have e : qs_m k (fun l => A s (1 + l) * f (k - (1 + l))) = qs_m k (fun l => A s (1 + l) * f' (k - (1 + l))) := qs_congr (fun l hl => by rw [hf (k - (1 + l)) (by omega)])
    show - (_ + qs_m k (fun l => A s (1 + l) * f (k - (1 + l)))) * c = _
    rw [e]
  · intro n f hf _
    refine br_t (nI_le (a := 32) (Nat.le_refl 32) (by decide)) ?_
    refine yw_take _ hs (h f (fun k hk => ?_))
    show qs_k 1 k - qs_c (A s) f k = 0
    have e : qs_c (A s) f k = A s 0 * f k + qs_m k (fun l => A s (1 + l) * f (k - (1 + l))) := by
      show qs_m (k + 1) (fun i => A s i * f (k - i)) = _
      rw [qs_front]
      have e2 : qs_m k (fun i => A s (i + 1) * f (k - (i + 1))) = qs_m k (fun l => A s (1 + l) * f (k - (1 + l))) := qs_congr (fun l _ => by rw [Nat.add_comm l 1])
      rw [e2]; rfl
    have hk' := hf k (by omega) hk
    rw [e]
    generalize qs_m k (fun l => A s (1 + l) * f (k - (1 + l))) = y at *
    unfold qs_k
    by_cases z : k = 0
    · rw [if_pos z] at hk' ⊢
      grind
    · rw [if_neg z] at hk' ⊢
      grind
theorem ym_root (post : Int32 → SY → Prop) {A : Nat → Nat → Kq} {M : Nat → Kq} {s : Nat} (hs : s < 5) (h0 : A s 0 = 1) (h : ∀ M, M 0 = 1 → qs_o 32 (fun i => qs_c M M i - A s i) → post 1 (kq_r (kq_s A s M), kq_f M)) : ∃ n, wY_root_29 post (nI s) n 1 (kq_r A) (kq_f (kq_u M 0 1)) := by
  refine ql_rec1 (fun n i f => wY_root_29 post (nI s) n (nI i) (kq_r A) (kq_f f)) (fun k f => (A s k + qs_m (k - 1) (fun l => - (f (1 + l) * f (k - (1 + l))))) * 6145) 32 1 (kq_u M 0 1) ?_ ?_ ?_ (by decide)
  · intro n k f h1 hk hW
    refine br_f (nI_ge (b := 32) hk (by decide)) ?_
    rw [yw_at _ hs hk]
    refine yl_loop (fun n' i x => wY_root_46 post (wY_root_29 post (nI s) n) (nI s) (nI k) (kq_r A) (kq_f f) n' x (nI i)) (fun i => - (f i * f (k - i))) k 1 _ (A s k) (yl_le (yl_c _) (by decide)) h1 (by omega) ?_ ?_
    · intro n' i x z b _ hi hb hx K
      refine br_f (nI_ge hi (by omega)) ?_
      rw [pk_sub (show i ≤ k by omega)]
      simp (disch := omega) only [zb_in, true_and, nI_clamp, kq_f_at, forall_eq, nI_1]
      have e : z + -(f i * f (k - i)) = z - f i * f (k - i) := by grind
      exact K _ (by rw [e]; exact yl_le (yl_sub hx (yl_mm _ _) (by omega)) (by omega))
    · intro n' x b hx
      refine br_t (nI_le (Nat.le_refl k) (by omega)) ?_
      rw [yl_red hx, yl_red (yl_mul (yl_c _) yl_6145 (by decide))]
      simp (disch := omega) only [zb_in, true_and, nI_clamp, kq_f_u, forall_eq, nI_1]
      exact hW
  · intro k f f' h1 hf
    have e : qs_m (k - 1) (fun l => - (f (1 + l) * f (k - (1 + l)))) = qs_m (k - 1) (fun l => - (f' (1 + l) * f' (k - (1 + l)))) := qs_congr (fun l hl => by rw [hf (1 + l) (by omega), hf (k - (1 + l)) (by omega)])
    show (_ + qs_m (k - 1) (fun l => - (f (1 + l) * f (k - (1 + l))))) * 6145 = _
    rw [e]
  · intro n f hf hf0
    refine br_t (nI_le (a := 32) (Nat.le_refl 32) (by decide)) ?_
    have f0 : f 0 = 1 := by rw [hf0 0 (by decide), kq_u_s]
    refine yw_take _ hs (h f f0 (fun k hk => ?_))
    show qs_c f f k - A s k = 0
    by_cases z : k = 0
    · rw [z, qs_c_at0, f0, h0]; grind
    · have hk' := hf k (by omega) hk
      obtain ⟨j, rfl⟩ : ∃ j, k = j + 1 := ⟨k - 1, by omega⟩
      rw [Nat.add_sub_cancel] at hk'
      have e : qs_c f f (j + 1) = f 0 * f (j + 1) + qs_m j (fun l => f (1 + l) * f (j + 1 - (1 + l))) + f (j + 1) * f 0 := by
        show qs_m (j + 1 + 1) (fun i => f i * f (j + 1 - i)) = _
        rw [qs_m_s, qs_front, Nat.sub_self]
        have e2 : qs_m j (fun i => f (i + 1) * f (j + 1 - (i + 1))) = qs_m j (fun l => f (1 + l) * f (j + 1 - (1 + l))) := qs_congr (fun l _ => by rw [Nat.add_comm l 1])
        rw [e2]; rfl
      have e3 : qs_m j (fun l => - (f (1 + l) * f (j + 1 - (1 + l)))) = - qs_m j (fun l => f (1 + l) * f (j + 1 - (1 + l))) := by
        have e4 : - qs_m j (fun l => f (1 + l) * f (j + 1 - (1 + l))) = qs_m j (fun l => (-1) * (f (1 + l) * f (j + 1 - (1 + l)))) := by rw [qs_mulL]; grind
        rw [e4]
        exact qs_congr (fun l _ => by grind)
      rw [e3] at hk'
      rw [e, f0]
      generalize qs_m j (fun l => f (1 + l) * f (j + 1 - (1 + l))) = y at *
      grind
end
section
/-! Y: logarithm, exponential, value, shift, fill -/
theorem ym_log (post : Int32 → SY → Prop) {A : Nat → Nat → Kq} {M : Nat → Kq} {s : Nat} (hs : s < 5) (h0 : A s 0 = 1) (h : ∀ M, qn_L (A s) M → post 1 (kq_r (kq_s A s M), kq_f M)) : ∃ n, wY_log_29 post (nI s) n 0 (kq_r A) (kq_f (kq_u M 0 0)) := by
  refine ql_rec1 (fun n i f => wY_log_29 post (nI s) n (nI (i - 1)) (kq_r A) (kq_f f)) (fun i f => (kq_n i * A s i + qs_m (i - 1) (fun l => - (kq_n (l + 1) * f (l + 1) * A s (i - 1 - l)))) * qt_I i) 32 1 (kq_u M 0 0) ?_ ?_ ?_ (by decide)
  · intro n i f h1 hi hW
    obtain ⟨k, rfl⟩ : ∃ k, i = k + 1 := ⟨i - 1, by omega⟩
    rw [Nat.add_sub_cancel] at hW ⊢
    refine br_f (nI_ge (b := 31) (a := k) (by omega) (by decide)) ?_
    rw [nI_1, yw_at _ hs hi]
    refine nm_e ?_
    refine yl_loop (fun n' i x => wY_log_53 post (wY_log_29 post (nI s) n) (nI s) (nI k) (kq_r A) (kq_f f) n' x (nI i)) (fun i => - (kq_n (i + 1) * f (i + 1) * A s (k - i))) k 0 _ (kq_n (k + 1) * A s (k + 1)) ?_ (Nat.zero_le _) (by omega) ?_ ?_
    · have t := yl_mul (yl_add (yl_n (n := k) (by omega)) yl_1 (by omega)) (yl_c (A s (k + 1))) (by omega)
      rw [← kq_n_s] at t
      exact yl_le t (by omega)
    · intro n' i x z b _ hi hb hx K
      refine br_f (nI_ge hi (by omega)) ?_
      have t := yl_mul (yl_add (yl_n (n := i) (by omega)) yl_1 (by omega)) (yl_c (f (i + 1))) (by omega)
      rw [← kq_n_s] at t
      rw [pk_sub (show i ≤ k by omega), nI_1]
      simp (disch := omega) only [zb_in, true_and, nI_clamp, kq_f_at]
      rw [yl_red t, yw_at _ hs (by omega)]
      simp only [forall_eq]
      have e : z + -(kq_n (i + 1) * f (i + 1) * A s (k - i)) = z - kq_n (i + 1) * f (i + 1) * A s (k - i) := by grind
      exact K _ (by rw [e]; exact yl_le (yl_sub hx (yl_mm _ _) (by omega)) (by omega))
    · intro n' x b hx
      refine br_t (nI_le (Nat.le_refl k) (by omega)) ?_
      rw [yl_red hx, nI_1, ← kq_c_n (show k + 1 < 12289 by omega)]
      refine yw_inverse _ _ (kq_n (k + 1)) (kq_n_ne0 (by omega) (by omega)) ?_
      rw [← qt_I_at (show k + 1 ≠ 0 by omega) (by omega), kq_c_n (show k + 1 < 12289 by omega), yl_red (yl_mm _ _)]
      simp (disch := omega) only [zb_in, true_and, nI_clamp, kq_f_u, forall_eq]
      have e : qs_m (k - 0) (fun l => - (kq_n (0 + l + 1) * f (0 + l + 1) * A s (k - (0 + l)))) = qs_m k (fun l => - (kq_n (l + 1) * f (l + 1) * A s (k - l))) := qs_congr (fun l _ => by rw [Nat.zero_add])
      rw [e]
      exact hW
  · intro i f f' h1 hf
    have e : qs_m (i - 1) (fun l => - (kq_n (l + 1) * f (l + 1) * A s (i - 1 - l))) = qs_m (i - 1) (fun l => - (kq_n (l + 1) * f' (l + 1) * A s (i - 1 - l))) := qs_congr (fun l hl => by rw [hf (l + 1) (by omega)])
    show (_ + qs_m (i - 1) (fun l => - (kq_n (l + 1) * f (l + 1) * A s (i - 1 - l)))) * qt_I i = _
    rw [e]
  · intro n f hf hf0
    refine br_t (nI_le (a := 31) (Nat.le_refl 31) (by decide)) ?_
    have f0 : f 0 = 0 := by rw [hf0 0 (by decide), kq_u_s]
    refine yw_take _ hs (h f ⟨f0, fun k hk => ?_⟩)
    show qs_c (qs_d f) (A s) k - qs_d (A s) k = 0
    have hk' := hf (k + 1) (by omega) (by omega)
    have u := qt_I_1 (i := k + 1) (by omega) (by omega)
    rw [Nat.add_sub_cancel] at hk'
    have e : qs_c (qs_d f) (A s) k = qs_m k (fun l => kq_n (l + 1) * f (l + 1) * A s (k - l)) + kq_n (k + 1) * f (k + 1) * A s 0 := by
      show qs_m (k + 1) (fun i => kq_n (i + 1) * f (i + 1) * A s (k - i)) = _
      rw [qs_m_s, Nat.sub_self]
    have e3 : qs_m k (fun l => - (kq_n (l + 1) * f (l + 1) * A s (k - l))) = - qs_m k (fun l => kq_n (l + 1) * f (l + 1) * A s (k - l)) := by
      have e4 : - qs_m k (fun l => kq_n (l + 1) * f (l + 1) * A s (k - l)) = qs_m k (fun l => (-1) * (kq_n (l + 1) * f (l + 1) * A s (k - l))) := by rw [qs_mulL]; grind
      rw [e4]
      exact qs_congr (fun l _ => by grind)
    rw [e3] at hk'
    rw [e, h0]
    show _ - kq_n (k + 1) * A s (k + 1) = 0
    generalize qs_m k (fun l => kq_n (l + 1) * f (l + 1) * A s (k - l)) = y at *
    grind
theorem ym_exp (post : Int32 → SY → Prop) {A : Nat → Nat → Kq} {M : Nat → Kq} {s : Nat} (hs : s < 5) (h : ∀ M, M 0 = 1 → qs_o 31 (fun i => qs_c (qs_d (A s)) M i - qs_d M i) → post 1 (kq_r (kq_s A s M), kq_f M)) : ∃ n, wY_exp_28 post (nI s) n 0 (kq_r A) (kq_f (kq_u M 0 1)) := by
  refine ql_rec1 (fun n i f => wY_exp_28 post (nI s) n (nI (i - 1)) (kq_r A) (kq_f f)) (fun i f => qs_m i (fun l => f l * (kq_n (i - 1 - l + 1) * A s (i - 1 - l + 1))) * qt_I i) 32 1 (kq_u M 0 1) ?_ ?_ ?_ (by decide)
  · intro n i f h1 hi hW
    obtain ⟨k, rfl⟩ : ∃ k, i = k + 1 := ⟨i - 1, by omega⟩
    rw [Nat.add_sub_cancel] at hW ⊢
    refine br_f (nI_ge (b := 31) (a := k) (by omega) (by decide)) ?_
    refine yl_loop (fun n' i x => wY_exp_39 post (wY_exp_28 post (nI s) n) (nI s) (nI k) (kq_r A) (kq_f f) n' x (nI i)) (fun i => f i * (kq_n (k - i + 1) * A s (k - i + 1))) (k + 1) 0 0 0 (yl_0 _) (Nat.zero_le _) (by omega) ?_ ?_
    · intro n' i x z b _ hi hb hx K
      refine br_f (nI_nlt (by omega) (by omega)) ?_
      have t := yl_mul (yl_add (yl_n (n := k - i) (by omega)) yl_1 (by omega)) (yl_c (A s (k - i + 1))) (by omega)
      rw [← kq_n_s] at t
      rw [pk_sub (show i ≤ k by omega), nI_1 (k - i), yw_at _ hs (by omega), yl_red t]
      simp (disch := omega) only [zb_in, true_and, nI_clamp, kq_f_at, forall_eq, nI_1]
      exact K _ (yl_le (yl_add hx (yl_mm _ _) (by omega)) (by omega))
    · intro n' x b hx
      refine br_t (nI_lt (by omega) (by omega)) ?_
      rw [yl_red hx, nI_1, ← kq_c_n (show k + 1 < 12289 by omega)]
      refine yw_inverse _ _ (kq_n (k + 1)) (kq_n_ne0 (by omega) (by omega)) ?_
      rw [← qt_I_at (show k + 1 ≠ 0 by omega) (by omega), kq_c_n (show k + 1 < 12289 by omega), yl_red (yl_mm _ _)]
      simp (disch := omega) only [zb_in, true_and, nI_clamp, kq_f_u, forall_eq]
      have e : (0 : Kq) + qs_m (k + 1 - 0) (fun l => f (0 + l) * (kq_n (k - (0 + l) + 1) * A s (k - (0 + l) + 1))) = qs_m (k + 1) (fun l => f l * (kq_n (k - l + 1) * A s (k - l + 1))) := by
        have e2 : qs_m (k + 1 - 0) (fun l => f (0 + l) * (kq_n (k - (0 + l) + 1) * A s (k - (0 + l) + 1))) = qs_m (k + 1) (fun l => f l * (kq_n (k - l + 1) * A s (k - l + 1))) := qs_congr (fun l _ => by rw [Nat.zero_add])
        rw [e2]; grind
      rw [e]
      exact hW
  · intro i f f' h1 hf
    have e : qs_m i (fun l => f l * (kq_n (i - 1 - l + 1) * A s (i - 1 - l + 1))) = qs_m i (fun l => f' l * (kq_n (i - 1 - l + 1) * A s (i - 1 - l + 1))) := qs_congr (fun l hl => by rw [hf l hl])
    show qs_m i (fun l => f l * (kq_n (i - 1 - l + 1) * A s (i - 1 - l + 1))) * qt_I i = _
    rw [e]
  · intro n f hf hf0
    refine br_t (nI_le (a := 31) (Nat.le_refl 31) (by decide)) ?_
    have f0 : f 0 = 1 := by rw [hf0 0 (by decide), kq_u_s]
    refine yw_take _ hs (h f f0 (fun k hk => ?_))
    show qs_c (qs_d (A s)) f k - kq_n (k + 1) * f (k + 1) = 0
    have hk' := hf (k + 1) (by omega) (by omega)
    have u := qt_I_1 (i := k + 1) (by omega) (by omega)
    rw [Nat.add_sub_cancel] at hk'
    have e : qs_c (qs_d (A s)) f k = qs_m (k + 1) (fun l => f l * (kq_n (k - l + 1) * A s (k - l + 1))) := by rw [qs_c_comm]; rfl
    rw [e]
    generalize qs_m (k + 1) (fun l => f l * (kq_n (k - l + 1) * A s (k - l + 1))) = y at *
    grind
theorem ym_value (post : Int32 → Prop) {A : Nat → Nat → Kq} {m : Nat → Int32} {s : Nat} (hs : s < 5) (x : Int32) : ∀ (k : Nat) (v : Kq) (n : Nat), k ≤ 32 → k < n → post (kq_c (qh_v (A s) (kq_i x.toInt) k v)) → wY_value_17 post (nI s) x (kq_r A) m n (kq_c v) (nI k + (-1)) := by
  intro k
  induction k with
  | zero =>
    intro v n _ hn h
    obtain ⟨m, rfl⟩ : ∃ m, n = m + 1 := ⟨n - 1, by omega⟩
    exact br_t xi_m1 h
  | succ k ih =>
    intro v n hk hn h
    obtain ⟨m, rfl⟩ : ∃ m, n = m + 1 := ⟨n - 1, by omega⟩
    rw [pk_m1]
    refine br_f (nI_pos (by omega)) ?_
    rw [yw_reduced, Int32.toInt_toInt64, yw_at _ hs (by omega), yl_red (yl_add (yl_mm _ _) (yl_c _) (by decide))]
    simp only [forall_eq]
    exact ih _ _ (by omega) (by omega) h
/-- from the last coefficient on: times (y + x), and the next one added -/
def qu_N (f : Nat → Kq) (x : Kq) : Nat → Nat → Kq
  | 0 => fun _ => 0
  | m + 1 => fun j => (qs_h 1 (qu_N f x m) j + x * qu_N f x m j) + qs_k (f (31 - m)) j
theorem ym_shift65 (post : Int32 → SY → Prop) {J34 J42 : Int32 → (Nat → Int32) → (Nat → Int32) → Prop} {A : Nat → Int32} {f : Nat → Kq} {x1 x3 : Int32} {x : Int32} {i : Nat} (hi : i < 32) (z : Kq) (h : J42 (nI i + (-1)) A (kq_f (kq_u f i (f i * kq_i x.toInt + z)))) : wY_shift_65 post J34 J42 x1 x x3 (nI i) (kq_c z) A (kq_f f) := by
  unfold wY_shift_65
  simp (disch := omega) only [zb_in, true_and, nI_clamp, kq_f_at]
  rw [yw_reduced, Int32.toInt_toInt64, yl_red (yl_add (yl_mm _ _) (yl_c _) (by decide))]
  simp (disch := omega) only [kq_f_u, forall_eq]
  exact h
theorem ym_shift42 (post : Int32 → SY → Prop) {J : Int32 → (Nat → Int32) → (Nat → Int32) → Prop} {A : Nat → Nat → Kq} {s : Nat} (hs : s < 5) (x : Int32) {k : Nat} (hk : k < 32) (f0 : Nat → Kq)
    (hJ : ∀ f, (∀ j, j < 32 → f j = (qs_h 1 f0 j + kq_i x.toInt * f0 j) + qs_k (A s k) j) → J (nI k + (-1)) (kq_r A) (kq_f f)) : ∃ n, wY_shift_42 post J (nI s) x (nI k) n 31 (kq_r A) (kq_f f0) := by
  rw [xi_31]
  refine ql_dn (fun n i f => wY_shift_42 post J (nI s) x (nI k) n (nI i + (-1)) (kq_r A) (kq_f f)) (fun i f => kq_u f i (f i * kq_i x.toInt + qs_h 1 f i)) (fun i f => ∀ j, j < 32 → f j = if i ≤ j then qs_h 1 f0 j + kq_i x.toInt * f0 j else f0 j) 32 f0 ?_ ?_ ?_ ?_
  · intro n i f hi _ hW
    show wY_shift_42 post J (nI s) x (nI k) (n + 1) (nI (i + 1) + (-1)) (kq_r A) (kq_f f)
    rw [pk_m1]
    refine br_f (nI_pos (by omega)) ?_
    by_cases z : i = 0
    · subst z
      exact br_t (by decide) (ym_shift65 post (by decide) 0 hW)
    · refine br_f (nI_nle (by omega) (by omega)) ?_
      obtain ⟨l, rfl⟩ : ∃ l, i = l + 1 := ⟨i - 1, by omega⟩
      rw [nI_pred, zb_in (by omega) (by decide), true_and, nI_clamp (by omega), kq_f_at]
      refine ym_shift65 post hi (f l) ?_
      have e : qs_h 1 f (l + 1) = f l := by rw [qs_h_ge (by omega), Nat.add_sub_cancel]
      rw [e] at hW
      exact hW
  · intro i f hi hf j hj
    show (if j = i then f i * kq_i x.toInt + qs_h 1 f i else f j) = _
    by_cases c : j = i
    · subst c
      rw [if_pos rfl, if_pos (Nat.le_refl j), hf j hj, if_neg (by omega)]
      by_cases z : j = 0
      · subst z
        rw [qs_h_lt (by omega), qs_h_lt (by omega)]; grind
      · rw [qs_h_ge (by omega), qs_h_ge (by omega), hf (j - 1) (by omega), if_neg (by omega)]; grind
    · rw [if_neg c, hf j hj]
      by_cases c2 : i + 1 ≤ j
      · rw [if_pos c2, if_pos (by omega)]
      · rw [if_neg c2, if_neg (by omega)]
  · intro n f hf
    refine br_t xi_m1 ?_
    rw [yw_at _ hs hk, kq_f_at, yl_red (yl_add (yl_c _) (yl_c _) (by decide))]
    have e2 : ∀ y : Kq, upd (kq_f f) 0 (kq_c y) = kq_f (kq_u f 0 y) := fun y => kq_f_u f 0 y
    simp only [e2, forall_eq]
    refine hJ _ (fun j hj => ?_)
    by_cases z : j = 0
    · subst z
      rw [kq_u_s, hf 0 (by decide), if_pos (by decide), qs_k_0]
    · rw [kq_u_n z, hf j hj, if_pos (by omega), qs_k_s _ z]; grind
  · intro j hj
    rw [if_neg (by omega)]
theorem ym_shift (post : Int32 → SY → Prop) {A : Nat → Nat → Kq} {M : Nat → Kq} {s : Nat} (hs : s < 5) (x : Int32) (h : ∀ M, post 1 (kq_r (kq_s A s (qu_N (A s) (kq_i x.toInt) 32)), kq_f M)) : ∃ n, wY_shift_12 post (nI s) x n 0 (kq_r A) (kq_f M) := by
  refine ql_arr (fun n i f => wY_shift_12 post (nI s) x n (nI i) (kq_r A) (kq_f f)) (fun _ _ => 0) 32 0 M (fun _ => 0) ?_ (fun i f _ _ _ _ => rfl) ?_ (Nat.zero_le _)
  · intro n i f hi hW
    refine br_f (nI_ge (b := 32) hi (by decide)) ?_
    have e2 : upd (kq_f f) i 0 = kq_f (kq_u f i 0) := kq_f_u f i 0
    simp (disch := omega) only [zb_in, true_and, nI_clamp, e2, forall_eq, nI_1]
    exact hW
  intro n f0 hf0
  refine br_t (nI_le (a := 32) (Nat.le_refl 32) (by decide)) ?_
  show ∃ n, wY_shift_34 post (nI s) x n 31 (kq_r A) (kq_f f0)
  rw [xi_31]
  refine pk_loop (fun n m f => wY_shift_34 post (nI s) x n (nI (32 - m) + (-1)) (kq_r A) (kq_f f)) (fun m f => ∀ j, j < 32 → f j = qu_N (A s) (kq_i x.toInt) m j) 32 0 f0 (by decide) (fun j hj => by rw [hf0 j, if_pos (by omega)]; rfl) ?_ ?_
  · intro n f hf
    refine br_t xi_m1 ?_
    exact yw_takeG _ hs hf h
  · intro n m f hm hf K
    obtain ⟨k, hk⟩ : ∃ k, 31 - m = k := ⟨_, rfl⟩
    show wY_shift_34 post (nI s) x (n + 1) (nI (32 - m) + (-1)) (kq_r A) (kq_f f)
    rw [show 32 - m = k + 1 by omega, pk_m1]
    refine br_f (nI_pos (by omega)) ?_
    refine ym_shift42 post hs x (by omega) f (fun g hg => ?_)
    have K' := K g (fun j hj => by
      rw [hg j hj]
      show _ = (qs_h 1 (qu_N (A s) (kq_i x.toInt) m) j + kq_i x.toInt * qu_N (A s) (kq_i x.toInt) m j) + qs_k (A s (31 - m)) j
      rw [hk, hf j hj]
      by_cases z : j = 0
      · rw [z, qs_h_lt (by omega), qs_h_lt (by omega)]
      · rw [qs_h_ge (by omega), qs_h_ge (by omega), hf (j - 1) (by omega)])
    rw [show 32 - (m + 1) = k by omega] at K'
    exact K'
theorem ym_fill (post : Int32 → SY → Prop) {A : Nat → Nat → Kq} {m : Nat → Int32} {s i0 : Nat} (hs : s < 5) (hi0 : i0 < 32) (v : Kq) (w : Int32) (h : post 1 (kq_r (kq_s A s (fun k => if i0 ≤ k then v * qp (kq_i w.toInt) (k - i0) else A s k)), m)) : ∃ n, wY_fill_29 post (nI s) w n (kq_c v) (nI i0) (kq_r A) m := by
  refine ql_ex (fun n i (p : Kq × (Nat → Nat → Kq)) => wY_fill_29 post (nI s) w n (kq_c p.1) (nI i) (kq_r p.2) m) (fun i p => (p.1 * kq_i w.toInt, kq_w p.2 s i p.1)) (fun k p => i0 ≤ k ∧ p.1 = v * qp (kq_i w.toInt) (k - i0) ∧ ∀ a b, p.2 a b = if a = s ∧ i0 ≤ b ∧ b < k then v * qp (kq_i w.toInt) (b - i0) else A a b) 32 i0 (v, A) ?_ ?_ ?_ (by omega) ?_
  · intro n i p hi _ hW
    refine br_f (nI_ge (b := 32) hi (by decide)) ?_
    simp (disch := omega) only [yi_r32, zb_in, true_and, nI_clamp, kq_r_w', forall_eq, nI_1]
    rw [yw_reduced, Int32.toInt_toInt64, yl_red (yl_mm _ _)]
    exact hW
  · intro k p hk hp
    obtain ⟨h1, h2, h3⟩ := hp
    refine ⟨by omega, ?_, fun a b => ?_⟩
    · show p.1 * kq_i w.toInt = _
      rw [h2, show k + 1 - i0 = (k - i0) + 1 by omega, qp_s]; grind
    · show (if a = s ∧ b = k then p.1 else p.2 a b) = _
      rw [h2, h3 a b]
      by_cases c : a = s ∧ b = k
      · rw [if_pos c, if_pos (by omega), c.2]
      · rw [if_neg c]
        by_cases c2 : a = s ∧ i0 ≤ b ∧ b < k
        · rw [if_pos c2, if_pos (by omega)]
        · rw [if_neg c2, if_neg (by omega)]
  · intro n p hp
    refine br_t (nI_le (a := 32) (Nat.le_refl 32) (by decide)) ?_
    have e : kq_r p.2 = kq_r (kq_s A s (fun k => if i0 ≤ k then v * qp (kq_i w.toInt) (k - i0) else A s k)) := kq_r_ext (fun a b hb => by
      rw [hp.2.2 a b]
      show _ = if a = s then (if i0 ≤ b then _ else A s b) else A a b
      by_cases c : a = s
      · rw [if_pos c]
        by_cases c2 : i0 ≤ b
        · rw [if_pos c2, if_pos ⟨c, c2, hb⟩]
        · rw [if_neg c2, if_neg (by omega), c]
      · rw [if_neg c, if_neg (fun z => c z.1)])
    rw [e]; exact h
  · refine ⟨Nat.le_refl _, ?_, fun a b => ?_⟩
    · rw [Nat.sub_self, qp_0]; grind
    · rw [if_neg (by omega)]
end
section
section
variable {zR zI zF zG zsA zsB zsC zga zgi ztA ztB ztC zwA zwB zpw : Nat → Int32}
/-! X: exponential, root, shift, fill, add, behind their checks -/
theorem xw_exp89 (post : Int32 → SX → Prop) {J34 J48 : Int32 → (Nat → Int32) → (Nat → Int32) → (Nat → Int32) → (Nat → Int32) → (Nat → Int32) → (Nat → Int32) → (Nat → Int32) → (Nat → Int32) → (Nat → Int32) → (Nat → Int32) → (Nat → Int32) → (Nat → Int32) → (Nat → Int32) → (Nat → Int32) → (Nat → Int32) → Prop} {R : Nat → Nat → Kq} {sA sB sC ga gi tA tB tC wA wB pw : Nat → Kq} {x1 x2 : Int32} {i : Nat} (hi : i < 32) (y z : Kq) (h : J48 (nI (i + 1)) (kq_r (kq_w R 10 i (y + z))) (kq_f qt_I) (kq_f qt_F) (kq_f qt_G) (kq_f sA) (kq_f sB) (kq_f sC) (kq_f ga) (kq_f gi) (kq_f tA) (kq_f tB) (kq_f tC) (kq_f wA) (kq_f wB) (kq_f pw)) : wX_exp_89 post J34 J48 x1 x2 (nI i) (kq_c y) (kq_c z) (kq_r R) (kq_f qt_I) (kq_f qt_F) (kq_f qt_G) (kq_f sA) (kq_f sB) (kq_f sC) (kq_f ga) (kq_f gi) (kq_f tA) (kq_f tB) (kq_f tC) (kq_f wA) (kq_f wB) (kq_f pw) := by
  unfold wX_exp_89
  simp (disch := omega) only [xi_r32, zb_in, zb_ne, true_and, nI_clamp, kq_r_at, kq_r_w, kq_f_at, kq_f_u, forall_eq, nI_1, kq_mul, kq_mac, kq_mca, kq_add, xw_plus, xw_minus, xw_cell, xw_write, xw_cell5, xw_write5, xw_cell6, xw_write6, xw_cell7, xw_write7, xw_cell8, xw_write8, xw_cell9, xw_write9, xw_cell10, xw_write10, xw_cell11, xw_write11]
  exact h
theorem xm_exp34 (post : Int32 → SX → Prop) {R : Nat → Nat → Kq} {s : Nat} (hs : s < 5) (h0 : R s 0 = 0)
    (h : ∀ S : Nat → Nat → Kq, (∀ a, a < 5 → a ≠ s → S a = R a) → S s 0 = 1 → qs_o 31 (fun i => qs_c (qs_d (R s)) (S s) i - qs_d (S s) i) → qx_P (post 1) S) :
    ∀ m j, j + m = 5 → ∀ S : Nat → Nat → Kq, (∀ a, a < 5 → S a = R a) → S 11 0 = 1 → qs_o (2 ^ j - 1) (fun i => qs_c (qs_d (R s)) (S 11) i - qs_d (S 11) i) → ∀ sA sB sC ga gi tA tB tC wA wB pw : Nat → Kq, ∀ n, m < n → wX_exp_34 post (nI s) n (nI (2 ^ j)) (kq_r (S)) (kq_f qt_I) (kq_f qt_F) (kq_f qt_G) (kq_f sA) (kq_f sB) (kq_f sC) (kq_f ga) (kq_f gi) (kq_f tA) (kq_f tB) (kq_f tC) (kq_f wA) (kq_f wB) (kq_f pw) := by
  intro m
  induction m with
  | zero =>
    intro j hj S hS h1 hq sA sB sC ga gi tA tB tC wA wB pw n hn
    obtain ⟨n', rfl⟩ : ∃ k, n = k + 1 := ⟨n - 1, by omega⟩
    have hj5 : j = 5 := by omega
    subst hj5
    refine br_t (by decide) (xw_copyRow (f := 11) _ (by decide) (by omega) ?_)
    refine h _ (fun a ha has => ?_) ?_ ?_ _ _ _ _ _ _ _ _ _ _ _
    · rw [kq_s_n has, hS a ha]
    · rw [kq_s_s]; exact h1
    · rw [kq_s_s]; exact hq
  | succ m ih =>
    intro j hj S hS h1 hq sA sB sC ga gi tA tB tC wA wB pw n hn
    obtain ⟨n', rfl⟩ : ∃ k, n = k + 1 := ⟨n - 1, by omega⟩
    obtain ⟨k1, k2, k3, k4, k5⟩ := qx_tab j (by omega)
    refine br_f (nI_ge (b := 32) k1 (by decide)) ?_
    refine xw_logRow (r := 11) _ (by decide) (by decide) (by decide) (by decide) (by decide) (by rw [h1]; decide) (fun S' hS' hL => ?_)
    intro sA sB sC ga gi tA tB tC wA wB pw
    have hs' : S' s = R s := by rw [hS' s (by omega) (by omega) (by omega) (by omega), hS s hs]
    have h11 : S' 11 = S 11 := hS' 11 (by decide) (by decide) (by decide) (by decide)
    refine ql_row32 (fun n i Q => wX_exp_48 post (wX_exp_34 post (nI s) n') (nI s) (nI (2 ^ j)) n (nI i) (kq_r (Q)) (kq_f qt_I) (kq_f qt_F) (kq_f qt_G) (kq_f sA) (kq_f sB) (kq_f sC) (kq_f ga) (kq_f gi) (kq_f tA) (kq_f tB) (kq_f tC) (kq_f wA) (kq_f wB) (kq_f pw)) 10 (fun i Q => (Q s i - Q 9 i) + qs_k 1 i) S' (fun i => qs_k 1 i + (R s i - S' 9 i)) ?_ ?_ ?_
    · intro n i Q hi hW
      refine br_f (nI_ge (b := 32) hi (by decide)) ?_
      simp (disch := omega) only [xi_a288, kq_r_288, xi_r32, zb_in, zb_ne, true_and, nI_clamp, kq_r_at, kq_r_w, kq_f_at, kq_f_u, forall_eq, nI_1, kq_mul, kq_mac, kq_mca, kq_add, xw_plus, xw_minus, xw_cell, xw_write, xw_cell5, xw_write5, xw_cell6, xw_write6, xw_cell7, xw_write7, xw_cell8, xw_write8, xw_cell9, xw_write9, xw_cell10, xw_write10, xw_cell11, xw_write11]
      by_cases z : i = 0
      · subst z
        exact br_t rfl (xw_exp89 post (by decide) _ 1 hW)
      · have e : qs_k 1 i = 0 := qs_k_s 1 z
        rw [e] at hW
        exact br_f (nI_ne0 (by omega) (by omega)) (xw_exp89 post hi _ 0 hW)
    · intro i Q hi _ h2
      show (Q s i - Q 9 i) + qs_k 1 i = _
      rw [h2 s i (Or.inl (by omega)), h2 9 i (Or.inl (by decide)), hs']; grind
    · intro n Q hQ
      refine br_t (nI_le (a := 32) (Nat.le_refl 32) (by decide)) ?_
      rw [hQ]
      refine xw_rows (e := 3) (a := 11) (b := 10) _ (by decide) (by decide) (by decide) (by decide) (by decide) ?_
      intro sA sB sC ga gi tA tB tC wA wB pw
      refine xw_copyRow (f := 5) (t := 11) _ (by decide) (by decide) (nm_r (xi_t2 _) ?_)
      rw [← k2]
      have hx := qn_exp (k := 2 ^ j) k3 k4 h0 h1 hL hq qt_u
      have e11 : kq_s (kq_s (kq_s S' 10 (fun i => qs_k 1 i + (R s i - S' 9 i))) 5 (qs_c (kq_s S' 10 (fun i => qs_k 1 i + (R s i - S' 9 i)) 11) (kq_s S' 10 (fun i => qs_k 1 i + (R s i - S' 9 i)) 10))) 11 (kq_s (kq_s S' 10 (fun i => qs_k 1 i + (R s i - S' 9 i))) 5 (qs_c (kq_s S' 10 (fun i => qs_k 1 i + (R s i - S' 9 i)) 11) (kq_s S' 10 (fun i => qs_k 1 i + (R s i - S' 9 i)) 10)) 5) 11 = qs_c (S 11) (fun i => qs_k 1 i + (R s i - S' 9 i)) := by
        rw [kq_s_s, kq_s_s, kq_s_s, kq_s_n (show (11 : Nat) ≠ 10 by decide), h11]
      refine ih (j + 1) (by omega) _ (fun a ha => ?_) ?_ ?_ _ _ _ _ _ _ _ _ _ _ _ n' (by omega)
      · rw [kq_s_n (by omega), kq_s_n (by omega), kq_s_n (by omega), hS' a (by omega) (by omega) (by omega) (by omega), hS a ha]
      · rw [e11]; exact hx.1
      · rw [e11, k5]; exact hx.2
theorem xm_root35 (post : Int32 → SX → Prop) {R : Nat → Nat → Kq} {s : Nat} (hs : s < 5) (h0 : R s 0 = 1)
    (h : ∀ S : Nat → Nat → Kq, (∀ a, a < 5 → a ≠ s → S a = R a) → S s 0 = 1 → qs_o 32 (fun i => qs_c (S s) (S s) i - R s i) → qx_P (post 1) S) :
    ∀ m j, j + m = 5 → ∀ S : Nat → Nat → Kq, (∀ a, a < 5 → S a = R a) → S 11 0 = 1 → qs_o (2 ^ j) (fun i => qs_c (S 11) (S 11) i - R s i) → ∀ sA sB sC ga gi tA tB tC wA wB pw : Nat → Kq, ∀ n, m < n → wX_root_35 post (nI s) n (nI (2 ^ j)) (kq_r (S)) (kq_f qt_I) (kq_f qt_F) (kq_f qt_G) (kq_f sA) (kq_f sB) (kq_f sC) (kq_f ga) (kq_f gi) (kq_f tA) (kq_f tB) (kq_f tC) (kq_f wA) (kq_f wB) (kq_f pw) := by
  intro m
  induction m with
  | zero =>
    intro j hj S hS h1 hq sA sB sC ga gi tA tB tC wA wB pw n hn
    obtain ⟨n', rfl⟩ : ∃ k, n = k + 1 := ⟨n - 1, by omega⟩
    have hj5 : j = 5 := by omega
    subst hj5
    refine br_t (by decide) (xw_copyRow (f := 11) _ (by decide) (by omega) ?_)
    refine h _ (fun a ha has => ?_) ?_ ?_ _ _ _ _ _ _ _ _ _ _ _
    · rw [kq_s_n has, hS a ha]
    · rw [kq_s_s]; exact h1
    · rw [kq_s_s]; exact hq
  | succ m ih =>
    intro j hj S hS h1 hq sA sB sC ga gi tA tB tC wA wB pw n hn
    obtain ⟨n', rfl⟩ : ∃ k, n = k + 1 := ⟨n - 1, by omega⟩
    obtain ⟨k1, k2, k3, k4, k5⟩ := qx_tab j (by omega)
    refine br_f (nI_ge (b := 32) k1 (by decide)) ?_
    refine xw_invertRow (r := 11) _ (by decide) (by decide) (by decide) (by decide) (by rw [h1]; decide) (fun S' hS' hI => ?_)
    intro sA sB sC ga gi tA tB tC wA wB pw
    have hs' : S' s = R s := by rw [hS' s (by omega) (by omega) (by omega), hS s hs]
    have h11 : S' 11 = S 11 := hS' 11 (by decide) (by decide) (by decide)
    refine xw_rows (e := 3) (a := s) (b := 7) _ (by decide) (by omega) (by decide) (by omega) (by decide) ?_
    intro sA sB sC ga gi tA tB tC wA wB pw
    refine ql_row32 (fun n i Q => wX_root_57 post (wX_root_35 post (nI s) n') (nI s) (nI (2 ^ j)) n (nI i) (kq_r (Q)) (kq_f qt_I) (kq_f qt_F) (kq_f qt_G) (kq_f sA) (kq_f sB) (kq_f sC) (kq_f ga) (kq_f gi) (kq_f tA) (kq_f tB) (kq_f tC) (kq_f wA) (kq_f wB) (kq_f pw)) 11 (fun i Q => (Q 11 i + Q 5 i) * qt_I 2) (kq_s S' 5 (qs_c (S' s) (S' 7))) (fun i => 6145 * (S 11 i + qs_c (R s) (S' 7) i)) ?_ ?_ ?_
    · intro n i Q hi hW
      refine br_f (nI_ge (b := 32) hi (by decide)) ?_
      simp (disch := omega) only [xi_a352, kq_r_352, xi_a160, kq_r_160, xi_r32, zb_in, zb_ne, true_and, nI_clamp, kq_r_at, kq_r_w, kq_f_at, kq_f_u, forall_eq, nI_1, kq_mul, kq_mac, kq_mca, kq_add, xw_plus, xw_minus, xw_cell, xw_write, xw_cell5, xw_write5, xw_cell6, xw_write6, xw_cell7, xw_write7, xw_cell8, xw_write8, xw_cell9, xw_write9, xw_cell10, xw_write10, xw_cell11, xw_write11]
      exact hW
    · intro i Q hi _ h2
      show (Q 11 i + Q 5 i) * qt_I 2 = _
      rw [h2 11 i (Or.inr (Nat.le_refl i)), h2 5 i (Or.inl (by decide)), kq_s_s, kq_s_n (show (11 : Nat) ≠ 5 by decide), hs', h11, qt_I_2]; grind
    · intro n Q hQ
      refine br_t (nI_le (a := 32) (Nat.le_refl 32) (by decide)) (nm_r (xi_t2 _) ?_)
      rw [hQ, ← k2]
      have t0 : S' 7 0 = 1 := by
        have e := hI 0 (by decide)
        have e2 : qs_k 1 0 - qs_c (S 11) (S' 7) 0 = 0 := e
        rw [qs_c_at0, h1, qs_k_0] at e2
        grind
      refine ih (j + 1) (by omega) _ (fun a ha => ?_) ?_ ?_ _ _ _ _ _ _ _ _ _ _ _ n' (by omega)
      · rw [kq_s_n (by omega), kq_s_n (by omega), hS' a (by omega) (by omega) (by omega), hS a ha]
      · rw [kq_s_s]
        show 6145 * (S 11 0 + qs_c (R s) (S' 7) 0) = 1
        rw [qs_c_at0, h1, h0, t0]; decide
      · rw [kq_s_s, k5]
        exact qn_root (by decide) k4 hq hI
theorem xm_fill (post : Int32 → SX → Prop) {R : Nat → Nat → Kq} {s i0 : Nat} (hs : s < 12) (hi0 : i0 < 32) (v w : Kq) (h : post 1 (kq_r (kq_s R s (fun k => if i0 ≤ k then v * qp w (k - i0) else R s k)), zI, zF, zG, zsA, zsB, zsC, zga, zgi, ztA, ztB, ztC, zwA, zwB, zpw)) : ∃ n, wX_fill_32 post (nI s) (kq_c w) n (kq_c v) (nI i0) (kq_r R) (zI) (zF) (zG) (zsA) (zsB) (zsC) (zga) (zgi) (ztA) (ztB) (ztC) (zwA) (zwB) (zpw) := by
  refine ql_ex (fun n i (p : Kq × (Nat → Nat → Kq)) => wX_fill_32 post (nI s) (kq_c w) n (kq_c p.1) (nI i) (kq_r (p.2)) (zI) (zF) (zG) (zsA) (zsB) (zsC) (zga) (zgi) (ztA) (ztB) (ztC) (zwA) (zwB) (zpw)) (fun i p => (p.1 * w, kq_w p.2 s i p.1)) (fun k p => i0 ≤ k ∧ p.1 = v * qp w (k - i0) ∧ ∀ a b, p.2 a b = if a = s ∧ i0 ≤ b ∧ b < k then v * qp w (b - i0) else R a b) 32 i0 (v, R) ?_ ?_ ?_ (by omega) ?_
  · intro n i p hi _ hW
    refine br_f (nI_ge (b := 32) hi (by decide)) ?_
    simp (disch := omega) only [xi_r32, zb_in, zb_ne, true_and, nI_clamp, kq_r_at, kq_r_w, kq_f_at, kq_f_u, forall_eq, nI_1, kq_mul, kq_mac, kq_mca, kq_add, xw_plus, xw_minus, xw_cell, xw_write, xw_cell5, xw_write5, xw_cell6, xw_write6, xw_cell7, xw_write7, xw_cell8, xw_write8, xw_cell9, xw_write9, xw_cell10, xw_write10, xw_cell11, xw_write11]
    exact hW
  · intro k p hk hp
    obtain ⟨h1, h2, h3⟩ := hp
    refine ⟨by omega, ?_, fun a b => ?_⟩
    · show p.1 * w = _
      rw [h2, show k + 1 - i0 = (k - i0) + 1 by omega, qp_s]; grind
    · show (if a = s ∧ b = k then p.1 else p.2 a b) = _
      rw [h2, h3 a b]
      by_cases c : a = s ∧ b = k
      · rw [if_pos c, if_pos (by omega), c.2]
      · rw [if_neg c]
        by_cases c2 : a = s ∧ i0 ≤ b ∧ b < k
        · rw [if_pos c2, if_pos (by omega)]
        · rw [if_neg c2, if_neg (by omega)]
  · intro n p hp
    refine br_t (nI_le (a := 32) (Nat.le_refl 32) (by decide)) ?_
    have e : kq_r p.2 = kq_r (kq_s R s (fun k => if i0 ≤ k then v * qp w (k - i0) else R s k)) := kq_r_ext (fun a b hb => by
      rw [hp.2.2 a b]
      show _ = if a = s then (if i0 ≤ b then _ else R s b) else R a b
      by_cases c : a = s
      · rw [if_pos c]
        by_cases c2 : i0 ≤ b
        · rw [if_pos c2, if_pos ⟨c, c2, hb⟩]
        · rw [if_neg c2, if_neg (by omega), c]
      · rw [if_neg c, if_neg (fun z => c z.1)])
    show post 1 (kq_r (p.2), zI, zF, zG, zsA, zsB, zsC, zga, zgi, ztA, ztB, ztC, zwA, zwB, zpw)
    rw [e]; exact h
  · refine ⟨Nat.le_refl _, ?_, fun a b => ?_⟩
    · rw [Nat.sub_self, qp_0]; grind
    · rw [if_neg (by omega)]
theorem xm_add (post : Int32 → SX → Prop) {R : Nat → Nat → Kq} {s t : Nat} (hs : s < 12) (ht : t < 12) (v : Kq) (h : post 1 (kq_r (kq_s R s (fun i => R s i + v * R t i)), zI, zF, zG, zsA, zsB, zsC, zga, zgi, ztA, ztB, ztC, zwA, zwB, zpw)) : ∃ n, wX_add_25 post (nI s) (nI t) (kq_c v) n 0 (kq_r R) (zI) (zF) (zG) (zsA) (zsB) (zsC) (zga) (zgi) (ztA) (ztB) (ztC) (zwA) (zwB) (zpw) := by
  refine ql_row32 (fun n i Q => wX_add_25 post (nI s) (nI t) (kq_c v) n (nI i) (kq_r (Q)) (zI) (zF) (zG) (zsA) (zsB) (zsC) (zga) (zgi) (ztA) (ztB) (ztC) (zwA) (zwB) (zpw)) s (fun i Q => Q s i + v * Q t i) R (fun i => R s i + v * R t i) ?_ ?_ ?_
  · intro n i Q hi hW
    refine br_f (nI_ge (b := 32) hi (by decide)) ?_
    simp (disch := omega) only [xi_r32, zb_in, zb_ne, true_and, nI_clamp, kq_r_at, kq_r_w, kq_f_at, kq_f_u, forall_eq, nI_1, kq_mul, kq_mac, kq_mca, kq_add, xw_plus, xw_minus, xw_cell, xw_write, xw_cell5, xw_write5, xw_cell6, xw_write6, xw_cell7, xw_write7, xw_cell8, xw_write8, xw_cell9, xw_write9, xw_cell10, xw_write10, xw_cell11, xw_write11]
    exact hW
  · intro i Q hi _ h2
    show Q s i + v * Q t i = _
    rw [h2 s i (Or.inr (Nat.le_refl i)), h2 t i (Or.inr (Nat.le_refl i))]
  · intro n Q hQ
    refine br_t (nI_le (a := 32) (Nat.le_refl 32) (by decide)) ?_
    show post 1 (kq_r (Q), zI, zF, zG, zsA, zsB, zsC, zga, zgi, ztA, ztB, ztC, zwA, zwB, zpw)
    rw [hQ]; exact h
/-- the powers of y + x -/
def qu_P (x : Kq) : Nat → Nat → Kq
  | 0 => qs_k 1
  | n + 1 => fun i => qs_h 1 (qu_P x n) i + x * qu_P x n i
theorem qu_N_P (f : Nat → Kq) (x : Kq) : ∀ m, m ≤ 32 → ∀ i, qs_c (qu_P x (32 - m)) (qu_N f x m) i + qs_m (32 - m) (fun k => f k * qu_P x k i) = qs_m 32 (fun k => f k * qu_P x k i) := by
  intro m
  induction m with
  | zero =>
    intro _ i
    have z : qs_c (qu_P x (32 - 0)) (qu_N f x 0) i = 0 := qs_zero (fun j _ => by show _ * (0 : Kq) = 0; grind)
    rw [z]; show 0 + _ = _; grind
  | succ m ih =>
    intro hm i
    rw [← ih (by omega) i]
    obtain ⟨k, hk⟩ : ∃ k, k = 31 - m := ⟨_, rfl⟩
    rw [show 32 - (m + 1) = k by omega, show 32 - m = k + 1 by omega, qs_m_s]
    have e1 : qu_N f x (m + 1) = fun j => (qs_h 1 (qu_N f x m) j + x * qu_N f x m j) + qs_k (f k) j := by rw [hk]; rfl
    have e2 : qu_P x (k + 1) = fun i => qs_h 1 (qu_P x k) i + x * qu_P x k i := rfl
    rw [e1, e2, qs_c_add, qs_c_add, qs_c_sm', qs_h_c', qs_c_add', qs_c_sm, qs_h_c, qs_c_comm (qu_P x k) (qs_k (f k)), qs_c_k]; grind
theorem qu_N_end (f : Nat → Kq) (x : Kq) (i : Nat) : qu_N f x 32 i = qs_m 32 (fun k => f k * qu_P x k i) := by
  have h := qu_N_P f x 32 (Nat.le_refl 32) i
  rw [show 32 - 32 = 0 from rfl, qs_m_0, show qu_P x 0 = qs_k 1 from rfl, qs_c_k] at h
  rw [← h]; grind
theorem qu_g (n : Nat) (h : n + 1 < 64) : qt_g (n + 1) * kq_n (n + 1) = qt_g n := by
  have u := qt_I_1 (i := n + 1) (by omega) h
  show qt_g n * qt_I (n + 1) * kq_n (n + 1) = qt_g n
  grind
theorem qu_alg (k p x gd nd gj nj : Kq) : k * (p * x) * gd * (gj * nj) + x * (k * p * (gd * nd) * gj) = k * (nd + nj) * (p * x) * gd * gj := by grind
theorem qu_P_at (x : Kq) : ∀ n, n < 63 → (∀ i, i ≤ n → qu_P x n i = qt_k n * qp x (n - i) * qt_g (n - i) * qt_g i) ∧ (∀ i, n < i → qu_P x n i = 0) := by
  intro n
  induction n with
  | zero =>
    intro _
    refine ⟨fun i hi => ?_, fun i hi => qs_k_s 1 (by omega)⟩
    have : i = 0 := by omega
    subst this
    show (1 : Kq) = 1 * 1 * 1 * 1
    decide
  | succ n ih =>
    intro hn
    obtain ⟨a1, a2⟩ := ih (by omega)
    have kn := qt_kg n (by omega)
    have kn1 := qt_kg (n + 1) (by omega)
    have e1 : qt_k (n + 1) = qt_k n * kq_n (n + 1) := rfl
    refine ⟨fun i hi => ?_, fun i hi => ?_⟩
    · show qs_h 1 (qu_P x n) i + x * qu_P x n i = _
      by_cases z : i = 0
      · subst z
        have g0 : qt_g 0 = 1 := rfl
        rw [qs_h_lt (by omega), a1 0 (by omega), Nat.sub_zero, Nat.sub_zero, qp_s, g0]; grind
      · obtain ⟨j, rfl⟩ : ∃ j, i = j + 1 := ⟨i - 1, by omega⟩
        rw [qs_h_ge (by omega), Nat.add_sub_cancel, a1 j (by omega), show n + 1 - (j + 1) = n - j by omega]
        by_cases c : j = n
        · subst c
          have g0 : qt_g 0 = 1 := rfl
          rw [a2 (j + 1) (by omega), Nat.sub_self, qp_0, g0]; grind
        · obtain ⟨d, hd⟩ : ∃ d, n - j = d + 1 := ⟨n - j - 1, by omega⟩
          have gd := qu_g d (by omega)
          have gj := qu_g j (by omega)
          have nn : kq_n (n + 1) = kq_n (d + 1) + kq_n (j + 1) := by rw [← kq_n_add]; exact congrArg kq_n (by omega)
          rw [a1 (j + 1) (by omega), show n - (j + 1) = d by omega, hd, qp_s, e1, nn, ← gd, ← gj]
          exact qu_alg _ _ _ _ _ _ _
    · show qs_h 1 (qu_P x n) i + x * qu_P x n i = 0
      rw [qs_h_ge (by omega), a2 (i - 1) (by omega), a2 i (by omega)]; grind
theorem qu_main (f : Nat → Kq) (x : Kq) (i : Nat) (hi : i < 32) : qs_c (fun b => f (31 - b) * qt_k (31 - b)) (fun b => qp x b * qt_g b) (31 - i) * qt_g i = qu_N f x 32 i := by
  rw [qu_N_end, qs_rev, qs_ext (n := 31 - i + 1) (by omega) (fun l h1 h2 => by rw [(qu_P_at x (32 - 1 - l) (by omega)).2 i (by omega)]; grind)]
  show qs_m (31 - i + 1) (fun l => f (31 - l) * qt_k (31 - l) * (qp x (31 - i - l) * qt_g (31 - i - l))) * qt_g i = _
  rw [← qs_mulR]
  refine qs_congr (fun l hl => ?_)
  rw [(qu_P_at x (32 - 1 - l) (by omega)).1 i (by omega), show 32 - 1 - l = 31 - l by omega, show 31 - l - i = 31 - i - l by omega]; grind
theorem xm_shift (post : Int32 → SX → Prop) {R : Nat → Nat → Kq} {sA sB sC ga gi tA tB tC wA wB pw : Nat → Kq} {s : Nat} (hs : s < 5) (x : Kq)
    (h : ∀ S : Nat → Nat → Kq, (∀ a, a < 5 → a ≠ s → S a = R a) → S s = qu_N (R s) x 32 → qx_P (post 1) S) : ∃ n, wX_shift_20 post (nI s) (kq_c x) n 1 0 (kq_r R) (kq_f qt_I) (kq_f qt_F) (kq_f qt_G) (kq_f sA) (kq_f sB) (kq_f sC) (kq_f ga) (kq_f gi) (kq_f tA) (kq_f tB) (kq_f tC) (kq_f wA) (kq_f wB) (kq_f pw) := by
  refine ql_ex (fun n i (p : Kq × (Nat → Nat → Kq)) => wX_shift_20 post (nI s) (kq_c x) n (kq_c p.1) (nI i) (kq_r (p.2)) (kq_f qt_I) (kq_f qt_F) (kq_f qt_G) (kq_f sA) (kq_f sB) (kq_f sC) (kq_f ga) (kq_f gi) (kq_f tA) (kq_f tB) (kq_f tC) (kq_f wA) (kq_f wB) (kq_f pw)) (fun i p => (p.1 * x, kq_w (kq_w p.2 6 (31 - i) (p.2 s i * qt_F i)) 7 i (p.1 * qt_G i))) (fun k p => p.1 = qp x k ∧ ∀ a b, b < 32 → p.2 a b = if a = 6 ∧ 31 - b < k then R s (31 - b) * qt_F (31 - b) else if a = 7 ∧ b < k then qp x b * qt_G b else R a b) 32 0 (1, R) ?_ ?_ ?_ (by decide) ?_
  · intro n i p hi _ hW
    have e31 : (31 : Int32) - nI i = nI (31 - i) := pk_sub (a := 31) (by omega)
    refine br_f (nI_ge (b := 32) hi (by decide)) ?_
    simp (disch := omega) only [e31, xi_r32, zb_in, zb_ne, true_and, nI_clamp, kq_r_at, kq_r_w, kq_f_at, kq_f_u, forall_eq, nI_1, kq_mul, kq_mac, kq_mca, kq_add, xw_plus, xw_minus, xw_cell, xw_write, xw_cell5, xw_write5, xw_cell6, xw_write6, xw_cell7, xw_write7, xw_cell8, xw_write8, xw_cell9, xw_write9, xw_cell10, xw_write10, xw_cell11, xw_write11]
    exact hW
  · intro k p hk hp
    obtain ⟨h1, h2⟩ := hp
    refine ⟨?_, fun a b hb => ?_⟩
    · show p.1 * x = _
      rw [h1, qp_s]
    · show (if a = 7 ∧ b = k then p.1 * qt_G k else if a = 6 ∧ b = 31 - k then p.2 s k * qt_F k else p.2 a b) = _
      rw [h1, h2 s k (by omega), h2 a b hb, if_neg (show ¬ (s = 6 ∧ 31 - k < k) by omega), if_neg (show ¬ (s = 7 ∧ k < k) by omega)]
      by_cases c7 : a = 7
      · rw [if_neg (show ¬ (a = 6 ∧ b = 31 - k) by omega), if_neg (show ¬ (a = 6 ∧ 31 - b < k) by omega), if_neg (show ¬ (a = 6 ∧ 31 - b < k + 1) by omega)]
        by_cases cb : b = k
        · rw [if_pos ⟨c7, cb⟩, if_pos (by omega), cb]
        · rw [if_neg (fun z => cb z.2)]
          by_cases cl : b < k
          · rw [if_pos ⟨c7, cl⟩, if_pos (by omega)]
          · rw [if_neg (fun z => cl z.2), if_neg (by omega)]
      · rw [if_neg (show ¬ (a = 7 ∧ b = k) by omega), if_neg (show ¬ (a = 7 ∧ b < k) by omega), if_neg (show ¬ (a = 7 ∧ b < k + 1) by omega)]
        by_cases c6 : a = 6
        · by_cases cb : b = 31 - k
          · rw [if_pos ⟨c6, cb⟩, if_pos (by omega), show 31 - b = k by omega]
          · rw [if_neg (fun z => cb z.2)]
            by_cases cl : 31 - b < k
            · rw [if_pos ⟨c6, cl⟩, if_pos (by omega)]
            · rw [if_neg (fun z => cl z.2), if_neg (by omega)]
        · rw [if_neg (fun z => c6 z.1), if_neg (fun z => c6 z.1), if_neg (fun z => c6 z.1)]
  · intro n p hp
    refine br_t (nI_le (a := 32) (Nat.le_refl 32) (by decide)) ?_
    have e : kq_r p.2 = kq_r (kq_s (kq_s R 6 (fun b => R s (31 - b) * qt_k (31 - b))) 7 (fun b => qp x b * qt_g b)) := kq_r_ext (fun a b hb => by
      rw [hp.2 a b hb]
      show _ = if a = 7 then qp x b * qt_g b else if a = 6 then R s (31 - b) * qt_k (31 - b) else R a b
      have eF : qt_F (31 - b) = qt_k (31 - b) := if_pos (by omega)
      have eG : qt_G b = qt_g b := if_pos hb
      rw [eF, eG]
      by_cases c7 : a = 7
      · rw [if_neg (by omega), if_pos ⟨c7, hb⟩, if_pos c7]
      · by_cases c6 : a = 6
        · rw [if_pos ⟨c6, by omega⟩, if_neg c7, if_pos c6]
        · rw [if_neg (fun z => c6 z.1), if_neg (fun z => c7 z.1), if_neg c7, if_neg c6])
    rw [e]
    refine xw_rows (e := 2) (a := 6) (b := 7) _ (by decide) (by decide) (by decide) (by decide) (by decide) ?_
    intro sA sB sC ga gi tA tB tC wA wB pw
    rw [kq_s_s, kq_s_n (show (6 : Nat) ≠ 7 by decide), kq_s_s]
    generalize hS1 : kq_s (kq_s (kq_s R 6 (fun b => R s (31 - b) * qt_k (31 - b))) 7 (fun b => qp x b * qt_g b)) 5 (qs_c (fun b => R s (31 - b) * qt_k (31 - b)) (fun b => qp x b * qt_g b)) = S1
    have h5 : S1 5 = qs_c (fun b => R s (31 - b) * qt_k (31 - b)) (fun b => qp x b * qt_g b) := by rw [← hS1, kq_s_s]
    refine ql_row32 (fun n i Q => wX_shift_112 post (nI s) n (nI i) (kq_r (Q)) (kq_f qt_I) (kq_f qt_F) (kq_f qt_G) (kq_f sA) (kq_f sB) (kq_f sC) (kq_f ga) (kq_f gi) (kq_f tA) (kq_f tB) (kq_f tC) (kq_f wA) (kq_f wB) (kq_f pw)) s (fun i Q => Q 5 (31 - i) * qt_G i) S1 (qu_N (R s) x 32) ?_ ?_ ?_
    · intro n i Q hi hW
      have e191 : (191 : Int32) - nI i = nI (160 + (31 - i)) := by
        rw [show (191 : Int32) - nI i = nI (191 - i) from pk_sub (a := 191) (by omega)]
        exact congrArg nI (by omega)
      refine br_f (nI_ge (b := 32) hi (by decide)) ?_
      simp (disch := omega) only [e191, kq_r_160, xi_r32, zb_in, zb_ne, true_and, nI_clamp, kq_r_at, kq_r_w, kq_f_at, kq_f_u, forall_eq, nI_1, kq_mul, kq_mac, kq_mca, kq_add, xw_plus, xw_minus, xw_cell, xw_write, xw_cell5, xw_write5, xw_cell6, xw_write6, xw_cell7, xw_write7, xw_cell8, xw_write8, xw_cell9, xw_write9, xw_cell10, xw_write10, xw_cell11, xw_write11]
      exact hW
    · intro i Q hi _ h2
      show Q 5 (31 - i) * qt_G i = _
      have eG : qt_G i = qt_g i := if_pos hi
      rw [h2 5 (31 - i) (Or.inl (by omega)), h5, eG]
      exact qu_main (R s) x i hi
    · intro n Q hQ
      refine br_t (nI_le (a := 32) (Nat.le_refl 32) (by decide)) ?_
      show post 1 (kq_r (Q), kq_f qt_I, kq_f qt_F, kq_f qt_G, kq_f sA, kq_f sB, kq_f sC, kq_f ga, kq_f gi, kq_f tA, kq_f tB, kq_f tC, kq_f wA, kq_f wB, kq_f pw)
      rw [hQ]
      refine h _ (fun a ha has => ?_) (kq_s_s _ _ _) _ _ _ _ _ _ _ _ _ _ _
      rw [kq_s_n has, ← hS1, kq_s_n (by omega), kq_s_n (by omega), kq_s_n (by omega)]
  · refine ⟨rfl, fun a b hb => ?_⟩
    rw [if_neg (by omega), if_neg (by omega)]
end
end
section
section
variable {zR zI zF zG zsA zsB zsC zga zgi ztA ztB ztC zwA zwB zpw : Nat → Int32}
/-! division: the mathematics, X and Y -/
theorem qd_spec (f : Nat → Kq) : ∀ k, qd_g f k ≤ k ∧ (∀ i, qd_g f k ≤ i → i < k → f i = 0) ∧ (qd_g f k ≠ 0 → f (qd_g f k - 1) ≠ 0) := by
  intro k
  induction k with
  | zero => exact ⟨Nat.le_refl 0, fun i _ h => by omega, fun h => absurd rfl h⟩
  | succ k ih =>
    by_cases z : f k = 0
    · have e : qd_g f (k + 1) = qd_g f k := if_pos z
      rw [e]
      refine ⟨by omega, fun i h1 h2 => ?_, ih.2.2⟩
      by_cases c : i = k
      · rw [c, z]
      · exact ih.2.1 i h1 (by omega)
    · have e : qd_g f (k + 1) = k + 1 := if_neg z
      rw [e]
      exact ⟨Nat.le_refl _, fun i h1 h2 => by omega, fun _ => z⟩
theorem qd_congr {f g : Nat → Kq} : ∀ k, (∀ i, i < k → f i = g i) → qd_g f k = qd_g g k := by
  intro k
  induction k with
  | zero => intro _; rfl
  | succ k ih =>
    intro h
    show (if f k = 0 then qd_g f k else k + 1) = if g k = 0 then qd_g g k else k + 1
    rw [h k (by omega), ih (fun i hi => h i (by omega))]
theorem qr_uni {d : Nat} {t q1 q2 r1 r2 s : Nat → Kq} {c : Kq} (hd : d < 32) (hc : c * t d = 1) (ht : ∀ i, d < i → t i = 0) (h1 : ∀ i, i < 32 → r1 i = s i - qs_c q1 t i) (h2 : ∀ i, i < 32 → r2 i = s i - qs_c q2 t i) (z1 : ∀ i, 31 - d < i → q1 i = 0) (z2 : ∀ i, 31 - d < i → q2 i = 0) (v1 : ∀ n, d ≤ n → n < 32 → r1 n = 0) (v2 : ∀ n, d ≤ n → n < 32 → r2 n = 0) : ∀ i, i < 32 → r1 i = r2 i := by
  have e : ∀ i, qs_c (fun i => q1 i - q2 i) t i = qs_c q1 t i - qs_c q2 t i := fun i => by rw [qs_c_sub']
  have dz : ∀ k m, 31 - d < m + k → q1 m - q2 m = 0 := by
    intro k
    induction k with
    | zero => intro m hm; rw [z1 m (by omega), z2 m (by omega)]; grind
    | succ k ih =>
      intro m hm
      by_cases c1 : 31 - d < m + k
      · exact ih m c1
      · have hn : m + d < 32 := by omega
        have e1 : qs_c (fun i => q1 i - q2 i) t (m + d) = (q1 m - q2 m) * t d := by
          show qs_m (m + d + 1) (fun i => (q1 i - q2 i) * t (m + d - i)) = _
          rw [qs_one (k := m) (by omega) (fun i hi hne => ?_), show m + d - m = d by omega]
          by_cases c2 : i < m
          · rw [ht (m + d - i) (by omega)]; grind
          · rw [ih i (by omega)]; grind
        have e2 := v1 (m + d) (by omega) hn
        have e3 := v2 (m + d) (by omega) hn
        rw [h1 _ hn] at e2
        rw [h2 _ hn] at e3
        rw [e] at e1
        grind
  intro i hi
  have e1 : qs_c (fun i => q1 i - q2 i) t i = 0 := qs_zero (fun j hj => by show (q1 j - q2 j) * t (i - j) = 0; rw [dz 32 j (by omega)]; grind)
  rw [e] at e1
  rw [h1 i hi, h2 i hi]
  grind
theorem qr_rev {D L k : Nat} (hk : k ≤ D) (f g : Nat → Kq) (hf : ∀ i, D < i → f i = 0) (hg : ∀ i, L < i → g i = 0) : qs_c f g (D + L - k) = qs_c (fun a => if a ≤ D then f (D - a) else 0) (fun b => if b ≤ L then g (L - b) else 0) k := by
  obtain ⟨e, rfl⟩ : ∃ e, D = k + e := ⟨D - k, by omega⟩
  have a1 : qs_c f g (k + e + L - k) = qs_m (L + 1) (fun j => f (e + j) * g (L - j)) := by
    show qs_m (k + e + L - k + 1) (fun i => f i * g (k + e + L - k - i)) = _
    rw [show k + e + L - k + 1 = e + (L + 1) by omega, qs_app, qs_zero (n := e) (fun i hi => by rw [hg (k + e + L - k - i) (by omega)]; grind)]
    have a2 : qs_m (L + 1) (fun i => f (e + i) * g (k + e + L - k - (e + i))) = qs_m (L + 1) (fun j => f (e + j) * g (L - j)) := qs_congr (fun j hj => by rw [show k + e + L - k - (e + j) = L - j by omega])
    rw [a2]; grind
  have a3 : qs_c (fun a => if a ≤ k + e then f (k + e - a) else 0) (fun b => if b ≤ L then g (L - b) else 0) k = qs_m (k + 1) (fun j => f (e + j) * (if j ≤ L then g (L - j) else 0)) := by
    rw [qs_c_comm]
    show qs_m (k + 1) (fun i => (if i ≤ L then g (L - i) else 0) * (if k - i ≤ k + e then f (k + e - (k - i)) else 0)) = _
    refine qs_congr (fun j hj => ?_)
    rw [if_pos (show k - j ≤ k + e by omega), show k + e - (k - j) = e + j by omega]; grind
  rw [a1, a3]
  by_cases c : k ≤ L
  · rw [qs_ext (n := k + 1) (m := L + 1) (by omega) (fun i h1 h2 => by rw [hf (e + i) (by omega)]; grind)]
    exact qs_congr (fun j hj => by rw [if_pos (show j ≤ L by omega)])
  · rw [qs_ext (n := L + 1) (m := k + 1) (by omega) (fun i h1 h2 => by rw [if_neg (by omega)]; grind)]
    exact qs_congr (fun j hj => by rw [if_pos (show j ≤ L by omega)])
theorem ra_div {R : Type} [Lean.Grind.CommRing R] (s t g : R) : (s * g) * t = s - s * (1 - t * g) := by grind
theorem qr_X {hi lo : Nat} (h : lo ≤ hi) (h32 : hi < 32) (s t g : Nat → Kq) (hs : ∀ i, hi < i → i < 32 → s i = 0) (ht : ∀ i, lo < i → i < 32 → t i = 0)
    (hg : qs_o 32 (fun i => qs_k 1 i - qs_c (fun i => if i ≤ lo then t (lo - i) else 0) g i)) :
    ∀ n, lo ≤ n → n < 32 → s n - qs_c (fun i => if i ≤ hi - lo then qs_c (fun i => if i ≤ hi then s (hi - i) else 0) g (hi - lo - i) else 0) (fun i => if i ≤ lo then t i else 0) n = 0 := by
  intro n h1 h2
  by_cases c : hi < n
  · rw [hs n c h2, qs_c_end (a := hi - lo + 1) (b := lo + 1) (fun i hi' => if_neg (by omega)) (fun i hi' => if_neg (by omega)) n (by omega)]; grind
  · have e1 := qr_rev (D := hi - lo) (L := lo) (k := hi - n) (by omega) (fun i => if i ≤ hi - lo then qs_c (fun i => if i ≤ hi then s (hi - i) else 0) g (hi - lo - i) else 0) (fun i => if i ≤ lo then t i else 0) (fun i hi' => if_neg (by omega)) (fun i hi' => if_neg (by omega))
    rw [show hi - lo + lo - (hi - n) = n by omega] at e1
    have e2 : (fun i => qs_c (qs_c (fun i => if i ≤ hi then s (hi - i) else 0) g) (fun i => if i ≤ lo then t (lo - i) else 0) i) = fun i => (if i ≤ hi then s (hi - i) else 0) - qs_c (fun i => if i ≤ hi then s (hi - i) else 0) (fun i => qs_k 1 i - qs_c (fun i => if i ≤ lo then t (lo - i) else 0) g i) i := @ra_div qs_T qs_R (fun i => if i ≤ hi then s (hi - i) else 0) (fun i => if i ≤ lo then t (lo - i) else 0) g
    have e3 := congrFun e2 (hi - n)
    have e4 : qs_c (fun i => if i ≤ hi then s (hi - i) else 0) (fun i => qs_k 1 i - qs_c (fun i => if i ≤ lo then t (lo - i) else 0) g i) (hi - n) = 0 := qs_o_c' hg _ (hi - n) (by omega)
    have e5 : qs_c (qs_c (fun i => if i ≤ hi then s (hi - i) else 0) g) (fun i => if i ≤ lo then t (lo - i) else 0) (hi - n) = s n := by
      have e6 : qs_c (qs_c (fun i => if i ≤ hi then s (hi - i) else 0) g) (fun i => if i ≤ lo then t (lo - i) else 0) (hi - n) = (if hi - n ≤ hi then s (hi - (hi - n)) else 0) - qs_c (fun i => if i ≤ hi then s (hi - i) else 0) (fun i => qs_k 1 i - qs_c (fun i => if i ≤ lo then t (lo - i) else 0) g i) (hi - n) := e3
      rw [e6, e4, if_pos (by omega), show hi - (hi - n) = n by omega]; grind
    have e7 : qs_c (fun a => if a ≤ hi - lo then (if hi - lo - a ≤ hi - lo then qs_c (fun i => if i ≤ hi then s (hi - i) else 0) g (hi - lo - (hi - lo - a)) else 0) else 0) (fun b => if b ≤ lo then (if lo - b ≤ lo then t (lo - b) else 0) else 0) (hi - n) = s n := by
      rw [← e5]
      refine qs_c_em (k := hi - n + 1) (fun a ha => ?_) (fun b hb => ?_) (hi - n) (by omega)
      · rw [if_pos (show a ≤ hi - lo by omega), if_pos (by omega), show hi - lo - (hi - lo - a) = a by omega]
      · by_cases c2 : b ≤ lo
        · rw [if_pos c2, if_pos c2, if_pos (by omega)]
        · rw [if_neg c2, if_neg c2]
    rw [e1]
    show s n - qs_c (fun a => if a ≤ hi - lo then (if hi - lo - a ≤ hi - lo then qs_c (fun i => if i ≤ hi then s (hi - i) else 0) g (hi - lo - (hi - lo - a)) else 0) else 0) (fun b => if b ≤ lo then (if lo - b ≤ lo then t (lo - b) else 0) else 0) (hi - n) = 0
    rw [e7]; grind
theorem qr_u (q g : Nat → Kq) (k : Nat) (x : Kq) (hq : q k = 0) (j : Nat) : qs_c (kq_u q k x) g j = qs_c q g j + (if k ≤ j then x * g (j - k) else 0) := by
  have e : kq_u q k x = fun i => q i + (if i = k then x else 0) := by
    funext i
    by_cases c : i = k
    · rw [c, kq_u_s, if_pos rfl, hq]; grind
    · rw [kq_u_n c, if_neg c]; grind
  rw [e, qs_c_add']
  have e2 : qs_c (fun i => if i = k then x else 0) g j = if k ≤ j then x * g (j - k) else 0 := by
    show qs_m (j + 1) (fun i => (if i = k then x else 0) * g (j - i)) = _
    by_cases c : k ≤ j
    · rw [if_pos c, qs_one (k := k) (by omega) (fun i _ hne => by rw [if_neg hne]; grind), if_pos rfl]
    · rw [if_neg c]
      exact qs_zero (fun i hi => by rw [if_neg (by omega)]; grind)
  show qs_c q g j + qs_c (fun i => if i = k then x else 0) g j = _
  rw [e2]
theorem yi_m1 {d : Nat} (hd : d < 2 ^ 31) : nI d + (-1) < nI d := by
  by_cases z : d = 0
  · rw [z]; decide
  · obtain ⟨e, rfl⟩ : ∃ e, d = e + 1 := ⟨d - 1, by omega⟩
    rw [pk_m1]
    exact nI_lt (by omega) hd
theorem ym_rest105 (post : Int32 → SY → Prop) {J : Int32 → (Nat → Int32) → (Nat → Int32) → Prop} {A : Nat → Nat → Kq} {x1 x4 : Int32} {t d k : Nat} (ht : t < 5) (hk : d + k < 32) (x : Kq) (f0 : Nat → Kq)
    (hJ : ∀ f, (∀ j, f j = f0 j - (if k ≤ j ∧ j < k + (d + 1) then x * A t (j - k) else 0)) → J (nI (d + k) + (-1)) (kq_r A) (kq_f f)) : ∃ n, wY_rest_105 post J x1 (nI t) (nI d) x4 (nI (d + k)) (kq_c x) n 0 (kq_r A) (kq_f f0) := by
  refine ql_ex (fun n i f => wY_rest_105 post J x1 (nI t) (nI d) x4 (nI (d + k)) (kq_c x) n (nI i) (kq_r A) (kq_f f)) (fun i f => kq_u f (k + i) (f (k + i) - x * A t i)) (fun l f => ∀ j, f j = f0 j - (if k ≤ j ∧ j < k + l then x * A t (j - k) else 0)) (d + 1) 0 f0 ?_ ?_ ?_ (Nat.zero_le _) ?_
  · intro n i f hi _ hW
    refine br_f (nI_nlt (by omega) (by omega)) ?_
    have e : nI (d + k) - nI d + nI i = nI (k + i) := by
      rw [pk_sub (by omega), nI_add]
      exact congrArg nI (by omega)
    rw [e]
    simp (disch := omega) only [zb_in, true_and, nI_clamp, kq_f_at]
    rw [yw_at _ ht (by omega), yl_red (yl_sub (yl_c _) (yl_mm _ _) (by decide))]
    simp (disch := omega) only [kq_f_u, forall_eq, nI_1]
    exact hW
  · intro l f hl hf j
    show (if j = k + l then f (k + l) - x * A t l else f j) = _
    rw [hf (k + l), hf j, if_neg (show ¬ (k ≤ k + l ∧ k + l < k + l) by omega)]
    by_cases c : j = k + l
    · rw [if_pos c, if_pos (by omega), c, show k + l - k = l by omega]; grind
    · rw [if_neg c]
      by_cases c2 : k ≤ j ∧ j < k + l
      · rw [if_pos c2, if_pos (by omega)]
      · rw [if_neg c2, if_neg (by omega)]
  · intro n f hf
    exact br_t (nI_lt (by omega) (by omega)) (nm_e (hJ f hf))
  · intro j
    rw [if_neg (by omega)]; grind
theorem ym_rest (post : Int32 → SY → Prop) {A : Nat → Nat → Kq} {M : Nat → Kq} {s t d : Nat} (hs : s < 5) (ht : t < 5) (hd : d < 32) {c : Kq} (hc : c * A t d = 1)
    (h : ∀ M q : Nat → Kq, (∀ i, i < 32 → M i = A s i - qs_c q (fun i => if i ≤ d then A t i else 0) i) → (∀ i, 31 - d < i → q i = 0) → (∀ n, d ≤ n → n < 32 → M n = 0) → post 1 (kq_r (kq_s A s M), kq_f M)) : ∃ n, wY_rest_47 post (nI s) (nI t) (nI d) (kq_c c) n 0 (kq_r A) (kq_f M) := by
  refine ql_arr (fun n i f => wY_rest_47 post (nI s) (nI t) (nI d) (kq_c c) n (nI i) (kq_r A) (kq_f f)) (fun i _ => A s i) 32 0 M (A s) ?_ (fun i f _ _ _ _ => rfl) ?_ (Nat.zero_le _)
  · intro n i f hi hW
    refine br_f (nI_ge (b := 32) hi (by decide)) ?_
    rw [yw_at _ hs hi]
    simp (disch := omega) only [zb_in, true_and, nI_clamp, kq_f_u, forall_eq, nI_1]
    exact hW
  intro n f0 hf0
  refine br_t (nI_le (a := 32) (Nat.le_refl 32) (by decide)) ?_
  show ∃ n, wY_rest_78 post (nI s) (nI t) (nI d) (kq_c c) n 31 (kq_r A) (kq_f f0)
  have e31 : (31 : Int32) = nI (d + (32 - d)) + (-1) := by rw [show d + (32 - d) = 32 by omega]; decide
  rw [e31]
  refine ⟨_, pk_loopD (fun n k f => wY_rest_78 post (nI s) (nI t) (nI d) (kq_c c) n (nI (d + k) + (-1)) (kq_r A) (kq_f f)) (fun k f => d + k ≤ 32 ∧ ∃ q : Nat → Kq, (∀ j, j < 32 → f j = A s j - qs_c q (fun i => if i ≤ d then A t i else 0) j) ∧ (∀ i, i < k → q i = 0) ∧ (∀ i, 31 - d < i → q i = 0) ∧ (∀ n, d + k ≤ n → n < 32 → f n = 0)) ?_ ?_ (32 - d) f0 ?_⟩
  · intro n f hf
    obtain ⟨_, q, q1, q2, q3, q4⟩ := hf
    exact br_t (yi_m1 (by omega)) (yw_take _ hs (h f q q1 q3 q4))
  · intro n k f hf K
    obtain ⟨hk, q, q1, q2, q3, q4⟩ := hf
    show wY_rest_78 post (nI s) (nI t) (nI d) (kq_c c) (n + 1) (nI (d + k + 1) + (-1)) (kq_r A) (kq_f f)
    rw [pk_m1]
    refine br_f (nI_nlt (by omega) (by omega)) ?_
    simp (disch := omega) only [zb_in, true_and, nI_clamp, kq_f_at]
    rw [yl_red (yl_mm _ _)]
    refine ym_rest105 post ht (by omega) (f (d + k) * c) f (fun g hg => K g ⟨by omega, kq_u q k (f (d + k) * c), fun j hj => ?_, fun i hi => ?_, fun i hi => ?_, fun n h1 h2 => ?_⟩)
    · rw [qr_u q _ k _ (q2 k (by omega)), hg j, q1 j hj]
      by_cases c1 : k ≤ j
      · rw [if_pos c1]
        by_cases c2 : j < k + (d + 1)
        · rw [if_pos ⟨c1, c2⟩, if_pos (show j - k ≤ d by omega)]; grind
        · rw [if_neg (fun z => c2 z.2), if_neg (show ¬ j - k ≤ d by omega)]; grind
      · rw [if_neg c1, if_neg (fun z => c1 z.1)]; grind
    · rw [kq_u_n (by omega)]; exact q2 i (by omega)
    · rw [kq_u_n (by omega)]; exact q3 i hi
    · rw [hg n]
      by_cases e : n = d + k
      · rw [if_pos (by omega), e, show d + k - k = d by omega]; grind
      · rw [if_neg (by omega), q4 n (by omega) h2]; grind
  · refine ⟨by omega, fun _ => 0, fun j hj => ?_, fun i _ => rfl, fun i _ => rfl, fun n h1 h2 => by omega⟩
    rw [hf0 j, if_pos (by omega)]
    have z : qs_c (fun _ => 0) (fun i => if i ≤ d then A t i else 0) j = 0 := qs_zero (fun i _ => by grind)
    rw [z]; grind
/-- X, where the divisor isn't longer than what is divided -/
theorem xm_rest (post : Int32 → SX → Prop) {R : Nat → Nat → Kq} {sA sB sC ga gi tA tB tC wA wB pw : Nat → Kq} {s t hi lo : Nat} (hs : s < 5) (ht : t < 5) (hl : lo ≤ hi) (h32 : hi < 32) (h0 : R t lo ≠ 0)
    (h : ∀ (S : Nat → Nat → Kq) (g : Nat → Kq), (∀ a, a < 5 → a ≠ s → S a = R a) → qs_o 32 (fun i => qs_k 1 i - qs_c (fun i => if i ≤ lo then R t (lo - i) else 0) g i) → S s = (fun i => R s i - qs_c (fun i => if i ≤ hi - lo then qs_c (fun i => if i ≤ hi then R s (hi - i) else 0) g (hi - lo - i) else 0) (R t) i) → qx_P (post 1) S) :
    wpX_copyRow (fun u => match u with | (zR, zI, zF, zG, zsA, zsB, zsC, zga, zgi, ztA, ztB, ztC, zwA, zwB, zpw) => wpX_turnRow (fun u => match u with | (zR, zI, zF, zG, zsA, zsB, zsC, zga, zgi, ztA, ztB, ztC, zwA, zwB, zpw) => wpX_invertRow (fun u => match u with | (zR, zI, zF, zG, zsA, zsB, zsC, zga, zgi, ztA, ztB, ztC, zwA, zwB, zpw) => wpX_turnRow (fun u => match u with | (zR, zI, zF, zG, zsA, zsB, zsC, zga, zgi, ztA, ztB, ztC, zwA, zwB, zpw) => wpX_multiplyRows (fun u => match u with | (zR, zI, zF, zG, zsA, zsB, zsC, zga, zgi, ztA, ztB, ztC, zwA, zwB, zpw) => ∀ x5, x5 = (nI hi - nI lo) + 1 → ∃ n93, wX_rest_93 post (nI s) (nI hi) (nI lo) n93 x5 (zR) (zI) (zF) (zG) (zsA) (zsB) (zsC) (zga) (zgi) (ztA) (ztB) (ztC) (zwA) (zwB) (zpw)) (zR, zI, zF, zG, zsA, zsB, zsC, zga, zgi, ztA, ztB, ztC, zwA, zwB, zpw) 1 10 7) (zR, zI, zF, zG, zsA, zsB, zsC, zga, zgi, ztA, ztB, ztC, zwA, zwB, zpw) (nI s) 10 (nI hi)) (zR, zI, zF, zG, zsA, zsB, zsC, zga, zgi, ztA, ztB, ztC, zwA, zwB, zpw) 6) (zR, zI, zF, zG, zsA, zsB, zsC, zga, zgi, ztA, ztB, ztC, zwA, zwB, zpw) 9 6 (nI lo)) (kq_r R, kq_f qt_I, kq_f qt_F, kq_f qt_G, kq_f sA, kq_f sB, kq_f sC, kq_f ga, kq_f gi, kq_f tA, kq_f tB, kq_f tC, kq_f wA, kq_f wB, kq_f pw) (nI t) 9 := by
  refine xw_copyRow (t := 9) _ (by omega) (by decide) ?_
  refine xw_turnRow (f := 9) (t := 6) _ (by decide) (by decide) (by decide) (by omega) ?_
  rw [kq_s_s]
  generalize hS1 : kq_s (kq_s R 9 (R t)) 6 (fun i => if i ≤ lo then R t (lo - i) else 0) = S1
  have s16 : S1 6 = fun i => if i ≤ lo then R t (lo - i) else 0 := by rw [← hS1, kq_s_s]
  have s19 : S1 9 = R t := by rw [← hS1, kq_s_n (by decide), kq_s_s]
  have s1a : ∀ a, a < 5 → S1 a = R a := fun a ha => by rw [← hS1, kq_s_n (by omega), kq_s_n (by omega)]
  refine xw_invertRow (r := 6) _ (by decide) (by decide) (by decide) (by decide) ?_ (fun S2 hS2 hq => ?_)
  · rw [s16]
    show (if 0 ≤ lo then R t (lo - 0) else 0) ≠ 0
    rw [if_pos (by omega), Nat.sub_zero]; exact h0
  intro sA sB sC ga gi tA tB tC wA wB pw
  have s2s : S2 s = R s := by rw [hS2 s (by omega) (by omega) (by omega), s1a s hs]
  have s29 : S2 9 = R t := by rw [hS2 9 (by decide) (by decide) (by decide), s19]
  rw [s16] at hq
  refine xw_turnRow (f := s) (t := 10) _ (by omega) (by decide) (by omega) h32 ?_
  rw [s2s]
  refine xw_rows (e := 1) (a := 10) (b := 7) _ (by decide) (by decide) (by decide) (by decide) (by decide) ?_
  intro sA sB sC ga gi tA tB tC wA wB pw
  rw [kq_s_s, kq_s_n (show (7 : Nat) ≠ 10 by decide)]
  generalize hS3 : kq_s (kq_s S2 10 (fun i => if i ≤ hi then R s (hi - i) else 0)) 5 (qs_c (fun i => if i ≤ hi then R s (hi - i) else 0) (S2 7)) = S3
  have s35 : S3 5 = qs_c (fun i => if i ≤ hi then R s (hi - i) else 0) (S2 7) := by rw [← hS3, kq_s_s]
  have s39 : S3 9 = R t := by rw [← hS3, kq_s_n (by decide), kq_s_n (by decide), s29]
  have s3a : ∀ a, a < 5 → S3 a = R a := fun a ha => by rw [← hS3, kq_s_n (by omega), kq_s_n (by omega), hS2 a (by omega) (by omega) (by omega), s1a a ha]
  have ex : nI hi - nI lo + 1 = nI (hi - lo + 1) := by rw [pk_sub hl, nI_1]
  refine nm_r ex ?_
  refine ql_row (fun n i Q => wX_rest_93 post (nI s) (nI hi) (nI lo) n (nI i) (kq_r (Q)) (kq_f qt_I) (kq_f qt_F) (kq_f qt_G) (kq_f sA) (kq_f sB) (kq_f sC) (kq_f ga) (kq_f gi) (kq_f tA) (kq_f tB) (kq_f tC) (kq_f wA) (kq_f wB) (kq_f pw)) 5 (fun _ _ => 0) 32 (hi - lo + 1) S3 (fun _ => 0) ?_ (fun i Q _ _ _ _ => rfl) ?_ (by omega)
  · intro n i Q hi' hW
    refine br_f (nI_ge (b := 32) hi' (by decide)) ?_
    have ew := xw_write5 (fun u => match u with | (zR, zI, zF, zG, zsA, zsB, zsC, zga, zgi, ztA, ztB, ztC, zwA, zwB, zpw) => (∀ y, y = nI i + 1 → wX_rest_93 post (nI s) (nI hi) (nI lo) n y (zR) (zI) (zF) (zG) (zsA) (zsB) (zsC) (zga) (zgi) (ztA) (ztB) (ztC) (zwA) (zwB) (zpw))) (R := Q) (zI := kq_f qt_I) (zF := kq_f qt_F) (zG := kq_f qt_G) (zsA := kq_f sA) (zsB := kq_f sB) (zsC := kq_f sC) (zga := kq_f ga) (zgi := kq_f gi) (ztA := kq_f tA) (ztB := kq_f tB) (ztC := kq_f tC) (zwA := kq_f wA) (zwB := kq_f wB) (zpw := kq_f pw) hi' 0
    refine cast ew.symm ?_
    simp only [forall_eq, nI_1]
    exact hW
  intro n Q hQ
  have q5 : ∀ i, i ≤ hi - lo → Q 5 i = qs_c (fun i => if i ≤ hi then R s (hi - i) else 0) (S2 7) i := fun i hi' => by rw [hQ 5 i, if_neg (by omega), s35]
  have qa : ∀ a, a ≠ 5 → Q a = S3 a := fun a ha => funext fun b => by rw [hQ a b, if_neg (fun z => ha z.1)]
  refine br_t (nI_le (a := 32) (Nat.le_refl 32) (by decide)) ?_
  rw [pk_sub hl]
  refine xw_turnRow (f := 5) (t := 6) _ (by decide) (by decide) (by decide) (by omega) ?_
  have eq : (fun i => if i ≤ hi - lo then Q 5 (hi - lo - i) else 0) = fun i => if i ≤ hi - lo then qs_c (fun i => if i ≤ hi then R s (hi - i) else 0) (S2 7) (hi - lo - i) else 0 := by
    funext i
    by_cases c : i ≤ hi - lo
    · rw [if_pos c, if_pos c, q5 _ (by omega)]
    · rw [if_neg c, if_neg c]
  rw [eq]
  refine xw_rows (e := 2) (a := 6) (b := 9) _ (by decide) (by decide) (by decide) (by decide) (by decide) ?_
  intro sA sB sC ga gi tA tB tC wA wB pw
  rw [kq_s_s, kq_s_n (show (9 : Nat) ≠ 6 by decide), qa 9 (by decide), s39]
  generalize hS4 : kq_s (kq_s Q 6 (fun i => if i ≤ hi - lo then qs_c (fun i => if i ≤ hi then R s (hi - i) else 0) (S2 7) (hi - lo - i) else 0)) 5 (qs_c (fun i => if i ≤ hi - lo then qs_c (fun i => if i ≤ hi then R s (hi - i) else 0) (S2 7) (hi - lo - i) else 0) (R t)) = S4
  have s45 : S4 5 = qs_c (fun i => if i ≤ hi - lo then qs_c (fun i => if i ≤ hi then R s (hi - i) else 0) (S2 7) (hi - lo - i) else 0) (R t) := by rw [← hS4, kq_s_s]
  have s4a : ∀ a, a < 5 → S4 a = R a := fun a ha => by rw [← hS4, kq_s_n (by omega), kq_s_n (by omega), qa a (by omega), s3a a ha]
  refine ql_row32 (fun n i Q => wX_rest_137 post (nI s) n (nI i) (kq_r (Q)) (kq_f qt_I) (kq_f qt_F) (kq_f qt_G) (kq_f sA) (kq_f sB) (kq_f sC) (kq_f ga) (kq_f gi) (kq_f tA) (kq_f tB) (kq_f tC) (kq_f wA) (kq_f wB) (kq_f pw)) s (fun i Q => Q s i - Q 5 i) S4 (fun i => R s i - qs_c (fun i => if i ≤ hi - lo then qs_c (fun i => if i ≤ hi then R s (hi - i) else 0) (S2 7) (hi - lo - i) else 0) (R t) i) ?_ ?_ ?_
  · intro n i Q hi' hW
    refine br_f (nI_ge (b := 32) hi' (by decide)) ?_
    simp (disch := omega) only [xi_a160, kq_r_160, xi_r32, zb_in, zb_ne, true_and, nI_clamp, kq_r_at, kq_r_w, kq_f_at, kq_f_u, forall_eq, nI_1, kq_mul, kq_mac, kq_mca, kq_add, xw_plus, xw_minus, xw_cell, xw_write, xw_cell5, xw_write5, xw_cell6, xw_write6, xw_cell7, xw_write7, xw_cell8, xw_write8, xw_cell9, xw_write9, xw_cell10, xw_write10, xw_cell11, xw_write11]
    exact hW
  · intro i Q hi' _ h2
    show Q s i - Q 5 i = _
    rw [h2 s i (Or.inr (Nat.le_refl i)), h2 5 i (Or.inl (by omega)), s45, s4a s hs]
  · intro n Q' hQ'
    refine br_t (nI_le (a := 32) (Nat.le_refl 32) (by decide)) ?_
    show post 1 (kq_r (Q'), kq_f qt_I, kq_f qt_F, kq_f qt_G, kq_f sA, kq_f sB, kq_f sC, kq_f ga, kq_f gi, kq_f tA, kq_f tB, kq_f tC, kq_f wA, kq_f wB, kq_f pw)
    rw [hQ']
    refine h _ (S2 7) (fun a ha has => ?_) hq (kq_s_s _ _ _) _ _ _ _ _ _ _ _ _ _ _
    rw [kq_s_n has, s4a a ha]
end
end
section
section
variable {zR zI zF zG zsA zsB zsC zga zgi ztA ztB ztC zwA zwB zpw : Nat → Int32}
/-! the relation, the checks, the constructors -/
def i_Rel (k : Nat) (u : SX) (v : SY) : Prop := ∃ (R A : Nat → Nat → Kq) (M : Nat → Kq), (∃ sA sB sC ga gi tA tB tC wA wB pw : Nat → Kq, u = (kq_r R, kq_f qt_I, kq_f qt_F, kq_f qt_G, kq_f sA, kq_f sB, kq_f sC, kq_f ga, kq_f gi, kq_f tA, kq_f tB, kq_f tC, kq_f wA, kq_f wB, kq_f pw)) ∧ v = (kq_r A, kq_f M) ∧ ∀ s, s < 5 → A s = R s
theorem i_up {k : Nat} {u : SX} {v : SY} (h : i_Rel k u v) : i_Rel (k + 5) u v := h
theorem zz_el {P : SX → SY → Prop} {k : Nat} {u : SX} {v : SY} (h : ∀ (R A : Nat → Nat → Kq) (M sA sB sC ga gi tA tB tC wA wB pw : Nat → Kq), (∀ s, s < 5 → A s = R s) → P (kq_r R, kq_f qt_I, kq_f qt_F, kq_f qt_G, kq_f sA, kq_f sB, kq_f sC, kq_f ga, kq_f gi, kq_f tA, kq_f tB, kq_f tC, kq_f wA, kq_f wB, kq_f pw) (kq_r A, kq_f M)) (I : i_Rel k u v) : P u v := by
  obtain ⟨R, A, M, ⟨sA, sB, sC, ga, gi, tA, tB, tC, wA, wB, pw, hu⟩, hv, hA⟩ := I
  rw [hu, hv]
  exact h R A M sA sB sC ga gi tA tB tC wA wB pw hA
theorem zz_in (k : Nat) {R A : Nat → Nat → Kq} {M sA sB sC ga gi tA tB tC wA wB pw : Nat → Kq} (h : ∀ s i, s < 5 → i < 32 → A s i = R s i) : i_Rel k (kq_r R, kq_f qt_I, kq_f qt_F, kq_f qt_G, kq_f sA, kq_f sB, kq_f sC, kq_f ga, kq_f gi, kq_f tA, kq_f tB, kq_f tC, kq_f wA, kq_f wB, kq_f pw) (kq_r A, kq_f M) := by
  refine ⟨R, fun a b => if a < 5 then R a b else A a b, M, ⟨sA, sB, sC, ga, gi, tA, tB, tC, wA, wB, pw, rfl⟩, ?_, fun s hs => funext fun b => if_pos hs⟩
  have e : kq_r A = kq_r (fun a b => if a < 5 then R a b else A a b) := kq_r_ext (fun a b hb => by
    by_cases c : a < 5
    · show A a b = if a < 5 then R a b else A a b
      rw [if_pos c, h a b c hb]
    · show A a b = if a < 5 then R a b else A a b
      rw [if_neg c])
  rw [← e]
theorem zz_same (k : Nat) {R A : Nat → Nat → Kq} {M sA sB sC ga gi tA tB tC wA wB pw : Nat → Kq} (h : ∀ s, s < 5 → A s = R s) : i_Rel k (kq_r R, kq_f qt_I, kq_f qt_F, kq_f qt_G, kq_f sA, kq_f sB, kq_f sC, kq_f ga, kq_f gi, kq_f tA, kq_f tB, kq_f tC, kq_f wA, kq_f wB, kq_f pw) (kq_r A, kq_f M) := zz_in k (fun s i hs _ => by rw [h s hs])
theorem zz_set (k : Nat) {R S A : Nat → Nat → Kq} {M g sA sB sC ga gi tA tB tC wA wB pw : Nat → Kq} {s : Nat} (hA : ∀ s, s < 5 → A s = R s) (hS : ∀ a, a < 5 → a ≠ s → S a = R a) (hg : ∀ i, i < 32 → g i = S s i) : i_Rel k (kq_r (S), kq_f qt_I, kq_f qt_F, kq_f qt_G, kq_f sA, kq_f sB, kq_f sC, kq_f ga, kq_f gi, kq_f tA, kq_f tB, kq_f tC, kq_f wA, kq_f wB, kq_f pw) (kq_r (kq_s A s g), kq_f M) := zz_in k (fun a i ha hi => by
  by_cases c : a = s
  · rw [c, kq_s_s, hg i hi]
  · rw [kq_s_n c, hS a ha c, hA a ha])

theorem xy_lt {x : Int32} {n : Nat} (hn : n + 1 < 2 ^ 31) (h : nI (n + 1) ≤ x) : ¬ x < 0 ∧ nI n < x := by
  rw [Int32.le_iff_toInt_le, nI_toInt (by omega)] at h
  constructor
  · rw [Int32.lt_iff_toInt_lt]
    show ¬ x.toInt < 0
    omega
  · rw [Int32.lt_iff_toInt_lt, nI_toInt (by omega)]
    omega
theorem xy_ser (x : Int32) : (∃ s, s < 5 ∧ x = nI s ∧ (∀ p : Int32 → Prop, p 1 → wpX_isSeries p x) ∧ (∀ (p : Int32 → Prop) (u : SY), p 1 → wpY_series p u x)) ∨ ((∀ p : Int32 → Prop, p 0 → wpX_isSeries p x) ∧ (∀ (p : Int32 → Prop) (u : SY), p 0 → wpY_series p u x)) := by
  rcases pk_ix x (n := 5) (by decide) with h | h | ⟨j, hj, rfl⟩
  · exact Or.inr ⟨fun p hp => br_t h hp, fun p u hp => by obtain ⟨a, b⟩ := u; exact br_t h hp⟩
  · obtain ⟨h1, h2⟩ := xy_lt (n := 4) (by decide) h
    exact Or.inr ⟨fun p hp => br_f h1 (br_t h hp), fun p u hp => by obtain ⟨a, b⟩ := u; exact br_f h1 (br_t h2 hp)⟩
  · exact Or.inl ⟨j, hj, rfl, fun p hp => br_f (nI_pos (by omega)) (br_f (nI_ge (b := 5) hj (by decide)) hp), fun p u hp => by obtain ⟨a, b⟩ := u; exact br_f (nI_pos (by omega)) (br_f (nI_nlt (a := 4) (by omega) (by decide)) hp)⟩
theorem xy_pl (x : Int32) : (∃ i, i < 32 ∧ x = nI i ∧ (∀ p : Int32 → Prop, p 1 → wpX_isPlace p x) ∧ (∀ (p : Int32 → Prop) (u : SY), p 1 → wpY_index p u x)) ∨ ((∀ p : Int32 → Prop, p 0 → wpX_isPlace p x) ∧ (∀ (p : Int32 → Prop) (u : SY), p 0 → wpY_index p u x)) := by
  rcases pk_ix x (n := 32) (by decide) with h | h | ⟨j, hj, rfl⟩
  · exact Or.inr ⟨fun p hp => br_t h hp, fun p u hp => by obtain ⟨a, b⟩ := u; exact br_t h hp⟩
  · obtain ⟨h1, h2⟩ := xy_lt (n := 31) (by decide) h
    exact Or.inr ⟨fun p hp => br_f h1 (br_t h hp), fun p u hp => by obtain ⟨a, b⟩ := u; exact br_f h1 (br_t h2 hp)⟩
  · exact Or.inl ⟨j, hj, rfl, fun p hp => br_f (nI_pos (by omega)) (br_f (nI_ge (b := 32) hj (by decide)) hp), fun p u hp => by obtain ⟨a, b⟩ := u; exact br_f (nI_pos (by omega)) (br_f (nI_nlt (a := 31) (by omega) (by decide)) hp)⟩
theorem xy_en (x : Int32) : (∃ e, e < 5 ∧ x = nI e ∧ (∀ p : Int32 → Prop, p 1 → wpX_isEngine p x) ∧ ¬ x < 0 ∧ ¬ (4 : Int32) < x) ∨ ((∀ p : Int32 → Prop, p 0 → wpX_isEngine p x) ∧ (x < 0 ∨ (¬ x < 0 ∧ (4 : Int32) < x))) := by
  rcases pk_ix x (n := 5) (by decide) with h | h | ⟨j, hj, rfl⟩
  · exact Or.inr ⟨fun p hp => br_t h hp, Or.inl h⟩
  · obtain ⟨h1, h2⟩ := xy_lt (n := 4) (by decide) h
    exact Or.inr ⟨fun p hp => br_f h1 (br_t h hp), Or.inr ⟨h1, h2⟩⟩
  · exact Or.inl ⟨j, hj, rfl, fun p hp => br_f (nI_pos (by omega)) (br_f (nI_ge (b := 5) hj (by decide)) hp), nI_pos (by omega), nI_nlt (a := 4) (by omega) (by decide)⟩
theorem xy_1 : ¬ (1 : Int32) = 0 := by decide

theorem xm_init (post : SX → Prop) (h : post (kq_r (fun _ _ => 0), kq_f qt_I, kq_f qt_F, kq_f qt_G, kq_f (fun _ => 0), kq_f (fun _ => 0), kq_f (fun _ => 0), kq_f (fun _ => 0), kq_f (fun _ => 0), kq_f (fun _ => 0), kq_f (fun _ => 0), kq_f (fun _ => 0), kq_f (fun _ => 0), kq_f (fun _ => 0), kq_f (fun _ => 0))) : wpX_init post := by
  refine nm_r (show upd (fun _ => 0) 1 1 = kq_f (kq_u (fun _ => 0) 1 1) from kq_f_u (fun _ => 0) 1 1) ?_
  refine ql_arr1 (fun n i f => wX_init_139 post n (nI i) (kq_r (fun _ _ => 0)) (kq_f (f)) (kq_f (fun _ => 0)) (kq_f (fun _ => 0)) (kq_f (fun _ => 0)) (kq_f (fun _ => 0)) (kq_f (fun _ => 0)) (kq_f (fun _ => 0)) (kq_f (fun _ => 0)) (kq_f (fun _ => 0)) (kq_f (fun _ => 0)) (kq_f (fun _ => 0)) (kq_f (fun _ => 0)) (kq_f (fun _ => 0)) (kq_f (fun _ => 0))) (fun i _ => qp (kq_n i) 12287) 64 2 (kq_u (fun _ => 0) 1 1) (fun i => qp (kq_n i) 12287) ?_ (fun i f _ _ _ _ => rfl) ?_ (by decide)
  · intro n i f h2 hi hW
    refine br_f (nI_ge (b := 64) hi (by decide)) ?_
    have t := xw_power (fun r => vp_in (nI i) 64 ∧ ∀ a, a = upd (kq_f f) (nI i).toNatClampNeg r → ∀ y, y = nI i + 1 → wX_init_139 post n y (kq_r (fun _ _ => 0)) (a) (kq_f (fun _ => 0)) (kq_f (fun _ => 0)) (kq_f (fun _ => 0)) (kq_f (fun _ => 0)) (kq_f (fun _ => 0)) (kq_f (fun _ => 0)) (kq_f (fun _ => 0)) (kq_f (fun _ => 0)) (kq_f (fun _ => 0)) (kq_f (fun _ => 0)) (kq_f (fun _ => 0)) (kq_f (fun _ => 0)) (kq_f (fun _ => 0))) (kq_n i) 12287 (by decide) (by
      simp (disch := omega) only [zb_in, true_and, nI_clamp, kq_f_u, forall_eq, nI_1]
      exact hW)
    rw [kq_c_n (by omega)] at t
    exact t
  intro n f hf
  have ef : f = qt_I := by
    funext j
    rw [hf j]
    unfold qt_I
    by_cases c : 2 ≤ j ∧ j < 64
    · rw [if_pos c, if_pos (by omega)]
    · rw [if_neg c]
      by_cases c1 : j = 1
      · rw [c1, kq_u_s, if_pos (by decide), kq_n_1, qp_one]
      · rw [kq_u_n c1, if_neg (by omega)]
  subst ef
  refine br_t (nI_le (a := 64) (Nat.le_refl 64) (by decide)) ?_
  refine nm_r (show upd (kq_f (fun _ => 0)) 0 1 = kq_f (kq_u (fun _ => 0) 0 1) from kq_f_u (fun _ => 0) 0 1) (nm_r (show upd (kq_f (fun _ => 0)) 0 1 = kq_f (kq_u (fun _ => 0) 0 1) from kq_f_u (fun _ => 0) 0 1) ?_)
  refine ql_ex (fun n i (p : (Nat → Kq) × (Nat → Kq)) => wX_init_180 post n (nI i) (kq_r (fun _ _ => 0)) (kq_f qt_I) (kq_f (p.1)) (kq_f (p.2)) (kq_f (fun _ => 0)) (kq_f (fun _ => 0)) (kq_f (fun _ => 0)) (kq_f (fun _ => 0)) (kq_f (fun _ => 0)) (kq_f (fun _ => 0)) (kq_f (fun _ => 0)) (kq_f (fun _ => 0)) (kq_f (fun _ => 0)) (kq_f (fun _ => 0)) (kq_f (fun _ => 0))) (fun i p => (kq_u p.1 i (p.1 (i - 1) * kq_n i), kq_u p.2 i (p.2 (i - 1) * qt_I i))) (fun k p => 1 ≤ k ∧ (∀ j, p.1 j = if j < k then qt_k j else 0) ∧ (∀ j, p.2 j = if j < k then qt_g j else 0)) 32 1 (kq_u (fun _ => 0) 0 1, kq_u (fun _ => 0) 0 1) ?_ ?_ ?_ (by decide) ?_
  · intro n i p hi hI hW
    have e : nI i - 1 = nI (i - 1) := pk_sub (b := 1) hI.1
    refine br_f (nI_ge (b := 32) hi (by decide)) ?_
    rw [e]
    simp (disch := omega) only [kq_muln, xi_r32, zb_in, zb_ne, true_and, nI_clamp, kq_r_at, kq_r_w, kq_f_at, kq_f_u, forall_eq, nI_1, kq_mul, kq_mac, kq_mca, kq_add, xw_plus, xw_minus, xw_cell, xw_write, xw_cell5, xw_write5, xw_cell6, xw_write6, xw_cell7, xw_write7, xw_cell8, xw_write8, xw_cell9, xw_write9, xw_cell10, xw_write10, xw_cell11, xw_write11]
    exact hW
  · intro k p hk hp
    obtain ⟨h1, h2, h3⟩ := hp
    obtain ⟨l, rfl⟩ : ∃ l, k = l + 1 := ⟨k - 1, by omega⟩
    refine ⟨by omega, fun j => ?_, fun j => ?_⟩
    · show (if j = l + 1 then p.1 (l + 1 - 1) * kq_n (l + 1) else p.1 j) = _
      rw [Nat.add_sub_cancel, h2 l, h2 j, if_pos (show l < l + 1 by omega)]
      by_cases c : j = l + 1
      · rw [if_pos c, if_pos (by omega), c]; rfl
      · rw [if_neg c]
        by_cases c2 : j < l + 1
        · rw [if_pos c2, if_pos (by omega)]
        · rw [if_neg c2, if_neg (by omega)]
    · show (if j = l + 1 then p.2 (l + 1 - 1) * qt_I (l + 1) else p.2 j) = _
      rw [Nat.add_sub_cancel, h3 l, h3 j, if_pos (show l < l + 1 by omega)]
      by_cases c : j = l + 1
      · rw [if_pos c, if_pos (by omega), c]; rfl
      · rw [if_neg c]
        by_cases c2 : j < l + 1
        · rw [if_pos c2, if_pos (by omega)]
        · rw [if_neg c2, if_neg (by omega)]
  · intro n p hp
    have e1 : p.1 = qt_F := funext hp.2.1
    have e2 : p.2 = qt_G := funext hp.2.2
    refine br_t (nI_le (a := 32) (Nat.le_refl 32) (by decide)) ?_
    rw [e1, e2]
    exact h
  · refine ⟨Nat.le_refl 1, fun j => ?_, fun j => ?_⟩
    · by_cases c : j = 0
      · rw [c]; rfl
      · rw [if_neg (by omega)]; exact kq_u_n (f := fun _ => 0) c
    · by_cases c : j = 0
      · rw [c]; rfl
      · rw [if_neg (by omega)]; exact kq_u_n (f := fun _ => 0) c
theorem i_vc0 : wpX_init (fun u => wpY_init (fun v => i_Rel 0 u v)) := xm_init _ (zz_in 0 (R := fun _ _ => 0) (A := fun _ _ => 0) (M := fun _ => 0) (fun _ _ _ _ => rfl))
end
end
section
section
variable {zR zI zF zG zsA zsB zsC zga zgi ztA ztB ztC zwA zwB zpw : Nat → Int32}
/-! what is owed: the simple methods -/
theorem xw_cell_0 (post : Int32 → Prop) {R : Nat → Nat → Kq} {r : Nat} (hr : r < 12) (h : post (kq_c (R r 0))) : wpX_cell post (kq_r R, zI, zF, zG, zsA, zsB, zsC, zga, zgi, ztA, ztB, ztC, zwA, zwB, zpw) (nI r) 0 :=
  cast (xw_cell (r := r) (i := 0) post hr (by decide)).symm h
theorem yw_at_0 (post : Int32 → Prop) {A : Nat → Nat → Kq} {m : Nat → Int32} {s : Nat} (hs : s < 5) (h : post (kq_c (A s 0))) : wpY_at post (kq_r A, m) (nI s) 0 :=
  cast (yw_at (s := s) (i := 0) post hs (by decide)).symm h
theorem yw_at_i (post : Int32 → Prop) {A : Nat → Nat → Kq} {m : Nat → Int32} {s i : Nat} (hs : s < 5) (hi : i < 32) (h : post (kq_c (A s i))) : wpY_at post (kq_r A, m) (nI s) (nI i) :=
  cast (yw_at (s := s) (i := i) post hs hi).symm h
theorem xw_start (post : SX → Prop) {R : Nat → Nat → Kq} (h : post (kq_r (kq_s R 11 (qs_k 1)), zI, zF, zG, zsA, zsB, zsC, zga, zgi, ztA, ztB, ztC, zwA, zwB, zpw)) : wpX_write post (kq_r (kq_s R 11 (fun _ => 0)), zI, zF, zG, zsA, zsB, zsC, zga, zgi, ztA, ztB, ztC, zwA, zwB, zpw) 11 0 1 := by
  refine cast (xw_write (r := 11) (i := 0) post (by decide) (by decide) 1).symm ?_
  rw [kq_s_w]; exact h
theorem yw_degree (post : Int32 → Prop) {A : Nat → Nat → Kq} {m : Nat → Int32} {s : Nat} (hs : s < 5) (y : ∀ (p : Int32 → Prop) (u : SY), p 1 → wpY_series p u (nI s)) (h : post (nI (qd_g (A s) 32) + (-1))) : wpY_degree post (kq_r A, m) (nI s) := by
  unfold wpY_degree
  dsimp only
  refine y _ _ ?_
  refine br_f xy_1 ?_
  rw [xi_31]
  exact ⟨33, yw_degree14 post hs 32 33 (by decide) (by decide) h⟩
theorem i_vc_set {k : Nat} {u : SX} {v : SY} (I : i_Rel k u v) (hk : k + 5 ≤ 2560) (v1 : Int32) (v2 : Int32) (v3 : Int32) : wpX_set (fun r u' => wpY_set (fun r' v' => r' = r ∧ i_Rel (k + 5) u' v') v v1 v2 v3) u v1 v2 v3 := by
  refine zz_el (P := fun u v => wpX_set (fun r u' => wpY_set (fun r' v' => r' = r ∧ i_Rel (k + 5) u' v') v v1 v2 v3) u v1 v2 v3) ?_ I
  intro R A M sA sB sC ga gi tA tB tC wA wB pw hA
  unfold wpX_set wpY_set
  dsimp only
  rcases xy_ser v1 with ⟨s, hs, rfl, x1, y1⟩ | ⟨x1, y1⟩
  · rcases xy_pl v2 with ⟨i, hi, rfl, x2, y2⟩ | ⟨x2, y2⟩
    · refine x1 _ ?_
      refine br_f xy_1 ?_
      refine x2 _ ?_
      refine br_f xy_1 ?_
      rw [xw_normal]
      simp (disch := omega) only [xi_r32, zb_in, zb_ne, true_and, nI_clamp, kq_r_at, kq_r_w, kq_f_at, kq_f_u, forall_eq, nI_1, kq_mul, kq_mac, kq_mca, kq_add, xw_plus, xw_minus, xw_cell, xw_write, xw_cell5, xw_write5, xw_cell6, xw_write6, xw_cell7, xw_write7, xw_cell8, xw_write8, xw_cell9, xw_write9, xw_cell10, xw_write10, xw_cell11, xw_write11]
      refine y1 _ _ ?_
      refine br_f xy_1 ?_
      refine y2 _ _ ?_
      refine br_f xy_1 ?_
      rw [yw_reduced, Int32.toInt_toInt64]
      simp (disch := omega) only [yi_r32, zb_in, true_and, nI_clamp, kq_r_w', forall_eq]
      refine zz_in (k + 5) (fun a b ha hb => ?_)
      show (if a = s ∧ b = i then _ else A a b) = if a = s ∧ b = i then _ else R a b
      rw [hA a ha]
    · refine x1 _ ?_
      refine br_f xy_1 ?_
      refine x2 _ ?_
      refine br_t rfl ?_
      refine y1 _ _ ?_
      refine br_f xy_1 ?_
      refine y2 _ _ ?_
      exact br_t rfl ⟨rfl, zz_same (k + 5) hA⟩
  · refine x1 _ ?_
    refine br_t rfl ?_
    refine y1 _ _ ?_
    exact br_t rfl ⟨rfl, zz_same (k + 5) hA⟩
theorem i_vc_fill {k : Nat} {u : SX} {v : SY} (I : i_Rel k u v) (hk : k + 5 ≤ 2560) (v1 : Int32) (v2 : Int32) (v3 : Int32) (v4 : Int32) : wpX_fill (fun r u' => wpY_fill (fun r' v' => r' = r ∧ i_Rel (k + 5) u' v') v v1 v2 v3 v4) u v1 v2 v3 v4 := by
  refine zz_el (P := fun u v => wpX_fill (fun r u' => wpY_fill (fun r' v' => r' = r ∧ i_Rel (k + 5) u' v') v v1 v2 v3 v4) u v1 v2 v3 v4) ?_ I
  intro R A M sA sB sC ga gi tA tB tC wA wB pw hA
  unfold wpX_fill wpY_fill
  dsimp only
  rcases xy_ser v1 with ⟨s, hs, rfl, x1, y1⟩ | ⟨x1, y1⟩
  · rcases xy_pl v2 with ⟨i, hi, rfl, x2, y2⟩ | ⟨x2, y2⟩
    · refine x1 _ ?_
      refine br_f xy_1 ?_
      refine x2 _ ?_
      refine br_f xy_1 ?_
      rw [xw_normal, xw_normal]
      refine xm_fill _ (by omega) hi _ _ ?_
      refine y1 _ _ ?_
      refine br_f xy_1 ?_
      refine y2 _ _ ?_
      refine br_f xy_1 ?_
      rw [yw_reduced, Int32.toInt_toInt64]
      exact ym_fill _ hs hi _ v4 ⟨rfl, zz_set (k + 5) hA (fun a _ h => kq_s_n h) (fun j _ => by rw [kq_s_s, hA s hs])⟩
    · refine x1 _ ?_
      refine br_f xy_1 ?_
      refine x2 _ ?_
      refine br_t rfl ?_
      refine y1 _ _ ?_
      refine br_f xy_1 ?_
      refine y2 _ _ ?_
      exact br_t rfl ⟨rfl, zz_same (k + 5) hA⟩
  · refine x1 _ ?_
    refine br_t rfl ?_
    refine y1 _ _ ?_
    exact br_t rfl ⟨rfl, zz_same (k + 5) hA⟩
theorem i_vc_coefficient {k : Nat} {u : SX} {v : SY} (I : i_Rel k u v) (hk : k + 5 ≤ 2560) (v1 : Int32) (v2 : Int32) : wpX_coefficient (fun r => wpY_coefficient (fun r' => r' = r ∧ i_Rel (k + 5) u v) v v1 v2) u v1 v2 := by
  refine zz_el (P := fun u v => wpX_coefficient (fun r => wpY_coefficient (fun r' => r' = r ∧ i_Rel (k + 5) u v) v v1 v2) u v1 v2) ?_ I
  intro R A M sA sB sC ga gi tA tB tC wA wB pw hA
  unfold wpX_coefficient wpY_coefficient
  dsimp only
  rcases xy_ser v1 with ⟨s, hs, rfl, x1, y1⟩ | ⟨x1, y1⟩
  · rcases xy_pl v2 with ⟨i, hi, rfl, x2, y2⟩ | ⟨x2, y2⟩
    · refine x1 _ ?_
      refine br_f xy_1 ?_
      refine x2 _ ?_
      refine br_f xy_1 ?_
      rw [xw_cell _ (by omega) hi]
      refine y1 _ _ ?_
      refine br_f xy_1 ?_
      refine y2 _ _ ?_
      refine br_f xy_1 ?_
      rw [yw_at _ hs hi, hA s hs]
      exact ⟨rfl, zz_same (k + 5) hA⟩
    · refine x1 _ ?_
      refine br_f xy_1 ?_
      refine x2 _ ?_
      refine br_t rfl ?_
      refine y1 _ _ ?_
      refine br_f xy_1 ?_
      refine y2 _ _ ?_
      exact br_t rfl ⟨rfl, zz_same (k + 5) hA⟩
  · refine x1 _ ?_
    refine br_t rfl ?_
    refine y1 _ _ ?_
    exact br_t rfl ⟨rfl, zz_same (k + 5) hA⟩
theorem i_vc_degree {k : Nat} {u : SX} {v : SY} (I : i_Rel k u v) (hk : k + 5 ≤ 2560) (v1 : Int32) : wpX_degree (fun r => wpY_degree (fun r' => r' = r ∧ i_Rel (k + 5) u v) v v1) u v1 := by
  refine zz_el (P := fun u v => wpX_degree (fun r => wpY_degree (fun r' => r' = r ∧ i_Rel (k + 5) u v) v v1) u v1) ?_ I
  intro R A M sA sB sC ga gi tA tB tC wA wB pw hA
  unfold wpX_degree
  dsimp only
  rcases xy_ser v1 with ⟨s, hs, rfl, x1, y1⟩ | ⟨x1, y1⟩
  · refine x1 _ ?_
    refine br_f xy_1 ?_
    refine xw_degreeOf _ (by omega) ?_
    refine yw_degree _ hs y1 ?_
    rw [hA s hs]
    exact ⟨rfl, zz_same (k + 5) hA⟩
  · refine x1 _ ?_
    refine br_t rfl ?_
    unfold wpY_degree
    dsimp only
    refine y1 _ _ ?_
    exact br_t rfl ⟨rfl, zz_same (k + 5) hA⟩
theorem i_vc_copy {k : Nat} {u : SX} {v : SY} (I : i_Rel k u v) (hk : k + 5 ≤ 2560) (v1 : Int32) (v2 : Int32) : wpX_copy (fun r u' => wpY_copy (fun r' v' => r' = r ∧ i_Rel (k + 5) u' v') v v1 v2) u v1 v2 := by
  refine zz_el (P := fun u v => wpX_copy (fun r u' => wpY_copy (fun r' v' => r' = r ∧ i_Rel (k + 5) u' v') v v1 v2) u v1 v2) ?_ I
  intro R A M sA sB sC ga gi tA tB tC wA wB pw hA
  unfold wpX_copy wpY_copy
  dsimp only
  rcases xy_ser v1 with ⟨s, hs, rfl, x1, y1⟩ | ⟨x1, y1⟩
  · rcases xy_ser v2 with ⟨t, ht, rfl, x2, y2⟩ | ⟨x2, y2⟩
    · refine x1 _ ?_
      refine br_f xy_1 ?_
      refine x2 _ ?_
      refine br_f xy_1 ?_
      refine xw_copyRow _ (by omega) (by omega) ?_
      refine y1 _ _ ?_
      refine br_f xy_1 ?_
      refine y2 _ _ ?_
      refine br_f xy_1 ?_
      exact ym_copy _ hs ht ⟨rfl, zz_set (k + 5) hA (fun a _ h => kq_s_n h) (fun i _ => by rw [kq_s_s, hA t ht])⟩
    · refine x1 _ ?_
      refine br_f xy_1 ?_
      refine x2 _ ?_
      refine br_t rfl ?_
      refine y1 _ _ ?_
      refine br_f xy_1 ?_
      refine y2 _ _ ?_
      exact br_t rfl ⟨rfl, zz_same (k + 5) hA⟩
  · refine x1 _ ?_
    refine br_t rfl ?_
    refine y1 _ _ ?_
    exact br_t rfl ⟨rfl, zz_same (k + 5) hA⟩
theorem i_vc_add {k : Nat} {u : SX} {v : SY} (I : i_Rel k u v) (hk : k + 5 ≤ 2560) (v1 : Int32) (v2 : Int32) (v3 : Int32) : wpX_add (fun r u' => wpY_add (fun r' v' => r' = r ∧ i_Rel (k + 5) u' v') v v1 v2 v3) u v1 v2 v3 := by
  refine zz_el (P := fun u v => wpX_add (fun r u' => wpY_add (fun r' v' => r' = r ∧ i_Rel (k + 5) u' v') v v1 v2 v3) u v1 v2 v3) ?_ I
  intro R A M sA sB sC ga gi tA tB tC wA wB pw hA
  unfold wpX_add wpY_add
  dsimp only
  rcases xy_ser v1 with ⟨s, hs, rfl, x1, y1⟩ | ⟨x1, y1⟩
  · rcases xy_ser v2 with ⟨t, ht, rfl, x2, y2⟩ | ⟨x2, y2⟩
    · refine x1 _ ?_
      refine br_f xy_1 ?_
      refine x2 _ ?_
      refine br_f xy_1 ?_
      rw [xw_normal]
      refine xm_add _ (by omega) (by omega) _ ?_
      refine y1 _ _ ?_
      refine br_f xy_1 ?_
      refine y2 _ _ ?_
      refine br_f xy_1 ?_
      exact ym_add _ hs ht v3 (fun M' => ⟨rfl, zz_set (k + 5) hA (fun a _ h => kq_s_n h) (fun i _ => by rw [kq_s_s, hA t ht, hA s hs])⟩)
    · refine x1 _ ?_
      refine br_f xy_1 ?_
      refine x2 _ ?_
      refine br_t rfl ?_
      refine y1 _ _ ?_
      refine br_f xy_1 ?_
      refine y2 _ _ ?_
      exact br_t rfl ⟨rfl, zz_same (k + 5) hA⟩
  · refine x1 _ ?_
    refine br_t rfl ?_
    refine y1 _ _ ?_
    exact br_t rfl ⟨rfl, zz_same (k + 5) hA⟩
theorem i_vc_multiply {k : Nat} {u : SX} {v : SY} (I : i_Rel k u v) (hk : k + 5 ≤ 2560) (v1 : Int32) (v2 : Int32) (v3 : Int32) : wpX_multiply (fun r u' => wpY_multiply (fun r' v' => r' = r ∧ i_Rel (k + 5) u' v') v v1 v2 v3) u v1 v2 v3 := by
  refine zz_el (P := fun u v => wpX_multiply (fun r u' => wpY_multiply (fun r' v' => r' = r ∧ i_Rel (k + 5) u' v') v v1 v2 v3) u v1 v2 v3) ?_ I
  intro R A M sA sB sC ga gi tA tB tC wA wB pw hA
  unfold wpX_multiply wpY_multiply
  dsimp only
  rcases xy_en v1 with ⟨e, he, rfl, x0, n1, n2⟩ | ⟨x0, n1⟩
  · rcases xy_ser v2 with ⟨s, hs, rfl, x1, y1⟩ | ⟨x1, y1⟩
    · rcases xy_ser v3 with ⟨t, ht, rfl, x2, y2⟩ | ⟨x2, y2⟩
      · refine x0 _ ?_
        refine br_f xy_1 ?_
        refine x1 _ ?_
        refine br_f xy_1 ?_
        refine x2 _ ?_
        refine br_f xy_1 ?_
        refine xw_rows _ he (by omega) (by omega) (by omega) (by omega) ?_
        intro sA sB sC ga gi tA tB tC wA wB pw
        refine xw_copyRow (f := 5) _ (by decide) (by omega) ?_
        refine br_f n1 ?_
        refine br_f n2 ?_
        refine y1 _ _ ?_
        refine br_f xy_1 ?_
        refine y2 _ _ ?_
        refine br_f xy_1 ?_
        exact ym_mul _ hs ht (fun M' => ⟨rfl, zz_set (k + 5) hA (fun a ha h => by rw [kq_s_n h, kq_s_n (by omega)]) (fun i _ => by rw [kq_s_s, kq_s_s, hA t ht, hA s hs])⟩)
      · refine x0 _ ?_
        refine br_f xy_1 ?_
        refine x1 _ ?_
        refine br_f xy_1 ?_
        refine x2 _ ?_
        refine br_t rfl ?_
        refine br_f n1 ?_
        refine br_f n2 ?_
        refine y1 _ _ ?_
        refine br_f xy_1 ?_
        refine y2 _ _ ?_
        exact br_t rfl ⟨rfl, zz_same (k + 5) hA⟩
    · refine x0 _ ?_
      refine br_f xy_1 ?_
      refine x1 _ ?_
      refine br_t rfl ?_
      refine br_f n1 ?_
      refine br_f n2 ?_
      refine y1 _ _ ?_
      exact br_t rfl ⟨rfl, zz_same (k + 5) hA⟩
  · rcases n1 with n1 | ⟨n1, n2⟩
    · refine x0 _ ?_
      refine br_t rfl ?_
      exact br_t n1 ⟨rfl, zz_same (k + 5) hA⟩
    · refine x0 _ ?_
      refine br_t rfl ?_
      refine br_f n1 ?_
      exact br_t n2 ⟨rfl, zz_same (k + 5) hA⟩
theorem xm_agree (post : Int32 → SX → Prop) {R : Nat → Nat → Kq} {sA sB sC ga gi tA tB tC wA wB pw : Nat → Kq} (hR : R 5 = R 6) (h : post 1 (kq_r R, kq_f qt_I, kq_f qt_F, kq_f qt_G, kq_f sA, kq_f sB, kq_f sC, kq_f ga, kq_f gi, kq_f tA, kq_f tB, kq_f tC, kq_f wA, kq_f wB, kq_f pw)) : ∀ m i n, i + m = 32 → m < n → wX_agree_60 post (kq_r R) (kq_f qt_I) (kq_f qt_F) (kq_f qt_G) (kq_f sA) (kq_f sB) (kq_f sC) (kq_f ga) (kq_f gi) (kq_f tA) (kq_f tB) (kq_f tC) (kq_f wA) (kq_f wB) (kq_f pw) n 1 (nI i) := by
  intro m
  induction m with
  | zero =>
    intro i n hi hn
    obtain ⟨n', rfl⟩ : ∃ k, n = k + 1 := ⟨n - 1, by omega⟩
    have e : i = 32 := by omega
    subst e
    exact br_t (by decide) ⟨rfl, h⟩
  | succ m ih =>
    intro i n hi hn
    obtain ⟨n', rfl⟩ : ∃ k, n = k + 1 := ⟨n - 1, by omega⟩
    refine br_f (nI_ge (b := 32) (by omega) (by decide)) ?_
    refine br_f xy_1 ?_
    rw [xw_cell5 _ (by omega), xw_cell6 _ (by omega)]
    refine br_t (by rw [hR]) ?_
    refine nm_r (nI_1 i) ?_
    refine ih (i + 1) n' (by omega) (by omega)
theorem i_vc_agree {k : Nat} {u : SX} {v : SY} (I : i_Rel k u v) (hk : k + 5 ≤ 2560) (v1 : Int32) (v2 : Int32) (v3 : Int32) (v4 : Int32) : wpX_agree (fun r u' => wpY_agree (fun r' => r' = r ∧ i_Rel (k + 5) u' v) v v1 v2 v3 v4) u v1 v2 v3 v4 := by
  refine zz_el (P := fun u v => wpX_agree (fun r u' => wpY_agree (fun r' => r' = r ∧ i_Rel (k + 5) u' v) v v1 v2 v3 v4) u v1 v2 v3 v4) ?_ I
  intro R A M sA sB sC ga gi tA tB tC wA wB pw hA
  unfold wpX_agree wpY_agree
  dsimp only
  rcases xy_en v1 with ⟨e, he, rfl, x0, n1, n2⟩ | ⟨x0, n1⟩
  · rcases xy_en v2 with ⟨o, ho, rfl, x9, n3, n4⟩ | ⟨x9, n3⟩
    · rcases xy_ser v3 with ⟨s, hs, rfl, x1, y1⟩ | ⟨x1, y1⟩
      · rcases xy_ser v4 with ⟨t, ht, rfl, x2, y2⟩ | ⟨x2, y2⟩
        · refine x0 _ ?_
          refine br_f xy_1 ?_
          refine x9 _ ?_
          refine br_f xy_1 ?_
          refine x1 _ ?_
          refine br_f xy_1 ?_
          refine x2 _ ?_
          refine br_f xy_1 ?_
          refine xw_rows _ he (by omega) (by omega) (by omega) (by omega) ?_
          intro sA sB sC ga gi tA tB tC wA wB pw
          refine xw_copyRow (f := 5) (t := 6) _ (by decide) (by decide) ?_
          refine xw_rows _ ho (by omega) (by omega) (by omega) (by omega) ?_
          intro sA sB sC ga gi tA tB tC wA wB pw
          refine ⟨33, xm_agree _ ?_ ?_ 32 0 33 (by decide) (by decide)⟩
          · rw [kq_s_s, kq_s_n (show (6 : Nat) ≠ 5 by decide), kq_s_s, kq_s_s, kq_s_n (show s ≠ 6 by omega), kq_s_n (show s ≠ 5 by omega), kq_s_n (show t ≠ 6 by omega), kq_s_n (show t ≠ 5 by omega)]
          · refine br_f n1 ?_
            refine br_f n2 ?_
            refine br_f n3 ?_
            refine br_f n4 ?_
            refine y1 _ _ ?_
            refine br_f xy_1 ?_
            refine y2 _ _ ?_
            exact br_f xy_1 ⟨rfl, zz_in (k + 5) (fun a i ha _ => by rw [kq_s_n (show a ≠ 5 by omega), kq_s_n (show a ≠ 6 by omega), kq_s_n (show a ≠ 5 by omega), hA a ha])⟩
        · refine x0 _ ?_
          refine br_f xy_1 ?_
          refine x9 _ ?_
          refine br_f xy_1 ?_
          refine x1 _ ?_
          refine br_f xy_1 ?_
          refine x2 _ ?_
          refine br_t rfl ?_
          refine br_f n1 ?_
          refine br_f n2 ?_
          refine br_f n3 ?_
          refine br_f n4 ?_
          refine y1 _ _ ?_
          refine br_f xy_1 ?_
          refine y2 _ _ ?_
          exact br_t rfl ⟨rfl, zz_same (k + 5) hA⟩
      · refine x0 _ ?_
        refine br_f xy_1 ?_
        refine x9 _ ?_
        refine br_f xy_1 ?_
        refine x1 _ ?_
        refine br_t rfl ?_
        refine br_f n1 ?_
        refine br_f n2 ?_
        refine br_f n3 ?_
        refine br_f n4 ?_
        refine y1 _ _ ?_
        exact br_t rfl ⟨rfl, zz_same (k + 5) hA⟩
    · rcases n3 with n3 | ⟨n3, n4⟩
      · refine x0 _ ?_
        refine br_f xy_1 ?_
        refine x9 _ ?_
        refine br_t rfl ?_
        refine br_f n1 ?_
        refine br_f n2 ?_
        exact br_t n3 ⟨rfl, zz_same (k + 5) hA⟩
      · refine x0 _ ?_
        refine br_f xy_1 ?_
        refine x9 _ ?_
        refine br_t rfl ?_
        refine br_f n1 ?_
        refine br_f n2 ?_
        refine br_f n3 ?_
        exact br_t n4 ⟨rfl, zz_same (k + 5) hA⟩
  · rcases n1 with n1 | ⟨n1, n2⟩
    · refine x0 _ ?_
      refine br_t rfl ?_
      exact br_t n1 ⟨rfl, zz_same (k + 5) hA⟩
    · refine x0 _ ?_
      refine br_t rfl ?_
      refine br_f n1 ?_
      exact br_t n2 ⟨rfl, zz_same (k + 5) hA⟩
theorem i_vc_value {k : Nat} {u : SX} {v : SY} (I : i_Rel k u v) (hk : k + 5 ≤ 2560) (v1 : Int32) (v2 : Int32) : wpX_value (fun r => wpY_value (fun r' => r' = r ∧ i_Rel (k + 5) u v) v v1 v2) u v1 v2 := by
  refine zz_el (P := fun u v => wpX_value (fun r => wpY_value (fun r' => r' = r ∧ i_Rel (k + 5) u v) v v1 v2) u v1 v2) ?_ I
  intro R A M sA sB sC ga gi tA tB tC wA wB pw hA
  unfold wpX_value wpY_value
  dsimp only
  rcases xy_ser v1 with ⟨s, hs, rfl, x1, y1⟩ | ⟨x1, y1⟩
  · refine x1 _ ?_
    refine br_f xy_1 ?_
    rw [xw_normal]
    refine xw_valueAt _ (by omega) _ ?_
    refine y1 _ _ ?_
    refine br_f xy_1 ?_
    rw [xi_31]
    refine ⟨33, ym_value _ hs v2 32 0 33 (by decide) (by decide) ?_⟩
    rw [hA s hs]
    exact ⟨rfl, zz_same (k + 5) hA⟩
  · refine x1 _ ?_
    refine br_t rfl ?_
    refine y1 _ _ ?_
    exact br_t rfl ⟨rfl, zz_same (k + 5) hA⟩
end
end
section
section
variable {zR zI zF zG zsA zsB zsC zga zgi ztA ztB ztC zwA zwB zpw : Nat → Int32}
/-! what is owed: the other methods -/
theorem i_vc_cross {k : Nat} {u : SX} {v : SY} (I : i_Rel k u v) (hk : k + 5 ≤ 2560) (v1 : Int32) (v2 : Int32) : wpX_cross (fun r u' => wpY_cross (fun r' v' => r' = r ∧ i_Rel (k + 5) u' v') v v1 v2) u v1 v2 := by
  refine zz_el (P := fun u v => wpX_cross (fun r u' => wpY_cross (fun r' v' => r' = r ∧ i_Rel (k + 5) u' v') v v1 v2) u v1 v2) ?_ I
  intro R A M sA sB sC ga gi tA tB tC wA wB pw hA
  unfold wpX_cross wpY_cross
  dsimp only
  rcases xy_ser v1 with ⟨s, hs, rfl, x1, y1⟩ | ⟨x1, y1⟩
  · rcases xy_ser v2 with ⟨t, ht, rfl, x2, y2⟩ | ⟨x2, y2⟩
    · refine x1 _ ?_
      refine br_f xy_1 ?_
      refine x2 _ ?_
      refine br_f xy_1 ?_
      refine xw_cross _ hs ht (fun S hS hSs => ?_)
      refine y1 _ _ ?_
      refine br_f xy_1 ?_
      refine y2 _ _ ?_
      refine br_f xy_1 ?_
      exact ym_cross _ hs ht (fun M' => ⟨rfl, zz_set (k + 5) hA hS (fun i hi => by rw [hSs, hA t ht, hA s hs]; exact (qw_main (R s) (R t) i hi).symm)⟩)
    · refine x1 _ ?_
      refine br_f xy_1 ?_
      refine x2 _ ?_
      refine br_t rfl ?_
      refine y1 _ _ ?_
      refine br_f xy_1 ?_
      refine y2 _ _ ?_
      exact br_t rfl ⟨rfl, zz_same (k + 5) hA⟩
  · refine x1 _ ?_
    refine br_t rfl ?_
    refine y1 _ _ ?_
    exact br_t rfl ⟨rfl, zz_same (k + 5) hA⟩
theorem i_vc_invert {k : Nat} {u : SX} {v : SY} (I : i_Rel k u v) (hk : k + 5 ≤ 2560) (v1 : Int32) : wpX_invert (fun r u' => wpY_invert (fun r' v' => r' = r ∧ i_Rel (k + 5) u' v') v v1) u v1 := by
  refine zz_el (P := fun u v => wpX_invert (fun r u' => wpY_invert (fun r' v' => r' = r ∧ i_Rel (k + 5) u' v') v v1) u v1) ?_ I
  intro R A M sA sB sC ga gi tA tB tC wA wB pw hA
  unfold wpX_invert wpY_invert
  dsimp only
  rcases xy_ser v1 with ⟨s, hs, rfl, x1, y1⟩ | ⟨x1, y1⟩
  · by_cases z : R s 0 = 0
    · have zx : kq_c (R s 0) = 0 := by rw [z]; rfl
      have zy : kq_c (A s 0) = 0 := by rw [hA s hs]; exact zx
      refine x1 _ ?_
      refine br_f xy_1 ?_
      refine xw_cell_0 _ (by omega) ?_
      refine br_t zx ?_
      refine y1 _ _ ?_
      refine br_f xy_1 ?_
      refine yw_at_0 _ hs ?_
      exact br_t zy ⟨rfl, zz_same (k + 5) hA⟩
    · have zx : ¬ kq_c (R s 0) = 0 := by rw [kq_c_eq0]; exact z
      have zy : ¬ kq_c (A s 0) = 0 := by rw [hA s hs]; exact zx
      have z' : A s 0 ≠ 0 := by rw [hA s hs]; exact z
      refine x1 _ ?_
      refine br_f xy_1 ?_
      refine xw_cell_0 _ (by omega) ?_
      refine br_f zx ?_
      refine xw_invertRow _ (by omega) (by omega) (by omega) (by omega) z (fun S hS hq => ?_)
      intro sA sB sC ga gi tA tB tC wA wB pw
      refine xw_copyRow (f := 7) _ (by decide) (by omega) ?_
      refine y1 _ _ ?_
      refine br_f xy_1 ?_
      refine yw_at_0 _ hs ?_
      refine br_f zy ?_
      refine yw_at_0 _ hs ?_
      refine yw_inverse _ _ _ z' ?_
      refine ym_inv _ hs (qf_inv _ z') (fun M' hM' => ⟨rfl, zz_set (k + 5) hA (fun a ha h => ?_) ?_⟩)
      · rw [kq_s_n h, hS a (by omega) (by omega) (by omega)]
      · rw [kq_s_s]
        rw [hA s hs] at hM'
        exact qn_uni hM' hq
  · refine x1 _ ?_
    refine br_t rfl ?_
    refine y1 _ _ ?_
    exact br_t rfl ⟨rfl, zz_same (k + 5) hA⟩
theorem i_vc_log {k : Nat} {u : SX} {v : SY} (I : i_Rel k u v) (hk : k + 5 ≤ 2560) (v1 : Int32) : wpX_log (fun r u' => wpY_log (fun r' v' => r' = r ∧ i_Rel (k + 5) u' v') v v1) u v1 := by
  refine zz_el (P := fun u v => wpX_log (fun r u' => wpY_log (fun r' v' => r' = r ∧ i_Rel (k + 5) u' v') v v1) u v1) ?_ I
  intro R A M sA sB sC ga gi tA tB tC wA wB pw hA
  unfold wpX_log wpY_log
  dsimp only
  rcases xy_ser v1 with ⟨s, hs, rfl, x1, y1⟩ | ⟨x1, y1⟩
  · by_cases z : R s 0 = 1
    · have zx : kq_c (R s 0) = 1 := by rw [z]; rfl
      have zy : kq_c (A s 0) = 1 := by rw [hA s hs]; exact zx
      refine x1 _ ?_
      refine br_f xy_1 ?_
      refine xw_cell_0 _ (by omega) ?_
      refine br_t zx ?_
      refine xw_logRow _ (by omega) (by omega) (by omega) (by omega) (by omega) (by rw [z]; decide) (fun S hS hL => ?_)
      intro sA sB sC ga gi tA tB tC wA wB pw
      refine xw_copyRow (f := 9) _ (by decide) (by omega) ?_
      refine y1 _ _ ?_
      refine br_f xy_1 ?_
      refine yw_at_0 _ hs ?_
      refine br_t zy ?_
      refine nm_r (show upd (kq_f M) 0 0 = kq_f (kq_u M 0 0) from kq_f_u M 0 0) ?_
      refine ym_log _ hs (by rw [hA s hs]; exact z) (fun M' hM' => ⟨rfl, zz_set (k + 5) hA (fun a ha h => ?_) ?_⟩)
      · rw [kq_s_n h, hS a (by omega) (by omega) (by omega) (by omega)]
      · rw [kq_s_s]
        rw [hA s hs] at hM'
        exact qn_LU z hM' hL qt_u
    · have zx : ¬ kq_c (R s 0) = 1 := by rw [kq_c_eq1]; exact z
      have zy : ¬ kq_c (A s 0) = 1 := by rw [hA s hs]; exact zx
      refine x1 _ ?_
      refine br_f xy_1 ?_
      refine xw_cell_0 _ (by omega) ?_
      refine br_f zx ?_
      refine y1 _ _ ?_
      refine br_f xy_1 ?_
      refine yw_at_0 _ hs ?_
      exact br_f zy ⟨rfl, zz_same (k + 5) hA⟩
  · refine x1 _ ?_
    refine br_t rfl ?_
    refine y1 _ _ ?_
    exact br_t rfl ⟨rfl, zz_same (k + 5) hA⟩
theorem i_vc_exp {k : Nat} {u : SX} {v : SY} (I : i_Rel k u v) (hk : k + 5 ≤ 2560) (v1 : Int32) : wpX_exp (fun r u' => wpY_exp (fun r' v' => r' = r ∧ i_Rel (k + 5) u' v') v v1) u v1 := by
  refine zz_el (P := fun u v => wpX_exp (fun r u' => wpY_exp (fun r' v' => r' = r ∧ i_Rel (k + 5) u' v') v v1) u v1) ?_ I
  intro R A M sA sB sC ga gi tA tB tC wA wB pw hA
  unfold wpX_exp wpY_exp
  dsimp only
  rcases xy_ser v1 with ⟨s, hs, rfl, x1, y1⟩ | ⟨x1, y1⟩
  · by_cases z : R s 0 = 0
    · have zx : kq_c (R s 0) = 0 := by rw [z]; rfl
      have zy : kq_c (A s 0) = 0 := by rw [hA s hs]; exact zx
      refine x1 _ ?_
      refine br_f xy_1 ?_
      refine xw_cell_0 _ (by omega) ?_
      refine br_t zx ?_
      refine xw_clearRow (t := 11) _ (by decide) ?_
      refine xw_start _ ?_
      refine ⟨6, xm_exp34 _ hs z (fun S hS h1 hq => ?_) 5 0 rfl (kq_s R 11 (qs_k 1)) (fun a ha => kq_s_n (by omega)) (by rw [kq_s_s]; rfl) (qs_o_0 _) _ _ _ _ _ _ _ _ _ _ _ 6 (by decide)⟩
      intro sA sB sC ga gi tA tB tC wA wB pw
      refine y1 _ _ ?_
      refine br_f xy_1 ?_
      refine yw_at_0 _ hs ?_
      refine br_t zy ?_
      refine nm_r (show upd (kq_f M) 0 1 = kq_f (kq_u M 0 1) from kq_f_u M 0 1) ?_
      refine ym_exp _ hs (fun M' m0 hM' => ⟨rfl, zz_set (k + 5) hA hS ?_⟩)
      rw [hA s hs] at hM'
      exact qn_expU m0 h1 hM' hq qt_u
    · have zx : ¬ kq_c (R s 0) = 0 := by rw [kq_c_eq0]; exact z
      have zy : ¬ kq_c (A s 0) = 0 := by rw [hA s hs]; exact zx
      refine x1 _ ?_
      refine br_f xy_1 ?_
      refine xw_cell_0 _ (by omega) ?_
      refine br_f zx ?_
      refine y1 _ _ ?_
      refine br_f xy_1 ?_
      refine yw_at_0 _ hs ?_
      exact br_f zy ⟨rfl, zz_same (k + 5) hA⟩
  · refine x1 _ ?_
    refine br_t rfl ?_
    refine y1 _ _ ?_
    exact br_t rfl ⟨rfl, zz_same (k + 5) hA⟩
theorem i_vc_root {k : Nat} {u : SX} {v : SY} (I : i_Rel k u v) (hk : k + 5 ≤ 2560) (v1 : Int32) : wpX_root (fun r u' => wpY_root (fun r' v' => r' = r ∧ i_Rel (k + 5) u' v') v v1) u v1 := by
  refine zz_el (P := fun u v => wpX_root (fun r u' => wpY_root (fun r' v' => r' = r ∧ i_Rel (k + 5) u' v') v v1) u v1) ?_ I
  intro R A M sA sB sC ga gi tA tB tC wA wB pw hA
  unfold wpX_root wpY_root
  dsimp only
  rcases xy_ser v1 with ⟨s, hs, rfl, x1, y1⟩ | ⟨x1, y1⟩
  · by_cases z : R s 0 = 1
    · have zx : kq_c (R s 0) = 1 := by rw [z]; rfl
      have zy : kq_c (A s 0) = 1 := by rw [hA s hs]; exact zx
      refine x1 _ ?_
      refine br_f xy_1 ?_
      refine xw_cell_0 _ (by omega) ?_
      refine br_t zx ?_
      refine xw_clearRow (t := 11) _ (by decide) ?_
      refine xw_start _ ?_
      refine ⟨6, xm_root35 _ hs z (fun S hS h1 hq => ?_) 5 0 rfl (kq_s R 11 (qs_k 1)) (fun a ha => kq_s_n (by omega)) (by rw [kq_s_s]; rfl) (fun i hi => ?_) _ _ _ _ _ _ _ _ _ _ _ 6 (by decide)⟩
      · intro sA sB sC ga gi tA tB tC wA wB pw
        refine y1 _ _ ?_
        refine br_f xy_1 ?_
        refine yw_at_0 _ hs ?_
        refine br_t zy ?_
        refine nm_r (show upd (kq_f M) 0 1 = kq_f (kq_u M 0 1) from kq_f_u M 0 1) ?_
        refine ym_root _ hs (by rw [hA s hs]; exact z) (fun M' m0 hM' => ⟨rfl, zz_set (k + 5) hA hS ?_⟩)
        rw [hA s hs] at hM'
        exact qn_rootU m0 h1 hM' hq
      · have i0 : i = 0 := by have : (2 : Nat) ^ 0 = 1 := rfl; omega
        subst i0
        show qs_c (kq_s R 11 (qs_k 1) 11) (kq_s R 11 (qs_k 1) 11) 0 - R s 0 = 0
        rw [kq_s_s, qs_c_at0, z, qs_k_0]; decide
    · have zx : ¬ kq_c (R s 0) = 1 := by rw [kq_c_eq1]; exact z
      have zy : ¬ kq_c (A s 0) = 1 := by rw [hA s hs]; exact zx
      refine x1 _ ?_
      refine br_f xy_1 ?_
      refine xw_cell_0 _ (by omega) ?_
      refine br_f zx ?_
      refine y1 _ _ ?_
      refine br_f xy_1 ?_
      refine yw_at_0 _ hs ?_
      exact br_f zy ⟨rfl, zz_same (k + 5) hA⟩
  · refine x1 _ ?_
    refine br_t rfl ?_
    refine y1 _ _ ?_
    exact br_t rfl ⟨rfl, zz_same (k + 5) hA⟩
theorem i_vc_shift {k : Nat} {u : SX} {v : SY} (I : i_Rel k u v) (hk : k + 5 ≤ 2560) (v1 : Int32) (v2 : Int32) : wpX_shift (fun r u' => wpY_shift (fun r' v' => r' = r ∧ i_Rel (k + 5) u' v') v v1 v2) u v1 v2 := by
  refine zz_el (P := fun u v => wpX_shift (fun r u' => wpY_shift (fun r' v' => r' = r ∧ i_Rel (k + 5) u' v') v v1 v2) u v1 v2) ?_ I
  intro R A M sA sB sC ga gi tA tB tC wA wB pw hA
  unfold wpX_shift wpY_shift
  dsimp only
  rcases xy_ser v1 with ⟨s, hs, rfl, x1, y1⟩ | ⟨x1, y1⟩
  · refine x1 _ ?_
    refine br_f xy_1 ?_
    rw [xw_normal]
    refine xm_shift _ hs _ (fun S hS hSs => ?_)
    intro sA sB sC ga gi tA tB tC wA wB pw
    refine y1 _ _ ?_
    refine br_f xy_1 ?_
    exact ym_shift _ hs v2 (fun M' => ⟨rfl, zz_set (k + 5) hA hS (fun i hi => by rw [hSs, hA s hs])⟩)
  · refine x1 _ ?_
    refine br_t rfl ?_
    refine y1 _ _ ?_
    exact br_t rfl ⟨rfl, zz_same (k + 5) hA⟩
theorem xi_nle {l d : Nat} (h : d ≤ l) (hl : l < 2 ^ 31) : ¬ nI l ≤ nI d + (-1) := by
  by_cases z : d = 0
  · rw [z, Int32.le_iff_toInt_le, nI_toInt hl, show (nI 0 + (-1)).toInt = -1 by decide]
    omega
  · obtain ⟨e, rfl⟩ : ∃ e, d = e + 1 := ⟨d - 1, by omega⟩
    rw [pk_m1]
    exact nI_ge (by omega) (by omega)
theorem i_vc_rest {k : Nat} {u : SX} {v : SY} (I : i_Rel k u v) (hk : k + 5 ≤ 2560) (v1 : Int32) (v2 : Int32) : wpX_rest (fun r u' => wpY_rest (fun r' v' => r' = r ∧ i_Rel (k + 5) u' v') v v1 v2) u v1 v2 := by
  refine zz_el (P := fun u v => wpX_rest (fun r u' => wpY_rest (fun r' v' => r' = r ∧ i_Rel (k + 5) u' v') v v1 v2) u v1 v2) ?_ I
  intro R A M sA sB sC ga gi tA tB tC wA wB pw hA
  unfold wpX_rest
  dsimp only
  rcases xy_ser v1 with ⟨s, hs, rfl, x1, y1⟩ | ⟨x1, y1⟩
  · rcases xy_ser v2 with ⟨t, ht, rfl, x2, y2⟩ | ⟨x2, y2⟩
    · refine x1 _ ?_
      refine br_f xy_1 ?_
      refine x2 _ ?_
      refine br_f xy_1 ?_
      refine xw_degreeOf _ (by omega) ?_
      obtain ⟨t1, t2, t3⟩ := qd_spec (R t) 32
      obtain ⟨s1, s2, s3⟩ := qd_spec (R s) 32
      have eAt : qd_g (A t) 32 = qd_g (R t) 32 := by rw [hA t ht]
      by_cases z : qd_g (R t) 32 = 0
      · have nx : ¬ (0 : Int32) ≤ nI (qd_g (R t) 32) + (-1) := by rw [z]; decide
        refine br_f nx ?_
        unfold wpY_rest
        dsimp only
        refine y1 _ _ ?_
        refine br_f xy_1 ?_
        refine y2 _ _ ?_
        refine br_f xy_1 ?_
        refine yw_degree _ ht y2 ?_
        rw [eAt]
        exact br_f nx ⟨rfl, zz_same (k + 5) hA⟩
      · obtain ⟨lo, hlo⟩ : ∃ lo, qd_g (R t) 32 = lo + 1 := ⟨qd_g (R t) 32 - 1, by omega⟩
        have elo : nI (qd_g (R t) 32) + (-1) = nI lo := by rw [hlo, pk_m1]
        have lo32 : lo < 32 := by omega
        have htl : R t lo ≠ 0 := by have := t3 z; rw [hlo, Nat.add_sub_cancel] at this; exact this
        have htz : ∀ i, lo < i → i < 32 → R t i = 0 := fun i h1 h2 => t2 i (by omega) h2
        have hAl : A t lo ≠ 0 := by rw [hA t ht]; exact htl
        have hcl : qp (A t lo) 12287 * A t lo = 1 := qf_inv _ hAl
        have hcl' : qp (A t lo) 12287 * (fun i => if i ≤ lo then R t i else 0) lo = 1 := by
          show qp (A t lo) 12287 * (if lo ≤ lo then R t lo else 0) = 1
          rw [if_pos (Nat.le_refl lo), ← hA t ht]; exact hcl
        have tz : ∀ i, lo < i → (fun i => if i ≤ lo then R t i else 0) i = 0 := fun i hi => if_neg (by omega)
        rw [elo]
        refine br_t (nI_pos' (by omega)) ?_
        refine xw_degreeOf _ (by omega) ?_
        refine xw_degreeOf _ (by omega) ?_
        rw [elo]
        have Y : ∀ (S : Nat → Nat → Kq) (q2 : Nat → Kq) (sA sB sC ga gi tA tB tC wA wB pw : Nat → Kq), (∀ a, a < 5 → a ≠ s → S a = R a) → (∀ i, i < 32 → S s i = R s i - qs_c q2 (fun i => if i ≤ lo then R t i else 0) i) → (∀ i, 31 - lo < i → q2 i = 0) → (∀ n, lo ≤ n → n < 32 → S s n = 0) → wpY_rest (fun r' v' => r' = 1 ∧ i_Rel (k + 5) (kq_r (S), kq_f qt_I, kq_f qt_F, kq_f qt_G, kq_f sA, kq_f sB, kq_f sC, kq_f ga, kq_f gi, kq_f tA, kq_f tB, kq_f tC, kq_f wA, kq_f wB, kq_f pw) v') (kq_r A, kq_f M) (nI s) (nI t) := by
          intro S q2 sA sB sC ga gi tA tB tC wA wB pw hS h2 z2 v2
          unfold wpY_rest
          dsimp only
          refine y1 _ _ ?_
          refine br_f xy_1 ?_
          refine y2 _ _ ?_
          refine br_f xy_1 ?_
          refine yw_degree _ ht y2 ?_
          rw [eAt, elo]
          refine br_t (nI_pos' (by omega)) ?_
          refine yw_degree _ ht y2 ?_
          rw [eAt, elo]
          refine yw_at_i _ ht lo32 ?_
          refine yw_inverse _ _ _ hAl ?_
          refine ym_rest _ hs ht lo32 hcl (fun M' q m1 m2 m3 => ⟨rfl, zz_set (k + 5) hA hS ?_⟩)
          rw [hA t ht, hA s hs] at m1
          exact qr_uni lo32 hcl' tz m1 h2 m2 z2 m3 v2
        by_cases c : lo + 1 ≤ qd_g (R s) 32
        · obtain ⟨hi, hhi⟩ : ∃ hi, qd_g (R s) 32 = hi + 1 := ⟨qd_g (R s) 32 - 1, by omega⟩
          have ehi : nI (qd_g (R s) 32) + (-1) = nI hi := by rw [hhi, pk_m1]
          rw [ehi]
          have hsz : ∀ i, hi < i → i < 32 → R s i = 0 := fun i h1 h2 => s2 i (by omega) h2
          refine br_t (nI_le (by omega) (by omega)) ?_
          refine xm_rest _ hs ht (by omega) (by omega) htl (fun S g hS hq hSs => ?_)
          intro sA sB sC ga gi tA tB tC wA wB pw
          have eS : ∀ i, i < 32 → S s i = R s i - qs_c (fun i => if i ≤ hi - lo then qs_c (fun i => if i ≤ hi then R s (hi - i) else 0) g (hi - lo - i) else 0) (fun i => if i ≤ lo then R t i else 0) i := fun i hi' => by
            rw [hSs]
            show R s i - qs_c _ (R t) i = _
            rw [qs_c_em (k := 32) (fun j _ => rfl) (fun j hj => (show R t j = if j ≤ lo then R t j else 0 by
              by_cases c2 : j ≤ lo
              · rw [if_pos c2]
              · rw [if_neg c2, htz j (by omega) hj])) i hi']
          refine Y S _ _ _ _ _ _ _ _ _ _ _ _ hS eS (fun i hi' => if_neg (by omega)) (fun n h1 h2 => ?_)
          rw [eS n h2]
          exact qr_X (by omega) (by omega) (R s) (R t) g hsz htz hq n h1 h2
        · refine br_f (xi_nle (by omega) (by omega)) ?_
          refine Y R (fun _ => 0) _ _ _ _ _ _ _ _ _ _ _ (fun a _ _ => rfl) (fun i _ => ?_) (fun i _ => rfl) (fun n h1 h2 => s2 n (by omega) h2)
          have e0 : qs_c (fun _ => 0) (fun i => if i ≤ lo then R t i else 0) i = 0 := qs_zero (fun j _ => by grind)
          rw [e0]; grind
    · refine x1 _ ?_
      refine br_f xy_1 ?_
      refine x2 _ ?_
      refine br_t rfl ?_
      unfold wpY_rest
      dsimp only
      refine y1 _ _ ?_
      refine br_f xy_1 ?_
      refine y2 _ _ ?_
      exact br_t rfl ⟨rfl, zz_same (k + 5) hA⟩
  · refine x1 _ ?_
    refine br_t rfl ?_
    unfold wpY_rest
    dsimp only
    refine y1 _ _ ?_
    exact br_t rfl ⟨rfl, zz_same (k + 5) hA⟩
end
end
