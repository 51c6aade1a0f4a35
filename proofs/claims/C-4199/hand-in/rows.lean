section
/-! rows taken from the kit's rows to paste -/
theorem pk_us {f : Nat → Int32} {k : Nat} {x : Int32} : upd f k x k = x := if_pos rfl
theorem pk_un {f : Nat → Int32} {k j : Nat} {x : Int32} (h : j ≠ k) : upd f k x j = f j := if_neg h
theorem pk_uLs {f : Nat → Int64} {k : Nat} {x : Int64} : vp_updL f k x k = x := if_pos rfl
theorem pk_uLn {f : Nat → Int64} {k j : Nat} {x : Int64} (h : j ≠ k) : vp_updL f k x j = f j := if_neg h
theorem pk_sub {a b : Nat} (h : b ≤ a) : nI a - nI b = nI (a - b) := by
  obtain ⟨c, rfl⟩ : ∃ c, a = c + b := ⟨a - b, by omega⟩
  rw [← nI_add, Int32.add_sub_cancel, Nat.add_sub_cancel]
theorem pk_m1 (n : Nat) : nI (n + 1) + (-1) = nI n := by
  rw [← nI_1, Int32.add_assoc, show (1 : Int32) + (-1) = 0 from rfl, Int32.add_zero]
theorem pk_mul (a b : Nat) : nI a * nI b = nI (a * b) := (Int32.ofNat_mul a b).symm
theorem pk_div {a d : Nat} (ha : a < 2 ^ 31) (h0 : 0 < d) (hd : d < 2 ^ 31) : nI a / nI d = nI (a / d) := by
  apply Int32.toInt_inj.mp
  rw [lg_idiv_nonneg (by rw [nI_toInt ha]; omega) (by rw [nI_toInt hd]; omega), nI_toInt ha, nI_toInt hd, nI_toInt (Nat.lt_of_le_of_lt (Nat.div_le_self a d) ha)]
  first | rfl | exact (Int.natCast_ediv _ _).symm
theorem pk_rem {a d : Nat} (ha : a < 2 ^ 31) (h0 : 0 < d) (hd : d < 2 ^ 31) : nI a - nI a / nI d * nI d = nI (a % d) := by
  rw [pk_div ha h0 hd, pk_mul, pk_sub (Nat.div_mul_le_self a d)]
  exact congrArg nI (by have := Nat.div_add_mod' a d; omega)
theorem pk_le {x y : Int32} {A B : Prop} (a b : Nat) (f : a ≤ b → A) (g : b < a → B) (hx : x = nI a := by rfl) (hy : y = nI b := by rfl) (ha : a < 2 ^ 31 := by omega) (hb : b < 2 ^ 31 := by omega) : (x ≤ y → A) ∧ (¬ x ≤ y → B) := by
  subst hx hy
  rw [nI_leI ha hb]
  exact ⟨f, fun z => g (by omega)⟩
theorem pk_lt {x y : Int32} {A B : Prop} (a b : Nat) (f : a < b → A) (g : b ≤ a → B) (hx : x = nI a := by rfl) (hy : y = nI b := by rfl) (ha : a < 2 ^ 31 := by omega) (hb : b < 2 ^ 31 := by omega) : (x < y → A) ∧ (¬ x < y → B) := by
  subst hx hy
  rw [nI_ltI ha hb]
  exact ⟨f, fun z => g (by omega)⟩
theorem pk_eq {x y : Int32} {A B : Prop} (a b : Nat) (f : a = b → A) (g : a ≠ b → B) (hx : x = nI a := by rfl) (hy : y = nI b := by rfl) (ha : a < 2 ^ 31 := by omega) (hb : b < 2 ^ 31 := by omega) : (x = y → A) ∧ (¬ x = y → B) := by
  subst hx hy
  rw [nI_eq ha hb]
  exact ⟨f, g⟩
theorem pk_in {x : Int32} (n N : Nat) (h : n < N) (hx : x = nI n := by rfl) (hN : N < 2 ^ 31 := by omega) : vp_in x N := by
  subst hx
  exact vp_in_nI h hN
theorem pk_cl {x : Int32} (n : Nat) (hx : x = nI n := by rfl) (h : n < 2 ^ 31 := by omega) : x.toNatClampNeg = n := by
  subst hx
  exact nI_clamp h
theorem pk_tn {n : Nat} (h : n < 2 ^ 32) : (nI n).toBitVec.toNat = n := Nat.mod_eq_of_lt h
theorem pk_and (x : Int32) {m : Int32} (k : Nat) (hm : m.toBitVec.toNat = 2 ^ k - 1) : x &&& m = nI (x.toBitVec.toNat % 2 ^ k) := by
  apply Int32.toBitVec_inj.mp
  apply BitVec.eq_of_toNat_eq
  rw [Int32.toBitVec_and, BitVec.toNat_and, hm, Nat.and_two_pow_sub_one_eq_mod]
  show _ = (BitVec.ofNat 32 _).toNat
  rw [BitVec.toNat_ofNat]
  exact (Nat.mod_eq_of_lt (Nat.lt_of_le_of_lt (Nat.mod_le _ _) x.toBitVec.isLt)).symm
theorem pk_andN {n : Nat} (h : n < 2 ^ 32) {m : Int32} (k : Nat) (hm : m.toBitVec.toNat = 2 ^ k - 1) : nI n &&& m = nI (n % 2 ^ k) := by
  rw [pk_and _ k hm, pk_tn h]
theorem pk_shr (a s : Int32) (k : Nat) (hs : (s.toBitVec.smod 32).toNat = k) : (a >>> s).toInt = a.toInt >>> k := by
  show (a.toBitVec.sshiftRight (s.toBitVec.smod 32).toNat).toInt = _
  rw [hs, BitVec.toInt_sshiftRight]
  rfl
theorem pk_shrN {n : Nat} (h : n < 2 ^ 31) (s : Int32) (k : Nat) (hs : (s.toBitVec.smod 32).toNat = k) : nI n >>> s = nI (n / 2 ^ k) := by
  apply Int32.toInt_inj.mp
  have h2 : n / 2 ^ k ≤ n := Nat.div_le_self _ _
  rw [pk_shr _ _ k hs, nI_toInt h, nI_toInt (by omega), Int.shiftRight_eq_div_pow]
  rfl
theorem pk_vb (z : Int32) : vp_nar .byte z.toInt8.toInt32 = z.toInt8.toInt32 := by rw [vp_nar_byte]; simp
theorem pk_loop {σ : Type} (W : Nat → Nat → σ → Prop) (I : Nat → σ → Prop) (e i0 : Nat) (s : σ) (hi : i0 ≤ e) (h0 : I i0 s) (hx : ∀ n s, I e s → W (n + 1) e s)
    (hs : ∀ n i s, i < e → I i s → (∀ s', I (i + 1) s' → W n (i + 1) s') → W (n + 1) i s) : ∃ n, W n i0 s :=
  ⟨e + 1, loop_i W I e hx hs (e + 1) i0 s hi (by omega) h0⟩
theorem pk_loopD {σ : Type} (W : Nat → Nat → σ → Prop) (I : Nat → σ → Prop) (hx : ∀ n s, I 0 s → W (n + 1) 0 s)
    (hs : ∀ n i s, I (i + 1) s → (∀ s', I i s' → W n i s') → W (n + 1) (i + 1) s) : ∀ (e : Nat) (s : σ), I e s → W (e + 1) e s := by
  intro e
  induction e with
  | zero => exact fun s h => hx 0 s h
  | succ e ih => exact fun s h => hs (e + 1) e s h (fun s' h' => ih s' h')
theorem s_l : ∀ n, n < 32 → ((nI n &&& 31).toBitVec.smod 32).toNat = n := by decide +kernel
end
section
/-! sets of columns as numbers below 32; a row joined to a table of determinants (the wedge), lists of rows -/
def dd_on (S : Nat) : Nat := S % 2 + S / 2 % 2 + S / 4 % 2 + S / 8 % 2 + S / 16 % 2
def dd_sg (S j : Nat) : Int := if dd_on (S / 2 ^ (j + 1)) % 2 = 0 then 1 else -1
def dd_tm (v T : Nat → Int) (S j : Nat) : Int := if S / 2 ^ j % 2 = 1 then dd_sg S j * (v j * T (S - 2 ^ j)) else 0
def dd_wd (v T : Nat → Int) (S : Nat) : Int := if S < 32 then dd_tm v T S 0 + dd_tm v T S 1 + dd_tm v T S 2 + dd_tm v T S 3 + dd_tm v T S 4 else 0
theorem dd_tm_v (u v T : Nat → Int) (f : Int) (S j : Nat) : dd_tm (fun k => u k + f * v k) T S j = dd_tm u T S j + f * dd_tm v T S j := by
  by_cases h : S / 2 ^ j % 2 = 1
  · simp only [dd_tm, if_pos h]; grind
  · simp only [dd_tm, if_neg h]; simp
theorem dd_tm_T (v T U : Nat → Int) (f : Int) (S j : Nat) : dd_tm v (fun k => T k + f * U k) S j = dd_tm v T S j + f * dd_tm v U S j := by
  by_cases h : S / 2 ^ j % 2 = 1
  · simp only [dd_tm, if_pos h]; grind
  · simp only [dd_tm, if_neg h]; simp
theorem dd_tm_c (v T : Nat → Int) (f : Int) (S j : Nat) : dd_tm v (fun k => f * T k) S j = f * dd_tm v T S j := by
  by_cases h : S / 2 ^ j % 2 = 1
  · simp only [dd_tm, if_pos h]; grind
  · simp only [dd_tm, if_neg h]; simp
theorem dd_wd_v (u v T : Nat → Int) (f : Int) (S : Nat) : dd_wd (fun k => u k + f * v k) T S = dd_wd u T S + f * dd_wd v T S := by
  by_cases h : S < 32
  · simp only [dd_wd, if_pos h, dd_tm_v]; grind
  · simp only [dd_wd, if_neg h]; simp
theorem dd_wd_T (v T U : Nat → Int) (f : Int) (S : Nat) : dd_wd v (fun k => T k + f * U k) S = dd_wd v T S + f * dd_wd v U S := by
  by_cases h : S < 32
  · simp only [dd_wd, if_pos h, dd_tm_T]; grind
  · simp only [dd_wd, if_neg h]; simp
theorem dd_wd_c (v T : Nat → Int) (f : Int) (S : Nat) : dd_wd v (fun k => f * T k) S = f * dd_wd v T S := by
  by_cases h : S < 32
  · simp only [dd_wd, if_pos h, dd_tm_c]; grind
  · simp only [dd_wd, if_neg h]; simp
theorem dd_wd_n (v T : Nat → Int) (S : Nat) : dd_wd v (fun k => - T k) S = - dd_wd v T S := by
  have h := dd_wd_c v T (-1) S
  have e : (fun k => - T k) = (fun k => (-1) * T k) := funext fun k => by omega
  rw [e, h]; omega
theorem dd_wd_0 (v : Nat → Int) (S : Nat) : dd_wd v (fun _ => 0) S = 0 := by
  have h := dd_wd_c v (fun _ => 0) 0 S
  simp only [Int.zero_mul] at h
  exact h
theorem dd_w0 (v T : Nat → Int) : dd_wd v T 0 = 0 := by simp [dd_wd, dd_tm, dd_sg, dd_on] <;> omega
theorem dd_w1 (v T : Nat → Int) : dd_wd v T 1 = v 0 * T 0 := by simp [dd_wd, dd_tm, dd_sg, dd_on] <;> omega
theorem dd_w2 (v T : Nat → Int) : dd_wd v T 2 = v 1 * T 0 := by simp [dd_wd, dd_tm, dd_sg, dd_on] <;> omega
theorem dd_w3 (v T : Nat → Int) : dd_wd v T 3 = -(v 0 * T 2) + v 1 * T 1 := by simp [dd_wd, dd_tm, dd_sg, dd_on] <;> omega
theorem dd_w4 (v T : Nat → Int) : dd_wd v T 4 = v 2 * T 0 := by simp [dd_wd, dd_tm, dd_sg, dd_on] <;> omega
theorem dd_w5 (v T : Nat → Int) : dd_wd v T 5 = -(v 0 * T 4) + v 2 * T 1 := by simp [dd_wd, dd_tm, dd_sg, dd_on] <;> omega
theorem dd_w6 (v T : Nat → Int) : dd_wd v T 6 = -(v 1 * T 4) + v 2 * T 2 := by simp [dd_wd, dd_tm, dd_sg, dd_on] <;> omega
theorem dd_w7 (v T : Nat → Int) : dd_wd v T 7 = v 0 * T 6 - v 1 * T 5 + v 2 * T 3 := by simp [dd_wd, dd_tm, dd_sg, dd_on] <;> omega
theorem dd_w8 (v T : Nat → Int) : dd_wd v T 8 = v 3 * T 0 := by simp [dd_wd, dd_tm, dd_sg, dd_on] <;> omega
theorem dd_w9 (v T : Nat → Int) : dd_wd v T 9 = -(v 0 * T 8) + v 3 * T 1 := by simp [dd_wd, dd_tm, dd_sg, dd_on] <;> omega
theorem dd_w10 (v T : Nat → Int) : dd_wd v T 10 = -(v 1 * T 8) + v 3 * T 2 := by simp [dd_wd, dd_tm, dd_sg, dd_on] <;> omega
theorem dd_w11 (v T : Nat → Int) : dd_wd v T 11 = v 0 * T 10 - v 1 * T 9 + v 3 * T 3 := by simp [dd_wd, dd_tm, dd_sg, dd_on] <;> omega
theorem dd_w12 (v T : Nat → Int) : dd_wd v T 12 = -(v 2 * T 8) + v 3 * T 4 := by simp [dd_wd, dd_tm, dd_sg, dd_on] <;> omega
theorem dd_w13 (v T : Nat → Int) : dd_wd v T 13 = v 0 * T 12 - v 2 * T 9 + v 3 * T 5 := by simp [dd_wd, dd_tm, dd_sg, dd_on] <;> omega
theorem dd_w14 (v T : Nat → Int) : dd_wd v T 14 = v 1 * T 12 - v 2 * T 10 + v 3 * T 6 := by simp [dd_wd, dd_tm, dd_sg, dd_on] <;> omega
theorem dd_w15 (v T : Nat → Int) : dd_wd v T 15 = -(v 0 * T 14) + v 1 * T 13 - v 2 * T 11 + v 3 * T 7 := by simp [dd_wd, dd_tm, dd_sg, dd_on] <;> omega
theorem dd_w16 (v T : Nat → Int) : dd_wd v T 16 = v 4 * T 0 := by simp [dd_wd, dd_tm, dd_sg, dd_on] <;> omega
theorem dd_w17 (v T : Nat → Int) : dd_wd v T 17 = -(v 0 * T 16) + v 4 * T 1 := by simp [dd_wd, dd_tm, dd_sg, dd_on] <;> omega
theorem dd_w18 (v T : Nat → Int) : dd_wd v T 18 = -(v 1 * T 16) + v 4 * T 2 := by simp [dd_wd, dd_tm, dd_sg, dd_on] <;> omega
theorem dd_w19 (v T : Nat → Int) : dd_wd v T 19 = v 0 * T 18 - v 1 * T 17 + v 4 * T 3 := by simp [dd_wd, dd_tm, dd_sg, dd_on] <;> omega
theorem dd_w20 (v T : Nat → Int) : dd_wd v T 20 = -(v 2 * T 16) + v 4 * T 4 := by simp [dd_wd, dd_tm, dd_sg, dd_on] <;> omega
theorem dd_w21 (v T : Nat → Int) : dd_wd v T 21 = v 0 * T 20 - v 2 * T 17 + v 4 * T 5 := by simp [dd_wd, dd_tm, dd_sg, dd_on] <;> omega
theorem dd_w22 (v T : Nat → Int) : dd_wd v T 22 = v 1 * T 20 - v 2 * T 18 + v 4 * T 6 := by simp [dd_wd, dd_tm, dd_sg, dd_on] <;> omega
theorem dd_w23 (v T : Nat → Int) : dd_wd v T 23 = -(v 0 * T 22) + v 1 * T 21 - v 2 * T 19 + v 4 * T 7 := by simp [dd_wd, dd_tm, dd_sg, dd_on] <;> omega
theorem dd_w24 (v T : Nat → Int) : dd_wd v T 24 = -(v 3 * T 16) + v 4 * T 8 := by simp [dd_wd, dd_tm, dd_sg, dd_on] <;> omega
theorem dd_w25 (v T : Nat → Int) : dd_wd v T 25 = v 0 * T 24 - v 3 * T 17 + v 4 * T 9 := by simp [dd_wd, dd_tm, dd_sg, dd_on] <;> omega
theorem dd_w26 (v T : Nat → Int) : dd_wd v T 26 = v 1 * T 24 - v 3 * T 18 + v 4 * T 10 := by simp [dd_wd, dd_tm, dd_sg, dd_on] <;> omega
theorem dd_w27 (v T : Nat → Int) : dd_wd v T 27 = -(v 0 * T 26) + v 1 * T 25 - v 3 * T 19 + v 4 * T 11 := by simp [dd_wd, dd_tm, dd_sg, dd_on] <;> omega
theorem dd_w28 (v T : Nat → Int) : dd_wd v T 28 = v 2 * T 24 - v 3 * T 20 + v 4 * T 12 := by simp [dd_wd, dd_tm, dd_sg, dd_on] <;> omega
theorem dd_w29 (v T : Nat → Int) : dd_wd v T 29 = -(v 0 * T 28) + v 2 * T 25 - v 3 * T 21 + v 4 * T 13 := by simp [dd_wd, dd_tm, dd_sg, dd_on] <;> omega
theorem dd_w30 (v T : Nat → Int) : dd_wd v T 30 = -(v 1 * T 28) + v 2 * T 26 - v 3 * T 22 + v 4 * T 14 := by simp [dd_wd, dd_tm, dd_sg, dd_on] <;> omega
theorem dd_w31 (v T : Nat → Int) : dd_wd v T 31 = v 0 * T 30 - v 1 * T 29 + v 2 * T 27 - v 3 * T 23 + v 4 * T 15 := by simp [dd_wd, dd_tm, dd_sg, dd_on] <;> omega
theorem dd_a0 (u v T : Nat → Int) : dd_wd u (dd_wd v T) 0 = - dd_wd v (dd_wd u T) 0 := by simp only [dd_w0]; grind
theorem dd_a1 (u v T : Nat → Int) : dd_wd u (dd_wd v T) 1 = - dd_wd v (dd_wd u T) 1 := by simp only [dd_w0, dd_w1]; grind
theorem dd_a2 (u v T : Nat → Int) : dd_wd u (dd_wd v T) 2 = - dd_wd v (dd_wd u T) 2 := by simp only [dd_w0, dd_w2]; grind
theorem dd_a3 (u v T : Nat → Int) : dd_wd u (dd_wd v T) 3 = - dd_wd v (dd_wd u T) 3 := by simp only [dd_w1, dd_w2, dd_w3]; grind
theorem dd_a4 (u v T : Nat → Int) : dd_wd u (dd_wd v T) 4 = - dd_wd v (dd_wd u T) 4 := by simp only [dd_w0, dd_w4]; grind
theorem dd_a5 (u v T : Nat → Int) : dd_wd u (dd_wd v T) 5 = - dd_wd v (dd_wd u T) 5 := by simp only [dd_w1, dd_w4, dd_w5]; grind
theorem dd_a6 (u v T : Nat → Int) : dd_wd u (dd_wd v T) 6 = - dd_wd v (dd_wd u T) 6 := by simp only [dd_w2, dd_w4, dd_w6]; grind
theorem dd_a7 (u v T : Nat → Int) : dd_wd u (dd_wd v T) 7 = - dd_wd v (dd_wd u T) 7 := by simp only [dd_w3, dd_w5, dd_w6, dd_w7]; grind
theorem dd_a8 (u v T : Nat → Int) : dd_wd u (dd_wd v T) 8 = - dd_wd v (dd_wd u T) 8 := by simp only [dd_w0, dd_w8]; grind
theorem dd_a9 (u v T : Nat → Int) : dd_wd u (dd_wd v T) 9 = - dd_wd v (dd_wd u T) 9 := by simp only [dd_w1, dd_w8, dd_w9]; grind
theorem dd_a10 (u v T : Nat → Int) : dd_wd u (dd_wd v T) 10 = - dd_wd v (dd_wd u T) 10 := by simp only [dd_w2, dd_w8, dd_w10]; grind
theorem dd_a11 (u v T : Nat → Int) : dd_wd u (dd_wd v T) 11 = - dd_wd v (dd_wd u T) 11 := by simp only [dd_w3, dd_w9, dd_w10, dd_w11]; grind
theorem dd_a12 (u v T : Nat → Int) : dd_wd u (dd_wd v T) 12 = - dd_wd v (dd_wd u T) 12 := by simp only [dd_w4, dd_w8, dd_w12]; grind
theorem dd_a13 (u v T : Nat → Int) : dd_wd u (dd_wd v T) 13 = - dd_wd v (dd_wd u T) 13 := by simp only [dd_w5, dd_w9, dd_w12, dd_w13]; grind
theorem dd_a14 (u v T : Nat → Int) : dd_wd u (dd_wd v T) 14 = - dd_wd v (dd_wd u T) 14 := by simp only [dd_w6, dd_w10, dd_w12, dd_w14]; grind
theorem dd_a15 (u v T : Nat → Int) : dd_wd u (dd_wd v T) 15 = - dd_wd v (dd_wd u T) 15 := by simp only [dd_w7, dd_w11, dd_w13, dd_w14, dd_w15]; grind
theorem dd_a16 (u v T : Nat → Int) : dd_wd u (dd_wd v T) 16 = - dd_wd v (dd_wd u T) 16 := by simp only [dd_w0, dd_w16]; grind
theorem dd_a17 (u v T : Nat → Int) : dd_wd u (dd_wd v T) 17 = - dd_wd v (dd_wd u T) 17 := by simp only [dd_w1, dd_w16, dd_w17]; grind
theorem dd_a18 (u v T : Nat → Int) : dd_wd u (dd_wd v T) 18 = - dd_wd v (dd_wd u T) 18 := by simp only [dd_w2, dd_w16, dd_w18]; grind
theorem dd_a19 (u v T : Nat → Int) : dd_wd u (dd_wd v T) 19 = - dd_wd v (dd_wd u T) 19 := by simp only [dd_w3, dd_w17, dd_w18, dd_w19]; grind
theorem dd_a20 (u v T : Nat → Int) : dd_wd u (dd_wd v T) 20 = - dd_wd v (dd_wd u T) 20 := by simp only [dd_w4, dd_w16, dd_w20]; grind
theorem dd_a21 (u v T : Nat → Int) : dd_wd u (dd_wd v T) 21 = - dd_wd v (dd_wd u T) 21 := by simp only [dd_w5, dd_w17, dd_w20, dd_w21]; grind
theorem dd_a22 (u v T : Nat → Int) : dd_wd u (dd_wd v T) 22 = - dd_wd v (dd_wd u T) 22 := by simp only [dd_w6, dd_w18, dd_w20, dd_w22]; grind
theorem dd_a23 (u v T : Nat → Int) : dd_wd u (dd_wd v T) 23 = - dd_wd v (dd_wd u T) 23 := by simp only [dd_w7, dd_w19, dd_w21, dd_w22, dd_w23]; grind
theorem dd_a24 (u v T : Nat → Int) : dd_wd u (dd_wd v T) 24 = - dd_wd v (dd_wd u T) 24 := by simp only [dd_w8, dd_w16, dd_w24]; grind
theorem dd_a25 (u v T : Nat → Int) : dd_wd u (dd_wd v T) 25 = - dd_wd v (dd_wd u T) 25 := by simp only [dd_w9, dd_w17, dd_w24, dd_w25]; grind
theorem dd_a26 (u v T : Nat → Int) : dd_wd u (dd_wd v T) 26 = - dd_wd v (dd_wd u T) 26 := by simp only [dd_w10, dd_w18, dd_w24, dd_w26]; grind
theorem dd_a27 (u v T : Nat → Int) : dd_wd u (dd_wd v T) 27 = - dd_wd v (dd_wd u T) 27 := by simp only [dd_w11, dd_w19, dd_w25, dd_w26, dd_w27]; grind
theorem dd_a28 (u v T : Nat → Int) : dd_wd u (dd_wd v T) 28 = - dd_wd v (dd_wd u T) 28 := by simp only [dd_w12, dd_w20, dd_w24, dd_w28]; grind
theorem dd_a29 (u v T : Nat → Int) : dd_wd u (dd_wd v T) 29 = - dd_wd v (dd_wd u T) 29 := by simp only [dd_w13, dd_w21, dd_w25, dd_w28, dd_w29]; grind
theorem dd_a30 (u v T : Nat → Int) : dd_wd u (dd_wd v T) 30 = - dd_wd v (dd_wd u T) 30 := by simp only [dd_w14, dd_w22, dd_w26, dd_w28, dd_w30]; grind
theorem dd_a31 (u v T : Nat → Int) : dd_wd u (dd_wd v T) 31 = - dd_wd v (dd_wd u T) 31 := by simp only [dd_w15, dd_w23, dd_w27, dd_w29, dd_w30, dd_w31]; grind
theorem dd_anti (u v T : Nat → Int) (S : Nat) : dd_wd u (dd_wd v T) S = - dd_wd v (dd_wd u T) S := by
  by_cases h : S < 32
  · have e : S = 0 ∨ S = 1 ∨ S = 2 ∨ S = 3 ∨ S = 4 ∨ S = 5 ∨ S = 6 ∨ S = 7 ∨ S = 8 ∨ S = 9 ∨ S = 10 ∨ S = 11 ∨ S = 12 ∨ S = 13 ∨ S = 14 ∨ S = 15 ∨ S = 16 ∨ S = 17 ∨ S = 18 ∨ S = 19 ∨ S = 20 ∨ S = 21 ∨ S = 22 ∨ S = 23 ∨ S = 24 ∨ S = 25 ∨ S = 26 ∨ S = 27 ∨ S = 28 ∨ S = 29 ∨ S = 30 ∨ S = 31 := by omega
    rcases e with rfl | rfl | rfl | rfl | rfl | rfl | rfl | rfl | rfl | rfl | rfl | rfl | rfl | rfl | rfl | rfl | rfl | rfl | rfl | rfl | rfl | rfl | rfl | rfl | rfl | rfl | rfl | rfl | rfl | rfl | rfl | rfl
    · exact dd_a0 u v T
    · exact dd_a1 u v T
    · exact dd_a2 u v T
    · exact dd_a3 u v T
    · exact dd_a4 u v T
    · exact dd_a5 u v T
    · exact dd_a6 u v T
    · exact dd_a7 u v T
    · exact dd_a8 u v T
    · exact dd_a9 u v T
    · exact dd_a10 u v T
    · exact dd_a11 u v T
    · exact dd_a12 u v T
    · exact dd_a13 u v T
    · exact dd_a14 u v T
    · exact dd_a15 u v T
    · exact dd_a16 u v T
    · exact dd_a17 u v T
    · exact dd_a18 u v T
    · exact dd_a19 u v T
    · exact dd_a20 u v T
    · exact dd_a21 u v T
    · exact dd_a22 u v T
    · exact dd_a23 u v T
    · exact dd_a24 u v T
    · exact dd_a25 u v T
    · exact dd_a26 u v T
    · exact dd_a27 u v T
    · exact dd_a28 u v T
    · exact dd_a29 u v T
    · exact dd_a30 u v T
    · exact dd_a31 u v T
  · simp only [dd_wd, if_neg h]; rfl
def dd_t0 (S : Nat) : Int := if S = 0 then 1 else 0
def dd_dt : List (Nat → Int) → Nat → Int
  | [] => dd_t0
  | v :: l => dd_wd v (dd_dt l)
theorem dd_lin (u v : Nat → Int) (f : Int) (l2 : List (Nat → Int)) : ∀ (l1 : List (Nat → Int)) (S : Nat), dd_dt (l1 ++ (fun k => u k + f * v k) :: l2) S = dd_dt (l1 ++ u :: l2) S + f * dd_dt (l1 ++ v :: l2) S := by
  intro l1
  induction l1 with
  | nil => intro S; exact dd_wd_v u v (dd_dt l2) f S
  | cons w l1 ih =>
    intro S
    have e : dd_dt (l1 ++ (fun k => u k + f * v k) :: l2) = fun S => dd_dt (l1 ++ u :: l2) S + f * dd_dt (l1 ++ v :: l2) S := funext ih
    show dd_wd w (dd_dt (l1 ++ (fun k => u k + f * v k) :: l2)) S = _
    rw [e]
    exact dd_wd_T w _ _ f S
theorem dd_adj (u v : Nat → Int) (l2 : List (Nat → Int)) : ∀ (l1 : List (Nat → Int)) (S : Nat), dd_dt (l1 ++ u :: v :: l2) S = - dd_dt (l1 ++ v :: u :: l2) S := by
  intro l1
  induction l1 with
  | nil => intro S; exact dd_anti u v (dd_dt l2) S
  | cons w l1 ih =>
    intro S
    have e : dd_dt (l1 ++ u :: v :: l2) = fun S => - dd_dt (l1 ++ v :: u :: l2) S := funext ih
    show dd_wd w (dd_dt (l1 ++ u :: v :: l2)) S = _
    rw [e]
    exact dd_wd_n w _ S
theorem dd_dupa (u : Nat → Int) (l1 l2 : List (Nat → Int)) (S : Nat) : dd_dt (l1 ++ u :: u :: l2) S = 0 := by
  have h := dd_adj u u l2 l1 S
  omega
theorem dd_dup (u : Nat → Int) (l3 : List (Nat → Int)) : ∀ (l2 l1 : List (Nat → Int)) (S : Nat), dd_dt (l1 ++ u :: (l2 ++ u :: l3)) S = 0 := by
  intro l2
  induction l2 with
  | nil => intro l1 S; exact dd_dupa u l1 l3 S
  | cons w l2 ih =>
    intro l1 S
    have h1 := dd_adj u w (l2 ++ u :: l3) l1 S
    have h2 := ih (l1 ++ [w]) S
    rw [List.append_assoc] at h2
    have h3 : dd_dt (l1 ++ w :: u :: (l2 ++ u :: l3)) S = 0 := h2
    show dd_dt (l1 ++ u :: w :: (l2 ++ u :: l3)) S = 0
    rw [h1, h3]; rfl
theorem dd_swp (u v : Nat → Int) (l1 l2 l3 : List (Nat → Int)) (S : Nat) : dd_dt (l1 ++ u :: (l2 ++ v :: l3)) S = - dd_dt (l1 ++ v :: (l2 ++ u :: l3)) S := by
  have h0 := dd_dup (fun k => u k + 1 * v k) l3 l2 l1 S
  have e1 : ∀ w, dd_dt (l1 ++ w :: (l2 ++ (fun k => u k + 1 * v k) :: l3)) S = dd_dt (l1 ++ w :: (l2 ++ u :: l3)) S + 1 * dd_dt (l1 ++ w :: (l2 ++ v :: l3)) S := by
    intro w
    have h := dd_lin u v 1 l3 (l1 ++ w :: l2) S
    simpa only [List.append_assoc, List.cons_append] using h
  rw [dd_lin u v 1 _ l1 S, e1 u, e1 v, dd_dup u l3 l2 l1 S, dd_dup v l3 l2 l1 S] at h0
  omega
theorem dd_add (u v : Nat → Int) (f : Int) (l1 l2 l3 : List (Nat → Int)) (S : Nat) : dd_dt (l1 ++ (fun k => u k + f * v k) :: (l2 ++ v :: l3)) S = dd_dt (l1 ++ u :: (l2 ++ v :: l3)) S := by
  rw [dd_lin u v f, dd_dup v l3 l2 l1 S]; simp
end
section
/-! congruence, lists of rows under congruence, row operations -/
def dd_cg (P a b : Int) : Prop := a % P = b % P
theorem dd_cr (P a : Int) : dd_cg P a a := rfl
theorem dd_cs {P a b : Int} (h : dd_cg P a b) : dd_cg P b a := Eq.symm h
theorem dd_ct {P a b c : Int} (h : dd_cg P a b) (k : dd_cg P b c) : dd_cg P a c := Eq.trans h k
theorem dd_ca {P a b c d : Int} (h : dd_cg P a b) (k : dd_cg P c d) : dd_cg P (a + c) (b + d) := by
  unfold dd_cg at *
  rw [Int.add_emod, h, k, ← Int.add_emod]
theorem dd_cm {P a b c d : Int} (h : dd_cg P a b) (k : dd_cg P c d) : dd_cg P (a * c) (b * d) := by
  unfold dd_cg at *
  rw [Int.mul_emod, h, k, ← Int.mul_emod]
theorem dd_cb {P a b c d : Int} (h : dd_cg P a b) (k : dd_cg P c d) : dd_cg P (a - c) (b - d) := by
  unfold dd_cg at *
  rw [Int.sub_emod, h, k, ← Int.sub_emod]
theorem dd_cn {P a b : Int} (h : dd_cg P a b) : dd_cg P (-a) (-b) := by
  have k := dd_cb (dd_cr P 0) h
  rw [Int.zero_sub, Int.zero_sub] at k
  exact k
theorem dd_ce (P a : Int) : dd_cg P (a % P) a := Int.emod_emod_of_dvd a (Int.dvd_refl P)
theorem dd_cq {P a b : Int} (h : a = b) : dd_cg P a b := by rw [h]; rfl
theorem dd_c0 {P a b : Int} (h : dd_cg P a 0) : dd_cg P (b * a) 0 := by
  have k := dd_cm (dd_cr P b) h
  rw [Int.mul_zero] at k
  exact k
theorem dd_c0' {P a b : Int} (h : dd_cg P a 0) : dd_cg P (a * b) 0 := by rw [Int.mul_comm]; exact dd_c0 h
theorem dd_tm_g {P : Int} {u v T U : Nat → Int} {S j : Nat} (h : S / 2 ^ j % 2 = 1 → dd_cg P (u j) (v j)) (k : S / 2 ^ j % 2 = 1 → dd_cg P (T (S - 2 ^ j)) (U (S - 2 ^ j))) : dd_cg P (dd_tm u T S j) (dd_tm v U S j) := by
  by_cases e : S / 2 ^ j % 2 = 1
  · simp only [dd_tm, if_pos e]
    exact dd_cm (dd_cr P _) (dd_cm (h e) (k e))
  · simp only [dd_tm, if_neg e]
    exact dd_cr P 0
theorem dd_wd_g {P : Int} {u v T U : Nat → Int} {S : Nat} (h : ∀ j, j < 5 → S / 2 ^ j % 2 = 1 → dd_cg P (u j) (v j)) (k : ∀ j, j < 5 → S / 2 ^ j % 2 = 1 → dd_cg P (T (S - 2 ^ j)) (U (S - 2 ^ j))) : dd_cg P (dd_wd u T S) (dd_wd v U S) := by
  by_cases e : S < 32
  · simp only [dd_wd, if_pos e]
    have t : ∀ j, j < 5 → dd_cg P (dd_tm u T S j) (dd_tm v U S j) := fun j hj => dd_tm_g (h j hj) (k j hj)
    exact dd_ca (dd_ca (dd_ca (dd_ca (t 0 (by decide)) (t 1 (by decide))) (t 2 (by decide))) (t 3 (by decide))) (t 4 (by decide))
  · simp only [dd_wd, if_neg e]
    exact dd_cr P 0
/-- a row that is 0 at every column of S, or a table that is 0 at every part of S -/
theorem dd_wd_z {P : Int} {u T : Nat → Int} {S : Nat} (h : ∀ j, j < 5 → S / 2 ^ j % 2 = 1 → dd_cg P (u j) 0 ∨ dd_cg P (T (S - 2 ^ j)) 0) : dd_cg P (dd_wd u T S) 0 := by
  by_cases e : S < 32
  · simp only [dd_wd, if_pos e]
    have t : ∀ j, j < 5 → dd_cg P (dd_tm u T S j) 0 := by
      intro j hj
      by_cases e : S / 2 ^ j % 2 = 1
      · simp only [dd_tm, if_pos e]
        rcases h j hj e with k | k
        · exact dd_c0 (dd_c0' k)
        · exact dd_c0 (dd_c0 k)
      · simp only [dd_tm, if_neg e]
        exact dd_cr P 0
    exact dd_ca (dd_ca (dd_ca (dd_ca (t 0 (by decide)) (t 1 (by decide))) (t 2 (by decide))) (t 3 (by decide))) (t 4 (by decide))
  · simp only [dd_wd, if_neg e]
    exact dd_cr P 0
theorem dd_dt_g {P : Int} {A B : Nat → Nat → Int} : ∀ (idx : List Nat), (∀ i, i ∈ idx → ∀ j, j < 5 → dd_cg P (A i j) (B i j)) → ∀ S, dd_cg P (dd_dt (idx.map A) S) (dd_dt (idx.map B) S) := by
  intro idx
  induction idx with
  | nil => intro _ S; exact dd_cr P _
  | cons i idx ih =>
    intro h S
    exact dd_wd_g (fun j hj _ => h i (List.mem_cons_self ..) j hj) (fun j _ _ => ih (fun k hk => h k (List.mem_cons_of_mem _ hk)) _)
theorem dd_mid {P : Int} {u v : Nat → Int} (h : ∀ j, j < 5 → dd_cg P (u j) (v j)) (l2 : List (Nat → Int)) : ∀ (l1 : List (Nat → Int)) (S : Nat), dd_cg P (dd_dt (l1 ++ u :: l2) S) (dd_dt (l1 ++ v :: l2) S) := by
  intro l1
  induction l1 with
  | nil => intro S; exact dd_wd_g (fun j hj _ => h j hj) (fun j _ _ => dd_cr P _)
  | cons w l1 ih => intro S; exact dd_wd_g (fun j _ _ => dd_cr P _) (fun j _ _ => ih _)
theorem dd_bit_lt {S j c : Nat} (h : S / 2 ^ j % 2 = 1) (k : S < 2 ^ c) : j < c := by
  have h1 : 2 ^ j ≤ S := by
    rcases Nat.lt_or_ge S (2 ^ j) with h2 | h2
    · rw [Nat.div_eq_of_lt h2] at h; simp at h
    · exact h2
  exact (Nat.pow_lt_pow_iff_right (by decide : 1 < 2)).mp (Nat.lt_of_le_of_lt h1 k)
theorem dd_zero {P : Int} {c : Nat} {v : Nat → Int} (h : ∀ j, j < c → dd_cg P (v j) 0) : ∀ (l : List (Nat → Int)), v ∈ l → ∀ S, S < 2 ^ c → dd_cg P (dd_dt l S) 0 := by
  intro l
  induction l with
  | nil => intro hv; cases hv
  | cons w l ih =>
    intro hv S hS
    rcases List.mem_cons.mp hv with e | e
    · subst e
      exact dd_wd_z (fun j _ hb => Or.inl (h j (dd_bit_lt hb hS)))
    · exact dd_wd_z (fun j _ hb => Or.inr (ih e _ (Nat.lt_of_le_of_lt (Nat.sub_le _ _) hS)))
/-! the list n - 1 .. 0 -/
def dd_dn : Nat → List Nat
  | 0 => []
  | n + 1 => n :: dd_dn n
theorem dd_dn_m : ∀ (n i : Nat), i ∈ dd_dn n → i < n := by
  intro n
  induction n with
  | zero => intro i h; cases h
  | succ n ih =>
    intro i h
    rcases List.mem_cons.mp h with e | e
    · omega
    · have := ih i e; omega
theorem dd_dn_1 : ∀ (n r : Nat), r < n → ∃ y z, dd_dn n = y ++ r :: z ∧ (∀ k, k ∈ y → r < k ∧ k < n) ∧ (∀ k, k ∈ z → k < r) := by
  intro n
  induction n with
  | zero => intro r h; omega
  | succ n ih =>
    intro r h
    rcases Nat.lt_or_ge r n with h1 | h1
    · obtain ⟨y, z, e, hy, hz⟩ := ih r h1
      refine ⟨n :: y, z, by rw [dd_dn, e]; rfl, ?_, hz⟩
      intro k hk
      rcases List.mem_cons.mp hk with e | e
      · omega
      · have := hy k e; omega
    · have e : r = n := by omega
      subst e
      refine ⟨[], dd_dn r, rfl, ?_, fun k hk => dd_dn_m r k hk⟩
      intro k hk
      cases hk
theorem dd_dn_2 : ∀ (n i r : Nat), r < i → i < n → ∃ x y z, dd_dn n = x ++ i :: (y ++ r :: z) ∧ (∀ k, k ∈ x → k ≠ i ∧ k ≠ r) ∧ (∀ k, k ∈ y → k ≠ i ∧ k ≠ r) ∧ (∀ k, k ∈ z → k ≠ i ∧ k ≠ r) := by
  intro n
  induction n with
  | zero => intro i r _ h; omega
  | succ n ih =>
    intro i r hr hi
    rcases Nat.lt_or_ge i n with h1 | h1
    · obtain ⟨x, y, z, e, hx, hy, hz⟩ := ih i r hr h1
      refine ⟨n :: x, y, z, by rw [dd_dn, e]; rfl, ?_, hy, hz⟩
      intro k hk
      rcases List.mem_cons.mp hk with e | e
      · omega
      · exact hx k e
    · have e : i = n := by omega
      subst e
      obtain ⟨y, z, e, hy, hz⟩ := dd_dn_1 i r hr
      refine ⟨[], y, z, by rw [dd_dn, e]; rfl, ?_, ?_, ?_⟩
      · intro k hk; cases hk
      · intro k hk; have := hy k hk; omega
      · intro k hk; have := hz k hk; omega
theorem dd_dn_a (c : Nat) : ∀ d, ∃ x, dd_dn (c + d) = x ++ dd_dn c ∧ x.length = d ∧ ∀ i, i ∈ x → c ≤ i ∧ i < c + d := by
  intro d
  induction d with
  | zero => exact ⟨[], rfl, rfl, fun i hi => by cases hi⟩
  | succ d ih =>
    obtain ⟨x, e, hl, hx⟩ := ih
    refine ⟨(c + d) :: x, ?_, ?_, ?_⟩
    · show dd_dn ((c + d) + 1) = _
      rw [dd_dn, e]; rfl
    · rw [List.length_cons, hl]
    · intro i hi
      rcases List.mem_cons.mp hi with e | e
      · omega
      · have := hx i e; omega
theorem dd_op_add {A B : Nat → Nat → Int} {f : Int} {n i r : Nat} (hr : r < i) (hi : i < n) (hB : ∀ k, k ≠ i → B k = A k) (hBi : B i = fun j => A i j + f * A r j) (S : Nat) : dd_dt ((dd_dn n).map B) S = dd_dt ((dd_dn n).map A) S := by
  obtain ⟨x, y, z, e, hx, hy, hz⟩ := dd_dn_2 n i r hr hi
  have ex : x.map B = x.map A := List.map_congr_left fun k hk => hB k (hx k hk).1
  have ey : y.map B = y.map A := List.map_congr_left fun k hk => hB k (hy k hk).1
  have ez : z.map B = z.map A := List.map_congr_left fun k hk => hB k (hz k hk).1
  rw [e]
  simp only [List.map_append, List.map_cons]
  rw [ex, ey, ez, hBi, hB r (by omega)]
  exact dd_add _ _ f _ _ _ S
theorem dd_op_swp {A B : Nat → Nat → Int} {n i r : Nat} (hr : r < i) (hi : i < n) (hB : ∀ k, k ≠ i → k ≠ r → B k = A k) (hBi : B i = A r) (hBr : B r = A i) (S : Nat) : dd_dt ((dd_dn n).map B) S = - dd_dt ((dd_dn n).map A) S := by
  obtain ⟨x, y, z, e, hx, hy, hz⟩ := dd_dn_2 n i r hr hi
  have ex : x.map B = x.map A := List.map_congr_left fun k hk => hB k (hx k hk).1 (hx k hk).2
  have ey : y.map B = y.map A := List.map_congr_left fun k hk => hB k (hy k hk).1 (hy k hk).2
  have ez : z.map B = z.map A := List.map_congr_left fun k hk => hB k (hz k hk).1 (hz k hk).2
  rw [e]
  simp only [List.map_append, List.map_cons]
  rw [ex, ey, ez, hBi, hBr]
  exact dd_swp _ _ _ _ _ S
end
section
/-! the last column alone; too few columns; sets of rows; vanishing minors -/
theorem dd_l1 (v T : Nat → Int) : dd_wd v T 1 = v 0 * T 0 := dd_w1 v T
theorem dd_l2 (v T : Nat → Int) (h0 : v 0 = 0) : dd_wd v T 2 = v 1 * T 0 := dd_w2 v T
theorem dd_l3 (v T : Nat → Int) (h0 : v 0 = 0) : dd_wd v T 3 = v 1 * T 1 := by rw [dd_w3]; simp [h0]
theorem dd_l4 (v T : Nat → Int) (h0 : v 0 = 0) (h1 : v 1 = 0) : dd_wd v T 4 = v 2 * T 0 := dd_w4 v T
theorem dd_l5 (v T : Nat → Int) (h0 : v 0 = 0) (h1 : v 1 = 0) : dd_wd v T 5 = v 2 * T 1 := by rw [dd_w5]; simp [h0]
theorem dd_l6 (v T : Nat → Int) (h0 : v 0 = 0) (h1 : v 1 = 0) : dd_wd v T 6 = v 2 * T 2 := by rw [dd_w6]; simp [h1]
theorem dd_l7 (v T : Nat → Int) (h0 : v 0 = 0) (h1 : v 1 = 0) : dd_wd v T 7 = v 2 * T 3 := by rw [dd_w7]; simp [h0, h1]
theorem dd_l8 (v T : Nat → Int) (h0 : v 0 = 0) (h1 : v 1 = 0) (h2 : v 2 = 0) : dd_wd v T 8 = v 3 * T 0 := dd_w8 v T
theorem dd_l9 (v T : Nat → Int) (h0 : v 0 = 0) (h1 : v 1 = 0) (h2 : v 2 = 0) : dd_wd v T 9 = v 3 * T 1 := by rw [dd_w9]; simp [h0]
theorem dd_l10 (v T : Nat → Int) (h0 : v 0 = 0) (h1 : v 1 = 0) (h2 : v 2 = 0) : dd_wd v T 10 = v 3 * T 2 := by rw [dd_w10]; simp [h1]
theorem dd_l11 (v T : Nat → Int) (h0 : v 0 = 0) (h1 : v 1 = 0) (h2 : v 2 = 0) : dd_wd v T 11 = v 3 * T 3 := by rw [dd_w11]; simp [h0, h1]
theorem dd_l12 (v T : Nat → Int) (h0 : v 0 = 0) (h1 : v 1 = 0) (h2 : v 2 = 0) : dd_wd v T 12 = v 3 * T 4 := by rw [dd_w12]; simp [h2]
theorem dd_l13 (v T : Nat → Int) (h0 : v 0 = 0) (h1 : v 1 = 0) (h2 : v 2 = 0) : dd_wd v T 13 = v 3 * T 5 := by rw [dd_w13]; simp [h0, h2]
theorem dd_l14 (v T : Nat → Int) (h0 : v 0 = 0) (h1 : v 1 = 0) (h2 : v 2 = 0) : dd_wd v T 14 = v 3 * T 6 := by rw [dd_w14]; simp [h1, h2]
theorem dd_l15 (v T : Nat → Int) (h0 : v 0 = 0) (h1 : v 1 = 0) (h2 : v 2 = 0) : dd_wd v T 15 = v 3 * T 7 := by rw [dd_w15]; simp [h0, h1, h2]
theorem dd_l16 (v T : Nat → Int) (h0 : v 0 = 0) (h1 : v 1 = 0) (h2 : v 2 = 0) (h3 : v 3 = 0) : dd_wd v T 16 = v 4 * T 0 := dd_w16 v T
theorem dd_l17 (v T : Nat → Int) (h0 : v 0 = 0) (h1 : v 1 = 0) (h2 : v 2 = 0) (h3 : v 3 = 0) : dd_wd v T 17 = v 4 * T 1 := by rw [dd_w17]; simp [h0]
theorem dd_l18 (v T : Nat → Int) (h0 : v 0 = 0) (h1 : v 1 = 0) (h2 : v 2 = 0) (h3 : v 3 = 0) : dd_wd v T 18 = v 4 * T 2 := by rw [dd_w18]; simp [h1]
theorem dd_l19 (v T : Nat → Int) (h0 : v 0 = 0) (h1 : v 1 = 0) (h2 : v 2 = 0) (h3 : v 3 = 0) : dd_wd v T 19 = v 4 * T 3 := by rw [dd_w19]; simp [h0, h1]
theorem dd_l20 (v T : Nat → Int) (h0 : v 0 = 0) (h1 : v 1 = 0) (h2 : v 2 = 0) (h3 : v 3 = 0) : dd_wd v T 20 = v 4 * T 4 := by rw [dd_w20]; simp [h2]
theorem dd_l21 (v T : Nat → Int) (h0 : v 0 = 0) (h1 : v 1 = 0) (h2 : v 2 = 0) (h3 : v 3 = 0) : dd_wd v T 21 = v 4 * T 5 := by rw [dd_w21]; simp [h0, h2]
theorem dd_l22 (v T : Nat → Int) (h0 : v 0 = 0) (h1 : v 1 = 0) (h2 : v 2 = 0) (h3 : v 3 = 0) : dd_wd v T 22 = v 4 * T 6 := by rw [dd_w22]; simp [h1, h2]
theorem dd_l23 (v T : Nat → Int) (h0 : v 0 = 0) (h1 : v 1 = 0) (h2 : v 2 = 0) (h3 : v 3 = 0) : dd_wd v T 23 = v 4 * T 7 := by rw [dd_w23]; simp [h0, h1, h2]
theorem dd_l24 (v T : Nat → Int) (h0 : v 0 = 0) (h1 : v 1 = 0) (h2 : v 2 = 0) (h3 : v 3 = 0) : dd_wd v T 24 = v 4 * T 8 := by rw [dd_w24]; simp [h3]
theorem dd_l25 (v T : Nat → Int) (h0 : v 0 = 0) (h1 : v 1 = 0) (h2 : v 2 = 0) (h3 : v 3 = 0) : dd_wd v T 25 = v 4 * T 9 := by rw [dd_w25]; simp [h0, h3]
theorem dd_l26 (v T : Nat → Int) (h0 : v 0 = 0) (h1 : v 1 = 0) (h2 : v 2 = 0) (h3 : v 3 = 0) : dd_wd v T 26 = v 4 * T 10 := by rw [dd_w26]; simp [h1, h3]
theorem dd_l27 (v T : Nat → Int) (h0 : v 0 = 0) (h1 : v 1 = 0) (h2 : v 2 = 0) (h3 : v 3 = 0) : dd_wd v T 27 = v 4 * T 11 := by rw [dd_w27]; simp [h0, h1, h3]
theorem dd_l28 (v T : Nat → Int) (h0 : v 0 = 0) (h1 : v 1 = 0) (h2 : v 2 = 0) (h3 : v 3 = 0) : dd_wd v T 28 = v 4 * T 12 := by rw [dd_w28]; simp [h2, h3]
theorem dd_l29 (v T : Nat → Int) (h0 : v 0 = 0) (h1 : v 1 = 0) (h2 : v 2 = 0) (h3 : v 3 = 0) : dd_wd v T 29 = v 4 * T 13 := by rw [dd_w29]; simp [h0, h2, h3]
theorem dd_l30 (v T : Nat → Int) (h0 : v 0 = 0) (h1 : v 1 = 0) (h2 : v 2 = 0) (h3 : v 3 = 0) : dd_wd v T 30 = v 4 * T 14 := by rw [dd_w30]; simp [h1, h2, h3]
theorem dd_l31 (v T : Nat → Int) (h0 : v 0 = 0) (h1 : v 1 = 0) (h2 : v 2 = 0) (h3 : v 3 = 0) : dd_wd v T 31 = v 4 * T 15 := by rw [dd_w31]; simp [h0, h1, h2, h3]
theorem dd_lead (v T : Nat → Int) (c s : Nat) (hc : c < 5) (hs : s < 2 ^ c) (h : ∀ j, j < c → v j = 0) : dd_wd v T (s + 2 ^ c) = v c * T s := by
  have e : c = 0 ∨ c = 1 ∨ c = 2 ∨ c = 3 ∨ c = 4 := by omega
  rcases e with rfl | rfl | rfl | rfl | rfl
  · have e : s = 0 := by omega
    subst e
    · exact dd_l1 v T 
  · have e : s = 0 ∨ s = 1 := by omega
    rcases e with rfl | rfl
    · exact dd_l2 v T (h 0 (by decide))
    · exact dd_l3 v T (h 0 (by decide))
  · have e : s = 0 ∨ s = 1 ∨ s = 2 ∨ s = 3 := by omega
    rcases e with rfl | rfl | rfl | rfl
    · exact dd_l4 v T (h 0 (by decide)) (h 1 (by decide))
    · exact dd_l5 v T (h 0 (by decide)) (h 1 (by decide))
    · exact dd_l6 v T (h 0 (by decide)) (h 1 (by decide))
    · exact dd_l7 v T (h 0 (by decide)) (h 1 (by decide))
  · have e : s = 0 ∨ s = 1 ∨ s = 2 ∨ s = 3 ∨ s = 4 ∨ s = 5 ∨ s = 6 ∨ s = 7 := by omega
    rcases e with rfl | rfl | rfl | rfl | rfl | rfl | rfl | rfl
    · exact dd_l8 v T (h 0 (by decide)) (h 1 (by decide)) (h 2 (by decide))
    · exact dd_l9 v T (h 0 (by decide)) (h 1 (by decide)) (h 2 (by decide))
    · exact dd_l10 v T (h 0 (by decide)) (h 1 (by decide)) (h 2 (by decide))
    · exact dd_l11 v T (h 0 (by decide)) (h 1 (by decide)) (h 2 (by decide))
    · exact dd_l12 v T (h 0 (by decide)) (h 1 (by decide)) (h 2 (by decide))
    · exact dd_l13 v T (h 0 (by decide)) (h 1 (by decide)) (h 2 (by decide))
    · exact dd_l14 v T (h 0 (by decide)) (h 1 (by decide)) (h 2 (by decide))
    · exact dd_l15 v T (h 0 (by decide)) (h 1 (by decide)) (h 2 (by decide))
  · have e : s = 0 ∨ s = 1 ∨ s = 2 ∨ s = 3 ∨ s = 4 ∨ s = 5 ∨ s = 6 ∨ s = 7 ∨ s = 8 ∨ s = 9 ∨ s = 10 ∨ s = 11 ∨ s = 12 ∨ s = 13 ∨ s = 14 ∨ s = 15 := by omega
    rcases e with rfl | rfl | rfl | rfl | rfl | rfl | rfl | rfl | rfl | rfl | rfl | rfl | rfl | rfl | rfl | rfl
    · exact dd_l16 v T (h 0 (by decide)) (h 1 (by decide)) (h 2 (by decide)) (h 3 (by decide))
    · exact dd_l17 v T (h 0 (by decide)) (h 1 (by decide)) (h 2 (by decide)) (h 3 (by decide))
    · exact dd_l18 v T (h 0 (by decide)) (h 1 (by decide)) (h 2 (by decide)) (h 3 (by decide))
    · exact dd_l19 v T (h 0 (by decide)) (h 1 (by decide)) (h 2 (by decide)) (h 3 (by decide))
    · exact dd_l20 v T (h 0 (by decide)) (h 1 (by decide)) (h 2 (by decide)) (h 3 (by decide))
    · exact dd_l21 v T (h 0 (by decide)) (h 1 (by decide)) (h 2 (by decide)) (h 3 (by decide))
    · exact dd_l22 v T (h 0 (by decide)) (h 1 (by decide)) (h 2 (by decide)) (h 3 (by decide))
    · exact dd_l23 v T (h 0 (by decide)) (h 1 (by decide)) (h 2 (by decide)) (h 3 (by decide))
    · exact dd_l24 v T (h 0 (by decide)) (h 1 (by decide)) (h 2 (by decide)) (h 3 (by decide))
    · exact dd_l25 v T (h 0 (by decide)) (h 1 (by decide)) (h 2 (by decide)) (h 3 (by decide))
    · exact dd_l26 v T (h 0 (by decide)) (h 1 (by decide)) (h 2 (by decide)) (h 3 (by decide))
    · exact dd_l27 v T (h 0 (by decide)) (h 1 (by decide)) (h 2 (by decide)) (h 3 (by decide))
    · exact dd_l28 v T (h 0 (by decide)) (h 1 (by decide)) (h 2 (by decide)) (h 3 (by decide))
    · exact dd_l29 v T (h 0 (by decide)) (h 1 (by decide)) (h 2 (by decide)) (h 3 (by decide))
    · exact dd_l30 v T (h 0 (by decide)) (h 1 (by decide)) (h 2 (by decide)) (h 3 (by decide))
    · exact dd_l31 v T (h 0 (by decide)) (h 1 (by decide)) (h 2 (by decide)) (h 3 (by decide))
end
section
/-! too few columns; sets of rows; sorting; vanishing minors -/
theorem dd_on_d : ∀ S, S < 32 → ∀ j, j < 5 → S / 2 ^ j % 2 = 1 → dd_on (S - 2 ^ j) + 1 = dd_on S := by decide +kernel
theorem dd_on_e : ∀ S, S < 32 → ∀ j, j < 5 → ∀ c, c < j → S / 2 ^ j % 2 = 1 → dd_on ((S - 2 ^ j) / 2 ^ (c + 1)) + 1 = dd_on (S / 2 ^ (c + 1)) := by decide +kernel
/-- a determinant with another number of columns than rows is 0 here -/
theorem dd_dt_on : ∀ (l : List (Nat → Int)) (S : Nat), S < 32 → dd_on S ≠ l.length → dd_dt l S = 0 := by
  intro l
  induction l with
  | nil =>
    intro S hS h
    have e : S ≠ 0 := by
      intro e; subst e; exact h rfl
    exact if_neg e
  | cons v l ih =>
    intro S hS h
    have t : ∀ j, j < 5 → dd_tm v (dd_dt l) S j = 0 := by
      intro j hj
      by_cases e : S / 2 ^ j % 2 = 1
      · simp only [dd_tm, if_pos e]
        have h1 := dd_on_d S hS j hj e
        rw [List.length_cons] at h
        rw [ih (S - 2 ^ j) (Nat.lt_of_le_of_lt (Nat.sub_le _ _) hS) (by omega)]
        simp
      · simp only [dd_tm, if_neg e]
    show dd_wd v (dd_dt l) S = 0
    simp only [dd_wd, if_pos hS]
    rw [t 0 (by decide), t 1 (by decide), t 2 (by decide), t 3 (by decide), t 4 (by decide)]
    rfl
theorem dd_few {A : Nat → Nat → Int} {c : Nat} (l2 : List (Nat → Int)) : ∀ (idx : List Nat) (S : Nat), S < 32 → (∀ i, i ∈ idx → ∀ j, j ≤ c → A i j = 0) → dd_on (S / 2 ^ (c + 1)) < idx.length → dd_dt (idx.map A ++ l2) S = 0 := by
  intro idx
  induction idx with
  | nil => intro S _ _ h; exact absurd h (Nat.not_lt_zero _)
  | cons i idx ih =>
    intro S hS h hl
    have t : ∀ j, j < 5 → dd_tm (A i) (dd_dt (idx.map A ++ l2)) S j = 0 := by
      intro j hj
      by_cases e : S / 2 ^ j % 2 = 1
      · simp only [dd_tm, if_pos e]
        rcases Nat.lt_or_ge c j with hc | hc
        · have h1 := dd_on_e S hS j hj c hc e
          rw [List.length_cons] at hl
          rw [ih (S - 2 ^ j) (Nat.lt_of_le_of_lt (Nat.sub_le _ _) hS) (fun k hk => h k (List.mem_cons_of_mem _ hk)) (by omega)]
          simp
        · rw [h i (List.mem_cons_self ..) j hc]
          simp
      · simp only [dd_tm, if_neg e]
    show dd_wd (A i) (dd_dt (idx.map A ++ l2)) S = 0
    simp only [dd_wd, if_pos hS]
    rw [t 0 (by decide), t 1 (by decide), t 2 (by decide), t 3 (by decide), t 4 (by decide)]
    rfl
theorem dd_on_s : ∀ n, n < 5 → ∀ c, c < n → dd_on ((2 ^ n - 1) / 2 ^ (c + 1)) < n - c := by decide +kernel
theorem dd_sing {A : Nat → Nat → Int} {n c : Nat} (hn : n < 5) (hc : c < n) (h : ∀ i, c ≤ i → i < n → ∀ j, j ≤ c → A i j = 0) : dd_dt ((dd_dn n).map A) (2 ^ n - 1) = 0 := by
  obtain ⟨x, e, hl, hx⟩ := dd_dn_a c (n - c)
  have en : c + (n - c) = n := by omega
  rw [en] at e hx
  rw [e, List.map_append]
  have h2 : (2 : Nat) ^ n ≤ 2 ^ 4 := Nat.pow_le_pow_right (by decide) (by omega)
  exact dd_few _ x (2 ^ n - 1) (by omega) (fun i hi => h i (hx i hi).1 (hx i hi).2) (by rw [hl]; exact dd_on_s n hn c hc)
/-- the rows below n of a set of rows, the greatest first -/
def dd_bl : Nat → Nat → List Nat
  | 0, _ => []
  | n + 1, m => if m / 2 ^ n % 2 = 1 then n :: dd_bl n m else dd_bl n m
theorem dd_move : ∀ (hi : List (Nat → Int)) (u : Nat → Int) (lo : List (Nat → Int)), ∃ e : Int, (e = 1 ∨ e = -1) ∧ ∀ S, dd_dt (u :: (hi ++ lo)) S = e * dd_dt (hi ++ u :: lo) S := by
  intro hi
  induction hi with
  | nil => intro u lo; exact ⟨1, Or.inl rfl, fun S => (Int.one_mul _).symm⟩
  | cons h hi ih =>
    intro u lo
    obtain ⟨e, he, hS⟩ := ih u lo
    refine ⟨-e, by omega, fun S => ?_⟩
    have h1 := dd_adj u h (hi ++ lo) [] S
    have h2 : dd_dt (u :: (h :: hi ++ lo)) S = - dd_dt (h :: u :: (hi ++ lo)) S := h1
    have h3 : dd_dt (u :: (hi ++ lo)) = fun S => e * dd_dt (hi ++ u :: lo) S := funext hS
    have h4 : dd_dt (h :: u :: (hi ++ lo)) S = e * dd_dt (h :: (hi ++ u :: lo)) S := by
      show dd_wd h (dd_dt (u :: (hi ++ lo))) S = _
      rw [h3]
      exact dd_wd_c h _ e S
    rw [h2, h4, Int.neg_mul]
    rfl
theorem dd_ins1 : ∀ m, m < 16 → ∀ i, i < 4 → m / 2 ^ i % 2 = 1 → dd_bl 4 m = (dd_bl 4 m).filter (fun k => i < k) ++ i :: (dd_bl 4 m).filter (fun k => k < i) := by decide +kernel
theorem dd_ins2 : ∀ m, m < 16 → ∀ i, i < 4 → ¬ m / 2 ^ i % 2 = 1 → dd_bl 4 m = (dd_bl 4 m).filter (fun k => i < k) ++ (dd_bl 4 m).filter (fun k => k < i) ∧ dd_bl 4 (m + 2 ^ i) = (dd_bl 4 m).filter (fun k => i < k) ++ i :: (dd_bl 4 m).filter (fun k => k < i) ∧ m + 2 ^ i < 16 := by decide +kernel
theorem dd_ins3 : ∀ m, m < 16 → ∀ i, i < 4 → ∀ k, k < 4 → (m / 2 ^ i % 2 = 1 ∨ ¬ (m + 2 ^ i) / 2 ^ k % 2 = 1) ∨ (k = i ∨ m / 2 ^ k % 2 = 1) := by decide +kernel
theorem dd_sort (A : Nat → Nat → Int) : ∀ (idx : List Nat), (∀ i, i ∈ idx → i < 4) → (∀ S, dd_dt (idx.map A) S = 0) ∨ ∃ m, m < 16 ∧ (dd_bl 4 m).length = idx.length ∧ (∀ i, i < 4 → m / 2 ^ i % 2 = 1 → i ∈ idx) ∧ ∃ e : Int, (e = 1 ∨ e = -1) ∧ ∀ S, dd_dt (idx.map A) S = e * dd_dt ((dd_bl 4 m).map A) S := by
  intro idx
  induction idx with
  | nil =>
    intro _
    refine Or.inr ⟨0, by decide, by decide, ?_, 1, Or.inl rfl, fun S => ?_⟩
    · intro i _ h
      rw [Nat.zero_div] at h
      exact absurd h (by decide)
    · rw [Int.one_mul]; rfl
  | cons i idx ih =>
    intro h
    have hi : i < 4 := h i (List.mem_cons_self ..)
    rcases ih (fun k hk => h k (List.mem_cons_of_mem _ hk)) with z | ⟨m, hm, hl, hk, e, he, hS⟩
    · refine Or.inl fun S => ?_
      have z2 : dd_dt (idx.map A) = fun _ => 0 := funext z
      show dd_wd (A i) (dd_dt (idx.map A)) S = 0
      rw [z2]
      exact dd_wd_0 _ S
    · have h3 : dd_dt (idx.map A) = fun S => e * dd_dt ((dd_bl 4 m).map A) S := funext hS
      have h4 : ∀ S, dd_dt ((i :: idx).map A) S = e * dd_dt (A i :: (dd_bl 4 m).map A) S := by
        intro S
        show dd_wd (A i) (dd_dt (idx.map A)) S = _
        rw [h3]
        exact dd_wd_c (A i) _ e S
      by_cases b : m / 2 ^ i % 2 = 1
      · refine Or.inl fun S => ?_
        rw [h4 S, dd_ins1 m hm i hi b, List.map_append, List.map_cons]
        have z := dd_dup (A i) (List.map A ((dd_bl 4 m).filter (fun k => k < i))) (List.map A ((dd_bl 4 m).filter (fun k => i < k))) [] S
        have z2 : dd_dt (A i :: (List.map A ((dd_bl 4 m).filter (fun k => i < k)) ++ A i :: List.map A ((dd_bl 4 m).filter (fun k => k < i)))) S = 0 := z
        rw [z2, Int.mul_zero]
      · obtain ⟨e1, e2, h16⟩ := dd_ins2 m hm i hi b
        obtain ⟨e', he', hS'⟩ := dd_move (List.map A ((dd_bl 4 m).filter (fun k => i < k))) (A i) (List.map A ((dd_bl 4 m).filter (fun k => k < i)))
        refine Or.inr ⟨m + 2 ^ i, h16, ?_, ?_, e * e', ?_, fun S => ?_⟩
        · have l1 := congrArg List.length e1
          rw [e2, List.length_append, List.length_cons, List.length_cons]
          rw [List.length_append] at l1
          omega
        · intro k hk4 hb
          rcases dd_ins3 m hm i hi k hk4 with (q | q) | (q | q)
          · exact absurd q b
          · exact absurd hb q
          · rw [q]; exact List.mem_cons_self ..
          · exact List.mem_cons_of_mem _ (hk k hk4 q)
        · rcases he with rfl | rfl <;> rcases he' with rfl | rfl <;> decide
        · have q1 : dd_dt (A i :: (dd_bl 4 m).map A) S = e' * dd_dt ((dd_bl 4 (m + 2 ^ i)).map A) S := by
            rw [e2, List.map_append, List.map_cons, ← hS' S, ← List.map_append, ← e1]
          rw [h4 S, q1, Int.mul_assoc]
/-- all determinants of s of these rows vanish, in columns below c -/
def dd_van (P : Int) (M : (Nat → Int) → Prop) (s c : Nat) : Prop := ∀ l : List (Nat → Int), l.length = s → (∀ v, v ∈ l → M v) → ∀ S, S < 2 ^ c → dd_cg P (dd_dt l S) 0
theorem dd_span {P : Int} {M N : (Nat → Int) → Prop} {s c : Nat} (h : ∀ v, N v → ∃ u, M u ∧ ∃ t, M t ∧ ∃ f : Int, ∀ j, j < 5 → dd_cg P (v j) (u j + f * t j)) (hv : dd_van P M s c) : dd_van P N s c := by
  have key : ∀ (l1 l2 : List (Nat → Int)), (∀ v, v ∈ l1 → N v) → (∀ v, v ∈ l2 → M v) → l2.length + l1.length = s → ∀ S, S < 2 ^ c → dd_cg P (dd_dt (l2 ++ l1) S) 0 := by
    intro l1
    induction l1 with
    | nil =>
      intro l2 _ h2 hl S hS
      rw [List.append_nil]
      exact hv l2 hl h2 S hS
    | cons v l1 ih =>
      intro l2 h1 h2 hl S hS
      obtain ⟨u, hu, t, ht, f, hj⟩ := h v (h1 v (List.mem_cons_self ..))
      have k : ∀ w, M w → dd_cg P (dd_dt (l2 ++ w :: l1) S) 0 := by
        intro w hw
        have q := ih (l2 ++ [w]) (fun v hv => h1 v (List.mem_cons_of_mem _ hv)) (by
          intro v hv
          rcases List.mem_append.mp hv with q | q
          · exact h2 v q
          · rw [List.mem_singleton.mp q]; exact hw) (by
          rw [List.length_append, List.length_singleton]
          rw [List.length_cons] at hl
          omega) S hS
        rw [List.append_assoc] at q
        exact q
      refine dd_ct (dd_mid hj l1 l2 S) ?_
      rw [dd_lin]
      have q := dd_ca (k u hu) (dd_c0 (b := f) (k t ht))
      exact q
  intro l hl hN S hS
  exact key l [] hN (fun v hv => by cases hv) (by rw [List.length_nil, Nat.zero_add]; exact hl) S hS
theorem dd_sub {P : Int} {M N : (Nat → Int) → Prop} {s c : Nat} (h : ∀ v, N v → M v) (hv : dd_van P M s c) : dd_van P N s c :=
  fun l hl hN S hS => hv l hl (fun v hv => h v (hN v hv)) S hS
theorem dd_idx {A : Nat → Nat → Int} {R : Nat → Prop} : ∀ (l : List (Nat → Int)), (∀ v, v ∈ l → ∃ i, R i ∧ v = A i) → ∃ idx : List Nat, l = idx.map A ∧ ∀ i, i ∈ idx → R i := by
  intro l
  induction l with
  | nil => intro _; exact ⟨[], rfl, fun i hi => by cases hi⟩
  | cons v l ih =>
    intro h
    obtain ⟨i, hi, e⟩ := h v (List.mem_cons_self ..)
    obtain ⟨idx, e2, h2⟩ := ih (fun v hv => h v (List.mem_cons_of_mem _ hv))
    refine ⟨i :: idx, by rw [e, e2]; rfl, ?_⟩
    intro k hk
    rcases List.mem_cons.mp hk with q | q
    · rw [q]; exact hi
    · exact h2 k q
theorem dd_pig : ∀ m, m < 16 → ∀ r, r < 4 → r < (dd_bl 4 m).length → ∃ i, i < 4 ∧ r ≤ i ∧ m / 2 ^ i % 2 = 1 := by decide +kernel
theorem dd_len4 : ∀ m, m < 16 → (dd_bl 4 m).length ≤ 4 := by decide +kernel
theorem dd_up {P : Int} {A : Nat → Nat → Int} {n r c s : Nat} (hn : n ≤ 4) (h : ∀ i, r ≤ i → i < n → ∀ j, j < c → dd_cg P (A i j) 0) (hs : r < s) : dd_van P (fun v => ∃ i, i < n ∧ v = A i) s c := by
  intro l hl hM S hS
  obtain ⟨idx, e, hi⟩ := dd_idx l hM
  rcases dd_sort A idx (fun i q => by have := hi i q; omega) with z | ⟨m, hm, hlm, hk, _⟩
  · rw [e]; exact dd_cq (z S)
  · have hl2 : idx.length = s := by rw [← hl, e, List.length_map]
    have h4 := dd_len4 m hm
    obtain ⟨i, hi4, hri, hb⟩ := dd_pig m hm r (by omega) (by omega)
    have q := hk i hi4 hb
    exact dd_zero (h i hri (hi i q)) l (by rw [e]; exact List.mem_map_of_mem q) S hS
end
section
/-! the two primes: powers and inverses -/
theorem dd_f1 : ∀ a, a < 182 → 0 < a → a ^ 32748 % 32749 = 1 := by decide +kernel
theorem dd_f2 : ∀ a, a < 182 → 0 < a → a ^ 32718 % 32719 = 1 := by decide +kernel
theorem dd_p1 : ∀ a, a < 182 → 1 < a → 32749 % a ≠ 0 := by decide +kernel
theorem dd_p2 : ∀ a, a < 182 → 1 < a → 32719 % a ≠ 0 := by decide +kernel
theorem dd_sq {p m s r : Nat} (h : s + r = p) : s ^ (2 * m) % p = r ^ (2 * m) % p := by
  have e : s ^ 2 % p = r ^ 2 % p := by
    have k : s ^ 2 + p * (2 * r) = r ^ 2 + p * p := by
      subst h
      rw [Nat.pow_two, Nat.pow_two, Nat.add_mul, Nat.mul_add, Nat.add_mul, Nat.add_mul]
      have c : r * s = s * r := Nat.mul_comm r s
      have d : s * (2 * r) = 2 * (s * r) := Nat.mul_left_comm s 2 r
      have d2 : r * (2 * r) = 2 * (r * r) := Nat.mul_left_comm r 2 r
      omega
    have k2 := congrArg (· % p) k
    simp only [Nat.add_mul_mod_self_left] at k2
    exact k2
  rw [Nat.pow_mul, Nat.pow_mul, Nat.pow_mod, e, ← Nat.pow_mod]
theorem dd_fer {p m : Nat} (hs : ∀ a, a < 182 → 0 < a → a ^ (2 * m) % p = 1) (hd : ∀ a, a < 182 → 1 < a → p % a ≠ 0) (hp : p < 33000) : ∀ a, 0 < a → a < p → a ^ (2 * m) % p = 1 := by
  intro a
  induction a using Nat.strongRecOn with
  | ind a ih =>
    intro h0 h1
    rcases Nat.lt_or_ge a 182 with h2 | h2
    · exact hs a h2 h0
    · have e : a * (p / a) + p % a = p := Nat.div_add_mod p a
      have hr : p % a < a := Nat.mod_lt p h0
      have hq1 : 0 < p / a := Nat.div_pos (by omega) h0
      have hq2 : p / a < 182 := by
        apply Nat.div_lt_of_lt_mul
        have : a * 182 ≥ 182 * 182 := Nat.mul_le_mul_right 182 h2
        omega
      have hr0 : 0 < p % a := by
        rcases Nat.eq_zero_or_pos (p % a) with z | z
        · exfalso
          rw [z, Nat.add_zero] at e
          have q2 : 1 < p / a := by
            rcases Nat.lt_or_ge 1 (p / a) with y | y
            · exact y
            · have y1 : p / a = 1 := by omega
              rw [y1, Nat.mul_one] at e
              omega
          have q3 := hd (p / a) hq2 q2
          apply q3
          have q4 : (a * (p / a)) % (p / a) = 0 := Nat.mul_mod_left a (p / a)
          rw [e] at q4
          exact q4
        · exact z
      have k1 := hs (p / a) hq2 hq1
      have k2 := ih (p % a) hr hr0 (by omega)
      have k3 := dd_sq (m := m) e
      rw [k2, Nat.mul_pow, Nat.mul_mod, k1, Nat.mul_one, Nat.mod_mod] at k3
      exact k3
theorem dd_F1 : ∀ a : Nat, 0 < a → a < 32749 → a ^ (32747 + 1) % 32749 = 1 := dd_fer (m := 16374) dd_f1 dd_p1 (by decide)
theorem dd_F2 : ∀ a : Nat, 0 < a → a < 32719 → a ^ (32717 + 1) % 32719 = 1 := dd_fer (m := 16359) dd_f2 dd_p2 (by decide)
theorem dd_inv_g {p e : Nat} (h : ∀ a : Nat, 0 < a → a < p → a ^ (e + 1) % p = 1) {a : Int} (h0 : 0 < a) (h1 : a < p) : (a * (a ^ e % (p : Int))) % (p : Int) = 1 := by
  obtain ⟨n, rfl⟩ : ∃ n : Nat, a = n := ⟨a.toNat, by omega⟩
  have k := h n (by omega) (by omega)
  rw [Int.mul_emod, Int.emod_emod_of_dvd _ (Int.dvd_refl _), ← Int.mul_emod, ← Int.pow_succ', ← Int.natCast_pow, ← Int.natCast_emod, k]
  rfl
def dd_pr (P : Int) : Prop := P = 32749 ∨ P = 32719
/-- the exponent of the inverse -/
def dd_ex (P : Int) : Nat := (P - 2).toNat
theorem dd_iv {P a : Int} (hP : dd_pr P) (h0 : 0 < a) (h1 : a < P) : (a * (a ^ dd_ex P % P)) % P = 1 := by
  rcases hP with rfl | rfl
  · exact dd_inv_g (p := 32749) (e := 32747) dd_F1 h0 h1
  · exact dd_inv_g (p := 32719) (e := 32717) dd_F2 h0 h1
theorem dd_pp {P : Int} (hP : dd_pr P) : 0 < P ∧ P < 32768 := by
  rcases hP with rfl | rfl <;> decide
/-- no divisors of 0 -/
theorem dd_dom {P x y : Int} (hP : dd_pr P) (h0 : 0 < x) (h1 : x < P) (h : dd_cg P (x * y) 0) : dd_cg P y 0 := by
  have k := dd_iv hP h0 h1
  have k2 : dd_cg P (x * (x ^ dd_ex P % P)) 1 := by
    unfold dd_cg
    rw [k]
    rcases hP with rfl | rfl <;> decide
  have k3 : dd_cg P ((x ^ dd_ex P % P) * (x * y)) 0 := dd_c0 h
  have k4 : dd_cg P ((x * (x ^ dd_ex P % P)) * y) (1 * y) := dd_cm k2 (dd_cr P y)
  have e : (x ^ dd_ex P % P) * (x * y) = (x * (x ^ dd_ex P % P)) * y := by
    rw [Int.mul_left_comm, Int.mul_assoc]
  rw [e] at k3
  rw [Int.one_mul] at k4
  exact dd_ct (dd_cs k4) k3
end
section
/-! remainders: reduce, times, inverse -/
def dd_rg (P : Int) (x : Int32) : Prop := 0 ≤ x.toInt ∧ x.toInt < P
theorem dd_rm {P : Int} (hP : dd_pr P) (x : Int) : 0 ≤ x % P ∧ x % P < P :=
  ⟨Int.emod_nonneg x (by have := dd_pp hP; omega), Int.emod_lt_of_pos x (dd_pp hP).1⟩
theorem dd_rr {P : Int} (hP : dd_pr P) {r : Int32} {x : Int} (h : r.toInt = x % P) : dd_rg P r := by
  unfold dd_rg
  rw [h]
  exact dd_rm hP x
theorem dd_rc {P : Int} {r : Int32} {x : Int} (h : r.toInt = x % P) : dd_cg P r.toInt x := by
  rw [h]
  exact dd_ce P x
theorem dd_re {P x y : Int} (hx : 0 ≤ x ∧ x < P) (hy : 0 ≤ y ∧ y < P) (h : dd_cg P x y) : x = y := by
  unfold dd_cg at h
  rw [Int.emod_eq_of_lt hx.1 hx.2, Int.emod_eq_of_lt hy.1 hy.2] at h
  exact h
theorem dd_td (x : Int) {P : Int} (hP : dd_pr P) : ∃ q t : Int, x.tdiv P = q ∧ x = P * q + t ∧ (0 ≤ x → 0 ≤ t ∧ t < P) ∧ (x < 0 → -P < t ∧ t ≤ 0) := by
  by_cases h : 0 ≤ x
  · refine ⟨x / P, x % P, Int.tdiv_eq_ediv_of_nonneg h, (Int.mul_ediv_add_emod x P).symm, fun _ => dd_rm hP x, fun k => ?_⟩
    omega
  · have e : x.tdiv P = -((-x) / P) := by
      have k := Int.neg_tdiv (-x) P
      rw [Int.neg_neg] at k
      rw [k, Int.tdiv_eq_ediv_of_nonneg (by omega)]
    refine ⟨-((-x) / P), -((-x) % P), e, ?_, fun k => ?_, fun _ => ?_⟩
    · have k := Int.mul_ediv_add_emod (-x) P
      rw [Int.mul_neg]
      omega
    · omega
    · have k := dd_rm hP (-x)
      omega
theorem dd_Fv {P : Int} (hP : dd_pr P) {F : Int32} (hF : F.toInt = P) : (P = 32749 ∧ F = 32749) ∨ (P = 32719 ∧ F = 32719) := by
  rcases hP with rfl | rfl
  · exact Or.inl ⟨rfl, Int32.toInt_inj.mp (by rw [hF]; decide)⟩
  · exact Or.inr ⟨rfl, Int32.toInt_inj.mp (by rw [hF]; decide)⟩
theorem dd_red0 {P : Int} (hP : dd_pr P) {F : Int32} (hF : F.toInt = P) (x : Int32) : ∃ z : Int32, x - x / F * F = z ∧ (0 ≤ z → z.toInt = x.toInt % P) ∧ (¬ 0 ≤ z → (z + F).toInt = x.toInt % P) := by
  refine ⟨_, rfl, ?_⟩
  have hF1 : F ≠ -1 := by
    rcases dd_Fv hP hF with ⟨_, e⟩ | ⟨_, e⟩ <;> rw [e] <;> decide
  obtain ⟨q, t, e1, e2, e3, e4⟩ := dd_td x.toInt hP
  have d : (x / F).toInt = q := by rw [Int32.toInt_div_of_ne_right _ _ hF1, hF, e1]
  have b1 := x.le_toInt
  have b2 := x.toInt_lt
  have m : (x / F * F).toInt = q * P := by
    rw [Jvm.Kit.i32_mul]
    · rw [d, hF]
    · rw [d, hF]; rcases hP with rfl | rfl <;> omega
    · rw [d, hF]; rcases hP with rfl | rfl <;> omega
  have z : (x - x / F * F).toInt = t := by
    rw [Jvm.Kit.i32_sub]
    · rw [m]; rcases hP with rfl | rfl <;> omega
    · rw [m]; rcases hP with rfl | rfl <;> omega
    · rw [m]; rcases hP with rfl | rfl <;> omega
  have z0 : (0 : Int32).toInt = 0 := by decide
  constructor
  · intro h
    rw [Int32.le_iff_toInt_le, z, z0] at h
    rw [z]
    rcases hP with rfl | rfl <;> omega
  · intro h
    rw [Int32.le_iff_toInt_le, z, z0] at h
    rw [Jvm.Kit.i32_add]
    · rw [z, hF]; rcases hP with rfl | rfl <;> omega
    · rw [z, hF]; rcases hP with rfl | rfl <;> omega
    · rw [z, hF]; rcases hP with rfl | rfl <;> omega
theorem dd_red {P : Int} (hP : dd_pr P) {F : Int32} (hF : F.toInt = P) {a w v g s : Nat → Int32} {x : Int32} {post : Int32 → Prop} (h : ∀ r : Int32, r.toInt = x.toInt % P → post r) : wpX_reduce post (F, a, w, v, g, s) x := by
  obtain ⟨z, e, h1, h2⟩ := dd_red0 hP hF x
  have f1 : ¬ F ≤ 0 := by
    rcases dd_Fv hP hF with ⟨_, e⟩ | ⟨_, e⟩ <;> rw [e] <;> decide
  have f2 : ¬ F = 0 := by
    rcases dd_Fv hP hF with ⟨_, e⟩ | ⟨_, e⟩ <;> rw [e] <;> decide
  refine br_f f1 (And.intro f2 ?_)
  rw [e]
  exact br_c (fun k => h _ (h1 k)) (fun k => h _ (h2 k))
theorem dd_mb {x y : Int} (hx : 0 ≤ x ∧ x < 32768) (hy : 0 ≤ y ∧ y < 32768) : 0 ≤ x * y ∧ x * y ≤ 1073676289 := by
  have h : x * y ≤ 32767 * 32767 := Int.mul_le_mul (by omega) (by omega) hy.1 (by omega)
  exact ⟨Int.mul_nonneg hx.1 hy.1, h⟩
theorem dd_tim {P : Int} (hP : dd_pr P) {F : Int32} (hF : F.toInt = P) {a w v g s : Nat → Int32} {x y : Int32} (hx : 0 ≤ x.toInt ∧ x.toInt < 32768) (hy : 0 ≤ y.toInt ∧ y.toInt < 32768) {post : Int32 → Prop} (h : ∀ r : Int32, r.toInt = (x.toInt * y.toInt) % P → post r) : wpX_times post (F, a, w, v, g, s) x y := by
  have b := dd_mb hx hy
  have e : (x * y).toInt = x.toInt * y.toInt := Jvm.Kit.i32_mul (by omega) (by omega)
  unfold wpX_times
  exact dd_red hP hF (fun r hr => h r (by rw [hr, e]))
theorem dd_r8 {P : Int} (hP : dd_pr P) {x : Int32} (h : dd_rg P x) : 0 ≤ x.toInt ∧ x.toInt < 32768 := by
  have := dd_pp hP
  unfold dd_rg at h
  omega
theorem dd_bit {S k : Nat} (hS : S < 2 ^ 31) (hk : k < 32) : (nI S >>> (nI k &&& 31)) &&& 1 = nI (S / 2 ^ k % 2) := by
  rw [pk_shrN hS _ k (s_l k hk)]
  exact pk_andN (Nat.lt_of_le_of_lt (Nat.div_le_self _ _) (by omega)) 1 (by decide)
theorem dd_exF {P : Int} (hP : dd_pr P) {F : Int32} (hF : F.toInt = P) : F - 2 = nI (dd_ex P) ∧ dd_ex P < 2 ^ 15 := by
  rcases dd_Fv hP hF with ⟨e1, e⟩ | ⟨e1, e⟩ <;> rw [e, e1] <;> decide +kernel
theorem dd_inv {P : Int} (hP : dd_pr P) {F : Int32} (hF : F.toInt = P) {a w v g s : Nat → Int32} {x : Int32} (hx : dd_rg P x) (h0 : x.toInt ≠ 0) {post : Int32 → Prop} (h : ∀ r : Int32, dd_rg P r → (x.toInt * r.toInt) % P = 1 → post r) : wpX_inverse post (F, a, w, v, g, s) x := by
  obtain ⟨hE, hE2⟩ := dd_exF hP hF
  have hp := dd_pp hP
  refine loop_0 (fun n k (t : Int32 × Int32) => wX_inverse_7 post F a w v g s n t.1 t.2 (nI k)) (fun k t => t.1.toInt = x.toInt ^ (dd_ex P % 2 ^ k) % P ∧ t.2.toInt = x.toInt ^ (2 ^ k) % P) 15 (1, x) ?_ ?_ ?_
  · constructor
    · show (1 : Int32).toInt = x.toInt ^ (dd_ex P % 2 ^ 0) % P
      rw [Nat.pow_zero, Nat.mod_one, Int.pow_zero, show (1 : Int32).toInt = 1 from by decide]
      rcases hP with rfl | rfl <;> decide
    · show x.toInt = x.toInt ^ (2 ^ 0) % P
      rw [Nat.pow_zero, show x.toInt ^ 1 = x.toInt from by rw [Int.pow_succ, Int.pow_zero, Int.one_mul]]
      exact (Int.emod_eq_of_lt hx.1 hx.2).symm
  · rintro n ⟨y, z⟩ ⟨h1, h2⟩
    show wX_inverse_7 post F a w v g s (n + 1) y z (nI 15)
    have h1' : y.toInt = x.toInt ^ (dd_ex P % 2 ^ 15) % P := h1
    rw [Nat.mod_eq_of_lt hE2] at h1'
    refine br_t (by decide) (h y (dd_rr hP h1') ?_)
    rw [h1']
    exact dd_iv hP (by have := hx.1; omega) hx.2
  · rintro n k ⟨y, z⟩ hk ⟨h1, h2⟩ ih
    show wX_inverse_7 post F a w v g s (n + 1) y z (nI k)
    have h1' : y.toInt = x.toInt ^ (dd_ex P % 2 ^ k) % P := h1
    have h2' : z.toInt = x.toInt ^ (2 ^ k) % P := h2
    have ry := dd_r8 hP (dd_rr hP h1')
    have rz := dd_r8 hP (dd_rr hP h2')
    have hk15 : ¬ (15 : Int32) ≤ nI k := nI_ge (b := 15) hk (by decide)
    have hb : ((F - 2) >>> (nI k &&& 31)) &&& 1 = nI (dd_ex P / 2 ^ k % 2) := by
      rw [hE]; exact dd_bit (by omega) (by omega)
    have e2 : ∀ r : Int32, r.toInt = (z.toInt * z.toInt) % P → r.toInt = x.toInt ^ (2 ^ (k + 1)) % P := by
      intro r hr
      rw [hr, h2', ← Int.mul_emod, ← Int.pow_add, Nat.pow_succ, Nat.mul_two]
    refine br_f hk15 ?_
    by_cases b : dd_ex P / 2 ^ k % 2 = 0
    · refine br_t (by rw [hb, b]; rfl) ?_
      unfold wX_inverse_35
      refine dd_tim hP hF rz rz (fun r hr => nm_r (nI_1 k) (ih (y, r) ⟨?_, e2 r hr⟩))
      show y.toInt = x.toInt ^ (dd_ex P % 2 ^ (k + 1)) % P
      rw [Nat.mod_pow_succ, b, Nat.mul_zero, Nat.add_zero]
      exact h1'
    · refine br_f (by rw [hb]; exact nI_ne0 (by omega) (by omega)) ?_
      refine dd_tim hP hF ry rz (fun q hq => ?_)
      show wX_inverse_35 _ _ _ _ _ _ _ _ _ _ _
      unfold wX_inverse_35
      refine dd_tim hP hF rz rz (fun r hr => nm_r (nI_1 k) (ih (q, r) ⟨?_, e2 r hr⟩))
      show q.toInt = x.toInt ^ (dd_ex P % 2 ^ (k + 1)) % P
      have b1 : dd_ex P / 2 ^ k % 2 = 1 := by omega
      rw [Nat.mod_pow_succ, b1, Nat.mul_one, hq, h1', h2', ← Int.mul_emod, ← Int.pow_add]
end
section
/-! the work space: load, pivotFrom, exchange, clearBelow -/
theorem dd_ix (i j : Nat) : nI i * 5 + nI j = nI (i * 5 + j) := by
  rw [show (5 : Int32) = nI 5 from rfl, pk_mul, nI_add]
theorem dd_cl {i j : Nat} (hi : i < 4) (hj : j < 5) : (nI i * 5 + nI j).toNatClampNeg = i * 5 + j := by
  rw [dd_ix]; exact nI_clamp (by omega)
theorem dd_in {i j : Nat} (hi : i < 4) (hj : j < 5) : vp_in (nI i * 5 + nI j) 20 := by
  rw [dd_ix]; exact vp_in_nI (by omega) (by decide)
theorem dd_load {P : Int} (hP : dd_pr P) {F F0 : Int32} (hF : F.toInt = P) {a w v g s : Nat → Int32} {post : SX → Prop} (h : ∀ t : Nat → Int32, (∀ k, k < 20 → (t k).toInt = (a k).toInt % P) → post (F, a, t, v, g, s)) : wpX_load post (F0, a, w, v, g, s) F := by
  refine loop_0 (fun n k (t : Nat → Int32) => wX_load_7 post F n (nI k) a t v g s) (fun k t => ∀ i, i < k → (t i).toInt = (a i).toInt % P) 20 w ?_ ?_ ?_
  · intro i hi; omega
  · intro n t ht
    exact br_t (by decide) (h t ht)
  · intro n k t hk ht ih
    show wX_load_7 post F (n + 1) (nI k) a t v g s
    have hk20 : ¬ (20 : Int32) ≤ nI k := nI_ge (b := 20) hk (by decide)
    have hin : vp_in (nI k) 20 := vp_in_nI hk (by decide)
    have hc : (nI k).toNatClampNeg = k := nI_clamp (by omega)
    refine br_f hk20 (And.intro hin ?_)
    rw [hc]
    refine dd_red hP hF (fun r hr => And.intro hin (nm_e (nm_r (nI_1 k) (ih _ ?_))))
    intro i hi
    rcases Nat.lt_or_ge i k with q | q
    · rw [pk_un (by omega)]; exact ht i q
    · have e : i = k := by omega
      subst e
      rw [pk_us]; exact hr
theorem dd_piv {F : Int32} {a w v g s : Nat → Int32} {r n c : Nat} (hn : n ≤ 4) (hr : r ≤ n) (hc : c < 5) {post : Int32 → Prop} (h1 : ∀ i, r ≤ i → i < n → ¬ w (i * 5 + c) = 0 → post (nI i)) (h2 : (∀ i, r ≤ i → i < n → w (i * 5 + c) = 0) → post (-1)) : wpX_pivotFrom post (F, a, w, v, g, s) (nI r) (nI n) (nI c) := by
  refine pk_loop (fun f i (_ : Unit) => wX_pivotFrom_3 post (nI n) (nI c) F a w v g s f (nI i)) (fun i _ => r ≤ i ∧ ∀ k, r ≤ k → k < i → w (k * 5 + c) = 0) n r () hr ⟨Nat.le_refl _, by intro k _ _; omega⟩ ?_ ?_
  · rintro f _ ⟨_, hz⟩
    exact br_t (Int32.le_refl _) (h2 hz)
  · rintro f i _ hi ⟨hri, hz⟩ ih
    show wX_pivotFrom_3 post (nI n) (nI c) F a w v g s (f + 1) (nI i)
    refine br_f (nI_ge hi (by omega)) (And.intro (dd_in (by omega) hc) ?_)
    rw [dd_cl (by omega) hc]
    by_cases z : w (i * 5 + c) = 0
    · refine br_t z (nm_r (nI_1 i) (ih () ⟨by omega, ?_⟩))
      intro k k1 k2
      rcases Nat.lt_or_ge k i with q | q
      · exact hz k k1 q
      · have e : k = i := by omega
        rw [e]; exact z
    · exact br_f z (h1 i hri hi z)
theorem dd_exc {F : Int32} {a w v g s : Nat → Int32} {i k : Nat} (hi : i < 4) (hk : k < 4) {post : SX → Prop} (h : ∀ t : Nat → Int32, (∀ j, j < 5 → t (i * 5 + j) = w (k * 5 + j)) → (∀ j, j < 5 → t (k * 5 + j) = w (i * 5 + j)) → (∀ q, q ≠ i → q ≠ k → ∀ j, j < 5 → t (q * 5 + j) = w (q * 5 + j)) → post (F, a, t, v, g, s)) : wpX_exchange post (F, a, w, v, g, s) (nI i) (nI k) := by
  refine loop_0 (fun n j (t : Nat → Int32) => wX_exchange_2 post (nI i) (nI k) F n (nI j) a t v g s) (fun j t => (∀ c, c < 5 → c < j → t (i * 5 + c) = w (k * 5 + c) ∧ t (k * 5 + c) = w (i * 5 + c)) ∧ (∀ c, c < 5 → j ≤ c → t (i * 5 + c) = w (i * 5 + c) ∧ t (k * 5 + c) = w (k * 5 + c)) ∧ (∀ q, q ≠ i → q ≠ k → ∀ c, c < 5 → t (q * 5 + c) = w (q * 5 + c))) 5 w ?_ ?_ ?_
  · refine ⟨fun c _ h => by omega, fun c _ _ => ⟨rfl, rfl⟩, fun q _ _ c _ => rfl⟩
  · rintro n t ⟨t1, t2, t3⟩
    exact br_t (by decide) (h t (fun j hj => (t1 j hj hj).1) (fun j hj => (t1 j hj hj).2) t3)
  · rintro n j t hj ⟨t1, t2, t3⟩ ih
    show wX_exchange_2 post (nI i) (nI k) F (n + 1) (nI j) a t v g s
    have hi1 := dd_in hi hj
    have hi2 := dd_in hk hj
    refine br_f (nI_ge (b := 5) hj (by decide)) ?_
    rw [dd_cl hi hj, dd_cl hk hj]
    refine And.intro hi1 (nm_e (And.intro hi2 (And.intro hi1 (nm_e (And.intro hi2 (nm_e (nm_r (nI_1 j) (ih _ ?_))))))))
    have u : ∀ e, upd (upd t (i * 5 + j) (t (k * 5 + j))) (k * 5 + j) (t (i * 5 + j)) e = if e = k * 5 + j then t (i * 5 + j) else if e = i * 5 + j then t (k * 5 + j) else t e := fun _ => rfl
    refine ⟨?_, ?_, ?_⟩
    · intro c hc hcj
      rcases Nat.lt_or_ge c j with q | q
      · constructor
        · rw [u, if_neg (by omega), if_neg (by omega)]; exact (t1 c hc q).1
        · rw [u, if_neg (by omega), if_neg (by omega)]; exact (t1 c hc q).2
      · have e : c = j := by omega
        subst e
        constructor
        · rw [u]
          by_cases z : i = k
          · subst z
            rw [if_pos rfl]; exact (t2 c hc (Nat.le_refl _)).1
          · rw [if_neg (by omega), if_pos rfl]; exact (t2 c hc (Nat.le_refl _)).2
        · rw [u, if_pos rfl]; exact (t2 c hc (Nat.le_refl _)).1
    · intro c hc hcj
      constructor
      · rw [u, if_neg (by omega), if_neg (by omega)]; exact (t2 c hc (by omega)).1
      · rw [u, if_neg (by omega), if_neg (by omega)]; exact (t2 c hc (by omega)).2
    · intro q q1 q2 c hc
      rw [u, if_neg (by omega), if_neg (by omega)]; exact t3 q q1 q2 c hc
def dd_rgs (P : Int) (w : Nat → Int32) : Prop := ∀ i, i < 4 → ∀ j, j < 5 → dd_rg P (w (i * 5 + j))
theorem dd_clb_in {P : Int} (hP : dd_pr P) {F : Int32} (hF : F.toInt = P) {a w v g s : Nat → Int32} {r i c : Nat} {f x2 x4 : Int32} {post : SX → Prop} {J : Int32 → (Nat → Int32) → (Nat → Int32) → (Nat → Int32) → (Nat → Int32) → (Nat → Int32) → Prop} (hr : r < 4) (hi : i < 4) (hri : r ≠ i) (hc : c ≤ 5) (hf : dd_rg P f) (hw : dd_rgs P w)
    (hJ : ∀ t : Nat → Int32, dd_rgs P t → (∀ q, q ≠ i → ∀ j, j < 5 → t (q * 5 + j) = w (q * 5 + j)) → (∀ j, j < c → t (i * 5 + j) = w (i * 5 + j)) → (∀ j, c ≤ j → j < 5 → (t (i * 5 + j)).toInt = ((w (i * 5 + j)).toInt - f.toInt * (w (r * 5 + j)).toInt) % P) → J (nI (i + 1)) a t v g s) :
    ∃ n, wX_clearBelow_49 post J (nI r) x2 (nI c) x4 (nI i) f F n (nI c) a w v g s := by
  refine pk_loop (fun n j (t : Nat → Int32) => wX_clearBelow_49 post J (nI r) x2 (nI c) x4 (nI i) f F n (nI j) a t v g s) (fun j t => c ≤ j ∧ dd_rgs P t ∧ (∀ q, q ≠ i → ∀ j, j < 5 → t (q * 5 + j) = w (q * 5 + j)) ∧ (∀ k, k < 5 → (k < c ∨ j ≤ k) → t (i * 5 + k) = w (i * 5 + k)) ∧ (∀ k, c ≤ k → k < j → (t (i * 5 + k)).toInt = ((w (i * 5 + k)).toInt - f.toInt * (w (r * 5 + k)).toInt) % P)) 5 c w hc ⟨Nat.le_refl _, hw, fun _ _ _ _ => rfl, fun _ _ _ => rfl, fun k _ _ => by omega⟩ ?_ ?_
  · rintro n t ⟨_, t1, t2, t3, t4⟩
    exact br_t (by decide) (nm_r (nI_1 i) (hJ t t1 t2 (fun j hj => t3 j (by omega) (Or.inl hj)) (fun j h1 h2 => t4 j h1 h2)))
  · rintro n j t hj ⟨hcj, t1, t2, t3, t4⟩ ih
    show wX_clearBelow_49 post J (nI r) x2 (nI c) x4 (nI i) f F (n + 1) (nI j) a t v g s
    have hi1 := dd_in hr hj
    have hi2 := dd_in hi hj
    have e1 : t (r * 5 + j) = w (r * 5 + j) := t2 r hri j hj
    have e2 : t (i * 5 + j) = w (i * 5 + j) := t3 j hj (Or.inr (Nat.le_refl _))
    refine br_f (nI_ge (b := 5) hj (by decide)) ?_
    rw [dd_cl hi hj, dd_cl hr hj]
    refine And.intro hi1 (dd_tim hP hF (dd_r8 hP hf) (dd_r8 hP (t1 r hr j hj)) (fun y hy => And.intro hi2 (dd_red hP hF (fun z hz => And.intro hi2 (nm_e (nm_r (nI_1 j) (ih _ ?_)))))))
    have ry := dd_r8 hP (dd_rr hP hy)
    have rt := dd_r8 hP (t1 i hi j hj)
    rw [Jvm.Kit.i32_sub (by omega) (by omega)] at hz
    have hz2 : z.toInt = ((w (i * 5 + j)).toInt - f.toInt * (w (r * 5 + j)).toInt) % P := by
      rw [hz, hy, e1, e2]
      exact dd_cb (dd_cr P _) (dd_ce P _)
    refine ⟨by omega, ?_, ?_, ?_, ?_⟩
    · intro q hq k hk
      by_cases z1 : q * 5 + k = i * 5 + j
      · rw [z1, pk_us]; exact dd_rr hP hz2
      · rw [pk_un z1]; exact t1 q hq k hk
    · intro q hq k hk
      rw [pk_un (by omega)]; exact t2 q hq k hk
    · intro k hk h
      rw [pk_un (by omega)]; exact t3 k hk (by omega)
    · intro k hk h
      by_cases z1 : k = j
      · rw [z1, pk_us]; exact hz2
      · rw [pk_un (by omega)]; exact t4 k hk (by omega)
theorem dd_i0 {x : Int32} (h : x.toInt = 0) : x = 0 := Int32.toInt_inj.mp (by rw [h]; decide)
theorem dd_clb {P : Int} (hP : dd_pr P) {F : Int32} (hF : F.toInt = P) {a w v g s : Nat → Int32} {r n c : Nat} {post : SX → Prop} (hr : r < n) (hn : n ≤ 4) (hc : c < 5) (hw : dd_rgs P w) (hp : ¬ w (r * 5 + c) = 0) (hz : ∀ i, r ≤ i → i < n → ∀ j, j < c → w (i * 5 + j) = 0)
    (Q : (Nat → Int32) → Prop) (hQw : Q w)
    (hQ : ∀ (t t' : Nat → Int32) (i : Nat) (f : Int), r < i → i < n → Q t → (∀ q, q ≠ i → ∀ j, j < 5 → t' (q * 5 + j) = t (q * 5 + j)) → (∀ j, j < 5 → dd_cg P (t' (i * 5 + j)).toInt ((t (i * 5 + j)).toInt + f * (t (r * 5 + j)).toInt)) → Q t')
    (h : ∀ t : Nat → Int32, dd_rgs P t → Q t → (∀ q, (q ≤ r ∨ n ≤ q) → ∀ j, j < 5 → t (q * 5 + j) = w (q * 5 + j)) → (∀ i, r < i → i < n → ∀ j, j ≤ c → t (i * 5 + j) = 0) → post (F, a, t, v, g, s)) :
    wpX_clearBelow post (F, a, w, v, g, s) (nI r) (nI n) (nI c) := by
  have hr4 : r < 4 := by omega
  have z0 : (0 : Int32).toInt = 0 := by decide
  refine And.intro (dd_in hr4 hc) ?_
  rw [dd_cl hr4 hc]
  refine dd_inv hP hF (hw r hr4 c hc) (fun e => hp (dd_i0 e)) (fun y hy hy1 => nm_r (nI_1 r) ?_)
  refine pk_loop (fun f i (t : Nat → Int32) => wX_clearBelow_21 post (nI r) (nI n) (nI c) y F f (nI i) a t v g s) (fun i t => r < i ∧ dd_rgs P t ∧ Q t ∧ (∀ q, (q ≤ r ∨ i ≤ q) → ∀ j, j < 5 → t (q * 5 + j) = w (q * 5 + j)) ∧ (∀ k, r < k → k < i → ∀ j, j ≤ c → t (k * 5 + j) = 0)) n (r + 1) w hr ⟨by omega, hw, hQw, fun _ _ _ _ => rfl, fun k _ _ => by omega⟩ ?_ ?_
  · rintro f t ⟨_, t1, t2, t3, t4⟩
    exact br_t (Int32.le_refl _) (h t t1 t2 t3 t4)
  · rintro fu i t hi ⟨hri, t1, t2, t3, t4⟩ ih
    show wX_clearBelow_21 post (nI r) (nI n) (nI c) y F (fu + 1) (nI i) a t v g s
    have hi4 : i < 4 := by omega
    refine br_f (nI_ge hi (by omega)) ?_
    rw [dd_cl hi4 hc]
    refine And.intro (dd_in hi4 hc) (dd_tim hP hF (dd_r8 hP (t1 i hi4 c hc)) (dd_r8 hP hy) (fun f hf => ?_))
    refine dd_clb_in hP hF hr4 hi4 (by omega) (by omega) (dd_rr hP hf) t1 (fun t' u1 u2 u3 u4 => ih t' ?_)
    have er : ∀ j, j < 5 → t (r * 5 + j) = w (r * 5 + j) := t3 r (Or.inl (Nat.le_refl _))
    have ei : ∀ j, j < 5 → t (i * 5 + j) = w (i * 5 + j) := t3 i (Or.inr (Nat.le_refl _))
    have zi : ∀ j, j < c → t' (i * 5 + j) = 0 := by
      intro j hj
      rw [u3 j hj, ei j (by omega)]
      exact hz i (by omega) hi j hj
    have zc : t' (i * 5 + c) = 0 := by
      apply dd_i0
      rw [u4 c (Nat.le_refl _) hc]
      have k1 : dd_cg P (f.toInt * (t (r * 5 + c)).toInt) (t (i * 5 + c)).toInt := by
        have k2 : dd_cg P f.toInt ((t (i * 5 + c)).toInt * y.toInt) := dd_rc hf
        have k3 : dd_cg P ((w (r * 5 + c)).toInt * y.toInt) 1 := by
          unfold dd_cg
          rw [hy1]
          rcases hP with rfl | rfl <;> decide
        have k4 := dd_cm k2 (dd_cr P (t (r * 5 + c)).toInt)
        have k5 := dd_cm (dd_cr P (t (i * 5 + c)).toInt) k3
        rw [Int.mul_one] at k5
        rw [er c hc] at k4 ⊢
        have e : (t (i * 5 + c)).toInt * y.toInt * (w (r * 5 + c)).toInt = (t (i * 5 + c)).toInt * ((w (r * 5 + c)).toInt * y.toInt) := by
          rw [Int.mul_assoc, Int.mul_comm y.toInt]
        rw [e] at k4
        exact dd_ct k4 k5
      have k6 : dd_cg P ((t (i * 5 + c)).toInt - f.toInt * (t (r * 5 + c)).toInt) ((t (i * 5 + c)).toInt - (t (i * 5 + c)).toInt) := dd_cb (dd_cr P _) k1
      rw [Int.sub_self] at k6
      unfold dd_cg at k6
      rw [k6, Int.zero_emod]
    refine ⟨by omega, u1, ?_, ?_, ?_⟩
    · refine hQ t t' i (-f.toInt) hri hi t2 u2 ?_
      intro j hj
      rcases Nat.lt_or_ge j c with q | q
      · rw [zi j q, ei j hj, er j hj, hz i (by omega) hi j q, hz r (Nat.le_refl _) hr j q, z0, Int.mul_zero]
        exact dd_cr P 0
      · rw [u4 j q hj, Int.neg_mul, ← Int.sub_eq_add_neg]
        exact dd_ce P _
    · intro q hq j hj
      rw [u2 q (by omega) j hj]
      exact t3 q (by omega) j hj
    · intro k hk1 hk2 j hj
      by_cases e : k = i
      · subst e
        rcases Nat.lt_or_ge j c with q | q
        · exact zi j q
        · have e2 : j = c := by omega
          rw [e2]; exact zc
      · rw [u2 k e j (by omega)]
        exact t4 k hk1 (by omega) j hj
end
section
/-! the determinant at work -/
def dd_rw (w : Nat → Int32) (i : Nat) : Nat → Int := fun j => (w (i * 5 + j)).toInt
theorem dd_rowop {P : Int} {t t' : Nat → Int32} {n i r : Nat} {f : Int} (hr : r < i) (hi : i < n) (h1 : ∀ q, q ≠ i → ∀ j, j < 5 → t' (q * 5 + j) = t (q * 5 + j)) (h2 : ∀ j, j < 5 → dd_cg P (t' (i * 5 + j)).toInt ((t (i * 5 + j)).toInt + f * (t (r * 5 + j)).toInt)) (S : Nat) : dd_cg P (dd_dt ((dd_dn n).map (dd_rw t')) S) (dd_dt ((dd_dn n).map (dd_rw t)) S) := by
  have k := dd_op_add (A := dd_rw t) (B := fun k => if k = i then (fun j => dd_rw t i j + f * dd_rw t r j) else dd_rw t k) (f := f) hr hi (fun k hk => if_neg hk) (if_pos rfl) S
  rw [← k]
  refine dd_dt_g (dd_dn n) ?_ S
  intro q _ j hj
  by_cases e : q = i
  · subst e
    simp only [if_true]
    exact h2 j hj
  · simp only [if_neg e]
    unfold dd_rw
    rw [h1 q e j hj]
    exact dd_cr P _
theorem dd_rowswp {P : Int} {t t' : Nat → Int32} {n i r : Nat} (hr : r < i) (hi : i < n) (h1 : ∀ j, j < 5 → t' (i * 5 + j) = t (r * 5 + j)) (h2 : ∀ j, j < 5 → t' (r * 5 + j) = t (i * 5 + j)) (h3 : ∀ q, q ≠ i → q ≠ r → ∀ j, j < 5 → t' (q * 5 + j) = t (q * 5 + j)) (S : Nat) : dd_cg P (dd_dt ((dd_dn n).map (dd_rw t')) S) (- dd_dt ((dd_dn n).map (dd_rw t)) S) := by
  have hne : r ≠ i := by omega
  have k := dd_op_swp (A := dd_rw t) (B := fun k => if k = i then dd_rw t r else if k = r then dd_rw t i else dd_rw t k) hr hi (fun k hk hk2 => by simp only [if_neg hk, if_neg hk2]) (if_pos rfl) (by simp only [if_neg hne, if_true]) S
  rw [← k]
  refine dd_dt_g (dd_dn n) ?_ S
  intro q _ j hj
  by_cases e : q = i
  · subst e
    simp only [if_true]
    unfold dd_rw
    rw [h1 j hj]
    exact dd_cr P _
  · by_cases e2 : q = r
    · subst e2
      simp only [if_neg e, if_true]
      unfold dd_rw
      rw [h2 j hj]
      exact dd_cr P _
    · simp only [if_neg e, if_neg e2]
      unfold dd_rw
      rw [h3 q e e2 j hj]
      exact dd_cr P _
/-- the invariant of determinantOf at column c: y is the result so far, t the work space -/
def dd_DI (P D : Int) (n c : Nat) (y : Int32) (t : Nat → Int32) : Prop :=
  dd_rg P y ∧ dd_rgs P t ∧ (∀ i, c ≤ i → i < n → ∀ j, j < c → t (i * 5 + j) = 0) ∧ ∃ e : Int, dd_cg P D (e * dd_dt ((dd_dn n).map (dd_rw t)) (2 ^ n - 1)) ∧ dd_cg P y.toInt (e * dd_dt ((dd_dn c).map (dd_rw t)) (2 ^ c - 1))
theorem dd_pw2 (c : Nat) : 2 ^ (c + 1) - 1 = (2 ^ c - 1) + 2 ^ c := by
  have h : 0 < 2 ^ c := Nat.two_pow_pos c
  rw [Nat.pow_succ]
  omega
theorem dd_map5 {P : Int} {t t' : Nat → Int32} {c : Nat} (h : ∀ q, q < c → ∀ j, j < 5 → t' (q * 5 + j) = t (q * 5 + j)) (S : Nat) : dd_cg P (dd_dt ((dd_dn c).map (dd_rw t')) S) (dd_dt ((dd_dn c).map (dd_rw t)) S) := by
  refine dd_dt_g (dd_dn c) ?_ S
  intro q hq j hj
  unfold dd_rw
  rw [h q (dd_dn_m c q hq) j hj]
  exact dd_cr P _
theorem dd_det45 {P : Int} (hP : dd_pr P) {F : Int32} (hF : F.toInt = P) {a w v g s : Nat → Int32} {D : Int} {n c : Nat} {y : Int32} {post : Int32 → SX → Prop} {J : Int32 → Int32 → Int32 → (Nat → Int32) → (Nat → Int32) → (Nat → Int32) → (Nat → Int32) → (Nat → Int32) → Prop} (hc : c < n) (hn : n ≤ 4) (hI : dd_DI P D n c y w) (hp : ¬ w (c * 5 + c) = 0) (hJ : ∀ y' t, dd_DI P D n (c + 1) y' t → J y' (nI (c + 1)) F a t v g s) : wX_determinantOf_45 post J (nI n) y (nI c) F a w v g s := by
  obtain ⟨h1, h2, h3, e, h4, h5⟩ := hI
  have hc4 : c < 4 := by omega
  have hc5 : c < 5 := by omega
  refine And.intro (dd_in hc4 hc5) ?_
  rw [dd_cl hc4 hc5]
  refine dd_tim hP hF (dd_r8 hP h1) (dd_r8 hP (h2 c hc4 c hc5)) (fun y' hy' => ?_)
  refine dd_clb hP hF hc hn hc5 h2 hp h3 (fun t => dd_cg P D (e * dd_dt ((dd_dn n).map (dd_rw t)) (2 ^ n - 1))) h4 ?_ ?_
  · intro t t' i f hri hi hQ k1 k2
    exact dd_ct hQ (dd_cm (dd_cr P e) (dd_cs (dd_rowop hri hi k1 k2 _)))
  · intro t t1 t2 t3 t4
    refine nm_r (nI_1 c) (hJ y' t ⟨dd_rr hP hy', t1, ?_, e, t2, ?_⟩)
    · intro i hi hin j hj
      exact t4 i (by omega) hin j (by omega)
    · rw [dd_pw2]
      have z0 : (0 : Int32).toInt = 0 := by decide
      have hs : 2 ^ c - 1 < 2 ^ c := by have := Nat.two_pow_pos c; omega
      have k1 : dd_dt ((dd_dn (c + 1)).map (dd_rw t)) ((2 ^ c - 1) + 2 ^ c) = dd_rw t c c * dd_dt ((dd_dn c).map (dd_rw t)) (2 ^ c - 1) := by
        refine dd_lead (dd_rw t c) _ c (2 ^ c - 1) hc5 hs ?_
        intro j hj
        show (t (c * 5 + j)).toInt = 0
        rw [t3 c (Or.inl (Nat.le_refl _)) j (by omega), h3 c (Nat.le_refl _) hc j hj, z0]
      rw [k1]
      have k2 : dd_rw t c c = (w (c * 5 + c)).toInt := by
        unfold dd_rw
        rw [t3 c (Or.inl (Nat.le_refl _)) c hc5]
      rw [k2]
      have k3 : dd_cg P (dd_dt ((dd_dn c).map (dd_rw t)) (2 ^ c - 1)) (dd_dt ((dd_dn c).map (dd_rw w)) (2 ^ c - 1)) := dd_map5 (fun q hq j hj => t3 q (Or.inl (by omega)) j hj) _
      refine dd_ct (dd_rc hy') ?_
      refine dd_ct (dd_cm h5 (dd_cr P _)) ?_
      refine dd_ct ?_ (dd_cm (dd_cr P e) (dd_cm (dd_cr P _) (dd_cs k3)))
      apply dd_cq
      rw [Int.mul_assoc, Int.mul_comm (dd_dt _ _)]
theorem dd_m1lt : ¬ (0 : Int32) ≤ -1 := by decide
theorem dd_det {P : Int} (hP : dd_pr P) {F : Int32} (hF : F.toInt = P) {a w v g s : Nat → Int32} {n : Nat} {post : Int32 → SX → Prop} (hn : n ≤ 4) (hw : dd_rgs P w) (h : ∀ (r : Int32) (t : Nat → Int32), dd_rg P r → dd_cg P r.toInt (dd_dt ((dd_dn n).map (dd_rw w)) (2 ^ n - 1)) → post r (F, a, t, v, g, s)) : wpX_determinantOf post (F, a, w, v, g, s) (nI n) := by
  have z0 : (0 : Int32).toInt = 0 := by decide
  have z1 : (1 : Int32).toInt = 1 := by decide
  have hp := dd_pp hP
  refine loop_0 (fun f c (t : Int32 × (Nat → Int32)) => wX_determinantOf_4 post (nI n) f t.1 (nI c) F a t.2 v g s) (fun c t => dd_DI P (dd_dt ((dd_dn n).map (dd_rw w)) (2 ^ n - 1)) n c t.1 t.2) n (1, w) ?_ ?_ ?_
  · refine ⟨?_, hw, fun i _ _ j hj => by omega, 1, ?_, ?_⟩
    · show 0 ≤ (1 : Int32).toInt ∧ (1 : Int32).toInt < P
      rw [z1]
      rcases hP with rfl | rfl <;> decide
    · rw [Int.one_mul]; exact dd_cr P _
    · exact dd_cq z1
  · rintro f ⟨y, t⟩ ⟨h1, h2, h3, e, h4, h5⟩
    show wX_determinantOf_4 post (nI n) (f + 1) y (nI n) F a t v g s
    exact br_t (Int32.le_refl _) (h y t h1 (dd_ct h5 (dd_cs h4)))
  · rintro f c ⟨y, t⟩ hc hI ih
    have hI2 : dd_DI P (dd_dt ((dd_dn n).map (dd_rw w)) (2 ^ n - 1)) n c y t := hI
    show wX_determinantOf_4 post (nI n) (f + 1) y (nI c) F a t v g s
    refine br_f (nI_ge hc (by omega)) ?_
    refine dd_piv hn (by omega) (by omega) ?_ ?_
    · intro i hci hin hnz
      refine br_t (nI_pos' (by omega)) ?_
      by_cases e : i = c
      · refine br_t (by rw [e]) ?_
        exact dd_det45 hP hF hc hn hI2 (by rw [e] at hnz; exact hnz) (fun y' t' k => ih (y', t') k)
      · refine br_f (fun q => e ((nI_eq (by omega) (by omega)).mp q)) ?_
        refine dd_exc (by omega) (by omega) (fun t' u1 u2 u3 => ?_)
        obtain ⟨h1, h2, h3, e', h4, h5⟩ := hI2
        refine dd_red hP hF (fun y' hy' => ?_)
        have ry := dd_r8 hP h1
        rw [Int32.toInt_neg, Int.bmod_eq_of_le (by omega) (by omega)] at hy'
        refine dd_det45 hP hF hc hn (y := y') ⟨dd_rr hP hy', ?_, ?_, -e', ?_, ?_⟩ ?_ (fun y' t' k => ih (y', t') k)
        · intro q hq j hj
          by_cases q1 : q = i
          · subst q1; rw [u1 j hj]; exact h2 c (by omega) j hj
          · by_cases q2 : q = c
            · subst q2; rw [u2 j hj]; exact h2 i (by omega) j hj
            · rw [u3 q q1 q2 j hj]; exact h2 q hq j hj
        · intro q hq1 hq2 j hj
          by_cases q1 : q = i
          · subst q1; rw [u1 j (by omega)]; exact h3 c (Nat.le_refl _) hc j hj
          · by_cases q2 : q = c
            · subst q2; rw [u2 j (by omega)]; exact h3 i hci hin j hj
            · rw [u3 q q1 q2 j (by omega)]; exact h3 q hq1 hq2 j hj
        · refine dd_ct h4 (dd_cs ?_)
          refine dd_ct (dd_cm (dd_cr P (-e')) (dd_rowswp (by omega) hin u1 u2 u3 _)) ?_
          rw [Int.neg_mul_neg]
          exact dd_cr P _
        · have k3 : dd_cg P (dd_dt ((dd_dn c).map (dd_rw t')) (2 ^ c - 1)) (dd_dt ((dd_dn c).map (dd_rw t)) (2 ^ c - 1)) := dd_map5 (fun q hq j hj => u3 q (by omega) (by omega) j hj) _
          refine dd_ct (dd_rc hy') ?_
          rw [Int.neg_mul]
          exact dd_cn (dd_ct h5 (dd_cm (dd_cr P _) (dd_cs k3)))
        · rw [u2 c (by omega)]; exact hnz
    · intro hzz
      obtain ⟨h1, h2, h3, e', h4, h5⟩ := hI2
      refine br_f dd_m1lt (h 0 t ?_ ?_)
      · show 0 ≤ (0 : Int32).toInt ∧ (0 : Int32).toInt < P
        rw [z0]; exact ⟨Int.le_refl _, hp.1⟩
      · have k : dd_dt ((dd_dn n).map (dd_rw t)) (2 ^ n - 1) = 0 := by
          refine dd_sing (by omega) hc ?_
          intro i hi1 hi2 j hj
          show (t (i * 5 + j)).toInt = 0
          rcases Nat.lt_or_ge j c with q | q
          · rw [h3 i hi1 hi2 j q, z0]
          · have e2 : j = c := by omega
            rw [e2, hzz i hi1 hi2, z0]
        rw [k, Int.mul_zero] at h4
        rw [z0]
        exact dd_cs h4
end
section
/-! join; the rank at work -/
theorem dd_oi {x : Int32} {D : Int} (h : x.toInt = D) : x = Int32.ofInt D := by rw [← h, Int32.ofInt_toInt]
theorem dd_crt {x y z D : Int} (hx : 0 ≤ x ∧ x < 32749) (hz : 0 ≤ z ∧ z < 32719) (hD : -535740906 ≤ D ∧ D ≤ 535740906) (c1 : x % 32749 = D % 32749) (c2 : y % 32719 = D % 32719) (k4 : (30 * z) % 32719 = (y - x) % 32719 % 32719) : x + 32749 * z = D ∨ x + 32749 * z = D + 1071514531 := by
  omega
theorem dd_join {a w v g s : Nat → Int32} {F0 r1 r2 : Int32} {D : Int} {post : Int32 → SX → Prop} (hD : -535740906 ≤ D ∧ D ≤ 535740906) (h1 : dd_rg 32749 r1) (c1 : dd_cg 32749 r1.toInt D) (h2 : dd_rg 32719 r2) (c2 : dd_cg 32719 r2.toInt D) (h : post (Int32.ofInt D) (32719, a, w, v, g, s)) : wpX_join post (F0, a, w, v, g, s) r1 r2 := by
  have hP : dd_pr 32719 := Or.inr rfl
  have hF : (32719 : Int32).toInt = 32719 := by decide
  have e30 : (30 : Int32).toInt = 30 := by decide
  unfold wpX_join
  dsimp only
  refine dd_inv hP hF (x := 30) (by unfold dd_rg; rw [e30]; decide) (by rw [e30]; decide) (fun u hu hu1 => ?_)
  refine dd_red hP hF (fun gp hgp => ?_)
  unfold dd_rg at h1 h2
  rw [Jvm.Kit.i32_sub (by omega) (by omega)] at hgp
  refine dd_tim hP hF (dd_r8 hP (dd_rr hP hgp)) (dd_r8 hP hu) (fun st hst => ?_)
  have rst := dd_rr hP hst
  unfold dd_rg at rst
  have e3 : (32749 : Int32).toInt = 32749 := by decide
  have m : (32749 * st).toInt = 32749 * st.toInt := by
    rw [Jvm.Kit.i32_mul]
    · rw [e3]
    · rw [e3]; omega
    · rw [e3]; omega
  have e6 : (r1 + 32749 * st).toInt = r1.toInt + 32749 * st.toInt := by
    rw [Jvm.Kit.i32_add]
    · rw [m]
    · rw [m]; omega
    · rw [m]; omega
  have k1 : dd_cg 32719 st.toInt (gp.toInt * u.toInt) := dd_rc hst
  have k3 : dd_cg 32719 (30 * u.toInt) 1 := by
    unfold dd_cg
    rw [e30] at hu1
    rw [hu1]; decide
  have k4 : dd_cg 32719 (30 * st.toInt) gp.toInt := by
    have q1 := dd_cm (dd_cr 32719 30) k1
    have q2 := dd_cm (dd_cr 32719 gp.toInt) k3
    rw [Int.mul_one, Int.mul_left_comm] at q2
    exact dd_ct q1 q2
  unfold dd_cg at c1 c2 k4
  have key : r1.toInt + 32749 * st.toInt = D ∨ r1.toInt + 32749 * st.toInt = D + 1071514531 := by
    rw [hgp] at k4
    exact dd_crt h1 rst hD c1 c2 k4
  clear c1 c2 k4 k3 k1 hgp hst hu1 hu m
  have eL : (535740906 : Int32).toInt = 535740906 := by decide
  refine nm_e (br_c (fun q => ?_) (fun q => ?_))
  · rw [Int32.le_iff_toInt_le, e6, eL] at q
    have e : (r1 + 32749 * st).toInt = D := by omega
    rw [dd_oi e]; exact h
  · rw [Int32.le_iff_toInt_le, e6, eL] at q
    have eM : (1071514531 : Int32).toInt = 1071514531 := by decide
    have e : (r1 + 32749 * st - 1071514531).toInt = D := by
      rw [Jvm.Kit.i32_sub]
      · rw [e6, eM]; omega
      · rw [e6, eM]; omega
      · rw [e6, eM]; omega
    rw [dd_oi e]; exact h
/-- the rows below n of the work space -/
def dd_RS (t : Nat → Int32) (n : Nat) (v : Nat → Int) : Prop := ∃ i, i < n ∧ v = dd_rw t i
theorem dd_c1 {P x y f : Int} (h : x = y) (e : f = 0) (z : Int) : dd_cg P x (y + f * z) := by
  rw [h, e, Int.zero_mul, Int.add_zero]; exact dd_cr P _
theorem dd_vop {P : Int} {t t' : Nat → Int32} {n i r c : Nat} {f : Int} (hr : r < i) (hi : i < n) (h1 : ∀ q, q ≠ i → ∀ j, j < 5 → t' (q * 5 + j) = t (q * 5 + j)) (h2 : ∀ j, j < 5 → dd_cg P (t' (i * 5 + j)).toInt ((t (i * 5 + j)).toInt + f * (t (r * 5 + j)).toInt)) (s : Nat) : dd_van P (dd_RS t n) s c ↔ dd_van P (dd_RS t' n) s c := by
  constructor
  · refine dd_span ?_
    rintro v ⟨q, hq, rfl⟩
    by_cases e : q = i
    · subst e
      exact ⟨_, ⟨q, hq, rfl⟩, _, ⟨r, by omega, rfl⟩, f, h2⟩
    · exact ⟨_, ⟨q, hq, rfl⟩, _, ⟨q, hq, rfl⟩, 0, fun j hj => dd_c1 (by unfold dd_rw; rw [h1 q e j hj]) rfl _⟩
  · refine dd_span ?_
    rintro v ⟨q, hq, rfl⟩
    by_cases e : q = i
    · subst e
      refine ⟨_, ⟨q, hq, rfl⟩, _, ⟨r, by omega, rfl⟩, -f, fun j hj => ?_⟩
      have k := dd_cs (h2 j hj)
      have k2 := dd_cb k (dd_cr P (f * (t (r * 5 + j)).toInt))
      show dd_cg P (t (q * 5 + j)).toInt ((t' (q * 5 + j)).toInt + -f * (t' (r * 5 + j)).toInt)
      rw [h1 r (by omega) j hj, Int.neg_mul, ← Int.sub_eq_add_neg]
      rw [Int.add_sub_cancel] at k2
      exact k2
    · exact ⟨_, ⟨q, hq, rfl⟩, _, ⟨q, hq, rfl⟩, 0, fun j hj => dd_c1 (by unfold dd_rw; rw [h1 q e j hj]) rfl _⟩
theorem dd_vsw {P : Int} {t t' : Nat → Int32} {n i r c : Nat} (hr : r < n) (hi : i < n) (h1 : ∀ j, j < 5 → t' (i * 5 + j) = t (r * 5 + j)) (h2 : ∀ j, j < 5 → t' (r * 5 + j) = t (i * 5 + j)) (h3 : ∀ q, q ≠ i → q ≠ r → ∀ j, j < 5 → t' (q * 5 + j) = t (q * 5 + j)) (s : Nat) : dd_van P (dd_RS t n) s c ↔ dd_van P (dd_RS t' n) s c := by
  constructor
  · refine dd_span ?_
    rintro v ⟨q, hq, rfl⟩
    by_cases e : q = i
    · subst e
      exact ⟨_, ⟨r, hr, rfl⟩, _, ⟨r, hr, rfl⟩, 0, fun j hj => dd_c1 (by unfold dd_rw; rw [h1 j hj]) rfl _⟩
    · by_cases e2 : q = r
      · subst e2
        exact ⟨_, ⟨i, hi, rfl⟩, _, ⟨i, hi, rfl⟩, 0, fun j hj => dd_c1 (by unfold dd_rw; rw [h2 j hj]) rfl _⟩
      · exact ⟨_, ⟨q, hq, rfl⟩, _, ⟨q, hq, rfl⟩, 0, fun j hj => dd_c1 (by unfold dd_rw; rw [h3 q e e2 j hj]) rfl _⟩
  · refine dd_span ?_
    rintro v ⟨q, hq, rfl⟩
    by_cases e : q = i
    · subst e
      exact ⟨_, ⟨r, hr, rfl⟩, _, ⟨r, hr, rfl⟩, 0, fun j hj => dd_c1 (by unfold dd_rw; rw [h2 j hj]) rfl _⟩
    · by_cases e2 : q = r
      · subst e2
        exact ⟨_, ⟨i, hi, rfl⟩, _, ⟨i, hi, rfl⟩, 0, fun j hj => dd_c1 (by unfold dd_rw; rw [h1 j hj]) rfl _⟩
      · exact ⟨_, ⟨q, hq, rfl⟩, _, ⟨q, hq, rfl⟩, 0, fun j hj => dd_c1 (by unfold dd_rw; rw [h3 q e e2 j hj]) rfl _⟩
/-- the invariant of rankAtWork at column k: r rows have their pivots -/
def dd_RI (P : Int) (w : Nat → Int32) (n c k r : Nat) (t : Nat → Int32) : Prop :=
  r ≤ n ∧ dd_rgs P t ∧ (∀ s, dd_van P (dd_RS w n) s c ↔ dd_van P (dd_RS t n) s c) ∧ (∀ i, r ≤ i → i < n → ∀ j, j < k → t (i * 5 + j) = 0) ∧ ∃ S, S < 2 ^ k ∧ ¬ dd_cg P (dd_dt ((dd_dn r).map (dd_rw t)) S) 0
theorem dd_dn_len : ∀ n, (dd_dn n).length = n := by
  intro n
  induction n with
  | zero => rfl
  | succ n ih => rw [dd_dn, List.length_cons, ih]
theorem dd_RIe {P : Int} {w t : Nat → Int32} {n c k r : Nat} (hn : n ≤ 4) (hk : k ≤ c) (hI : dd_RI P w n c k r t) (e : k = c ∨ r = n) : ¬ dd_van P (dd_RS w n) r c ∧ ∀ s, r < s → dd_van P (dd_RS w n) s c := by
  obtain ⟨h1, h2, h3, h4, S, hS, h5⟩ := hI
  have z0 : (0 : Int32).toInt = 0 := by decide
  constructor
  · intro q
    apply h5
    refine (h3 r).mp q _ (by rw [List.length_map, dd_dn_len]) ?_ S (Nat.lt_of_lt_of_le hS (Nat.pow_le_pow_right (by decide) hk))
    intro v hv
    obtain ⟨i, hi, e⟩ := List.mem_map.mp hv
    exact ⟨i, by have := dd_dn_m r i hi; omega, e.symm⟩
  · intro s hs
    apply (h3 s).mpr
    refine dd_up hn (r := r) ?_ hs
    intro i hi1 hi2 j hj
    rcases e with e | e
    · subst e
      refine dd_cq ?_
      show (t (i * 5 + j)).toInt = 0
      rw [h4 i hi1 hi2 j hj, z0]
    · omega
theorem dd_rkw {P : Int} (hP : dd_pr P) {F : Int32} (hF : F.toInt = P) {a w v g s : Nat → Int32} {n c : Nat} {post : Int32 → SX → Prop} (hn : n ≤ 4) (hc : c ≤ 5) (hw : dd_rgs P w) (h : ∀ (r : Nat) (t : Nat → Int32), r ≤ 4 → (¬ dd_van P (dd_RS w n) r c ∧ ∀ s, r < s → dd_van P (dd_RS w n) s c) → post (nI r) (F, a, t, v, g, s)) : wpX_rankAtWork post (F, a, w, v, g, s) (nI n) (nI c) := by
  have z0 : (0 : Int32).toInt = 0 := by decide
  refine loop_0 (fun f k (t : Nat × (Nat → Int32)) => wX_rankAtWork_5 post (nI n) (nI c) f (nI t.1) (nI k) F a t.2 v g s) (fun k t => dd_RI P w n c k t.1 t.2) c (0, w) ?_ ?_ ?_
  · refine ⟨Nat.zero_le _, hw, fun s => Iff.rfl, fun i _ _ j hj => by omega, 0, by decide, ?_⟩
    show ¬ ((1 : Int) % P = 0 % P)
    rcases hP with rfl | rfl <;> decide
  · rintro f ⟨r, t⟩ hI
    have hI2 : dd_RI P w n c c r t := hI
    show wX_rankAtWork_5 post (nI n) (nI c) (f + 1) (nI r) (nI c) F a t v g s
    exact br_t (Int32.le_refl _) (h r t (by have := hI2.1; omega) (dd_RIe hn (Nat.le_refl _) hI2 (Or.inl rfl)))
  · rintro f k ⟨r, t⟩ hk hI ih
    have hI2 : dd_RI P w n c k r t := hI
    show wX_rankAtWork_5 post (nI n) (nI c) (f + 1) (nI r) (nI k) F a t v g s
    refine br_f (nI_ge hk (by omega)) ?_
    have hrn := hI2.1
    by_cases e : r = n
    · refine br_t (by rw [e]; exact Int32.le_refl _) ?_
      exact h r t (by omega) (dd_RIe hn (by omega) hI2 (Or.inr e))
    · have hr : r < n := by omega
      refine br_f (nI_ge hr (by omega)) ?_
      obtain ⟨h1, h2, h3, h4, S, hS, h5⟩ := hI2
      refine dd_piv hn (by omega) (by omega) ?_ ?_
      · intro i hri hin hnz
        refine br_f (nI_pos (by omega)) ?_
        refine dd_exc (by omega) (by omega) (fun t1 u1 u2 u3 => ?_)
        have g2 : dd_rgs P t1 := by
          intro q hq j hj
          by_cases q1 : q = i
          · subst q1; rw [u1 j hj]; exact h2 r (by omega) j hj
          · by_cases q2 : q = r
            · subst q2; rw [u2 j hj]; exact h2 i (by omega) j hj
            · rw [u3 q q1 q2 j hj]; exact h2 q hq j hj
        have g4 : ∀ i, r ≤ i → i < n → ∀ j, j < k → t1 (i * 5 + j) = 0 := by
          intro q hq1 hq2 j hj
          by_cases q1 : q = i
          · subst q1; rw [u1 j (by omega)]; exact h4 r (Nat.le_refl _) hr j hj
          · by_cases q2 : q = r
            · subst q2; rw [u2 j (by omega)]; exact h4 i hri hin j hj
            · rw [u3 q q1 q2 j (by omega)]; exact h4 q hq1 hq2 j hj
        have gp : ¬ t1 (r * 5 + k) = 0 := by rw [u2 k (by omega)]; exact hnz
        refine dd_clb hP hF hr hn (by omega) g2 gp g4 (fun t2 => ∀ s, dd_van P (dd_RS w n) s c ↔ dd_van P (dd_RS t2 n) s c) ?_ ?_ ?_
        · intro s
          exact (h3 s).trans (dd_vsw hr hin u1 u2 u3 s)
        · intro t2 t3 i f hi1 hi2 hQ k1 k2 s
          exact (hQ s).trans (dd_vop hi1 hi2 k1 k2 s)
        · intro t2 k1 k2 k3 k4
          refine nm_r (nI_1 r) (nm_r (nI_1 k) (ih (r + 1, t2) ?_))
          refine ⟨hr, k1, k2, fun i hi1 hi2 j hj => k4 i (by omega) hi2 j (by omega), S + 2 ^ k, ?_, ?_⟩
          · rw [Nat.pow_succ]; omega
          · intro q
            have l1 : dd_dt ((dd_dn (r + 1)).map (dd_rw t2)) (S + 2 ^ k) = dd_rw t2 r k * dd_dt ((dd_dn r).map (dd_rw t2)) S := by
              refine dd_lead (dd_rw t2 r) _ k S (by omega) hS ?_
              intro j hj
              show (t2 (r * 5 + j)).toInt = 0
              rw [k3 r (Or.inl (Nat.le_refl _)) j (by omega), g4 r (Nat.le_refl _) hr j hj, z0]
            have q2 : dd_cg P (dd_rw t2 r k * dd_dt ((dd_dn r).map (dd_rw t2)) S) 0 := by rw [← l1]; exact q
            have rk := k1 r (by omega) k (by omega)
            have nz : ¬ (t2 (r * 5 + k)).toInt = 0 := by
              intro z
              apply gp
              rw [← k3 r (Or.inl (Nat.le_refl _)) k (by omega)]
              exact dd_i0 z
            have q3 := dd_dom hP (x := dd_rw t2 r k) (by have := rk.1; show 0 < (t2 (r * 5 + k)).toInt; omega) rk.2 q2
            apply h5
            refine dd_ct (dd_cs (dd_map5 (t' := t2) ?_ S)) q3
            intro q hq j hj
            rw [k3 q (Or.inl (by omega)) j hj]
            exact u3 q (by omega) (by omega) j hj
      · intro hzz
        refine br_t (by decide) (nm_r (nI_1 k) (ih (r, t) ⟨h1, h2, h3, ?_, S, ?_, h5⟩))
        · intro i hi1 hi2 j hj
          rcases Nat.lt_or_ge j k with q | q
          · exact h4 i hi1 hi2 j q
          · have e2 : j = k := by omega
            rw [e2]; exact hzz i hi1 hi2
        · rw [Nat.pow_succ]; omega
/-- how many of the rows below i are in the set R -/
def dd_cnt (R : Nat) : Nat → Nat
  | 0 => 0
  | i + 1 => dd_cnt R i + R / 2 ^ i % 2
/-- rows of a set -/
def dd_MS (a : Nat → Int32) (R : Nat) (v : Nat → Int) : Prop := ∃ i, (i < 4 ∧ R / 2 ^ i % 2 = 1) ∧ v = dd_rw a i
theorem dd_keep {P : Int} {F : Int32} {a w v g s : Nat → Int32} {R : Nat} {post : Int32 → SX → Prop} (hR : R < 2 ^ 31) (hw : dd_rgs P w) (h : ∀ t : Nat → Int32, dd_rgs P t → dd_cnt R 4 ≤ 4 → (∀ k, k < dd_cnt R 4 → ∃ q, (q < 4 ∧ R / 2 ^ q % 2 = 1) ∧ ∀ j, j < 5 → t (k * 5 + j) = w (q * 5 + j)) → (∀ q, q < 4 → R / 2 ^ q % 2 = 1 → ∃ k, k < dd_cnt R 4 ∧ ∀ j, j < 5 → t (k * 5 + j) = w (q * 5 + j)) → post (nI (dd_cnt R 4)) (F, a, t, v, g, s)) : wpX_keepRows post (F, a, w, v, g, s) (nI R) := by
  refine loop_0 (fun n i (t : Nat → Int32) => wX_keepRows_4 post (nI R) n (nI (dd_cnt R i)) (nI i) F a t v g s) (fun i t => dd_rgs P t ∧ dd_cnt R i ≤ i ∧ (∀ k, k < dd_cnt R i → ∃ q, (q < i ∧ R / 2 ^ q % 2 = 1) ∧ ∀ j, j < 5 → t (k * 5 + j) = w (q * 5 + j)) ∧ (∀ q, q < i → R / 2 ^ q % 2 = 1 → ∃ k, k < dd_cnt R i ∧ ∀ j, j < 5 → t (k * 5 + j) = w (q * 5 + j)) ∧ (∀ q, i ≤ q → ∀ j, j < 5 → t (q * 5 + j) = w (q * 5 + j))) 4 w ?_ ?_ ?_
  · exact ⟨hw, Nat.le_refl _, fun k hk => absurd hk (Nat.not_lt_zero _), fun q hq => absurd hq (Nat.not_lt_zero _), fun _ _ _ _ => rfl⟩
  · rintro n t ⟨t1, t2, t3, t4, t5⟩
    exact br_t (by decide) (h t t1 t2 t3 t4)
  · rintro n i t hi ⟨t1, t2, t3, t4, t5⟩ ih
    show wX_keepRows_4 post (nI R) (n + 1) (nI (dd_cnt R i)) (nI i) F a t v g s
    have hb := dd_bit (k := i) hR (by omega)
    have hcnt : dd_cnt R (i + 1) = dd_cnt R i + R / 2 ^ i % 2 := rfl
    refine br_f (nI_ge (b := 4) hi (by decide)) ?_
    by_cases b : R / 2 ^ i % 2 = 0
    · have hc2 : dd_cnt R (i + 1) = dd_cnt R i := by omega
      refine br_t (by rw [hb, b]; rfl) (nm_r (nI_1 i) ?_)
      have k := ih t ⟨t1, by omega, ?_, ?_, fun q hq => t5 q (by omega)⟩
      · have k2 : wX_keepRows_4 post (nI R) n (nI (dd_cnt R (i + 1))) (nI (i + 1)) F a t v g s := k
        rw [hc2] at k2
        exact k2
      · intro k hk
        rw [hc2] at hk
        obtain ⟨q, ⟨q1, q2⟩, q3⟩ := t3 k hk
        exact ⟨q, ⟨by omega, q2⟩, q3⟩
      · intro q hq hqb
        rw [hc2]
        refine t4 q ?_ hqb
        rcases Nat.lt_or_ge q i with y | y
        · exact y
        · have e : q = i := by omega
          rw [e, b] at hqb
          exact absurd hqb (by decide)
    · have b1 : R / 2 ^ i % 2 = 1 := by omega
      have hc2 : dd_cnt R (i + 1) = dd_cnt R i + 1 := by omega
      refine br_f (by rw [hb, b1]; decide) ?_
      refine dd_exc (by omega) (by omega) (fun t' u1 u2 u3 => ?_)
      refine nm_r (nI_1 _) (nm_r (nI_1 i) ?_)
      have k := ih t' ⟨?_, by omega, ?_, ?_, ?_⟩
      · have k2 : wX_keepRows_4 post (nI R) n (nI (dd_cnt R (i + 1))) (nI (i + 1)) F a t' v g s := k
        rw [hc2] at k2
        exact k2
      · intro q hq j hj
        by_cases q1 : q = i
        · subst q1; rw [u1 j hj]; exact t1 _ (by omega) j hj
        · by_cases q2 : q = dd_cnt R i
          · rw [q2, u2 j hj]; exact t1 i (by omega) j hj
          · rw [u3 q q1 q2 j hj]; exact t1 q hq j hj
      · intro k hk
        rw [hc2] at hk
        by_cases e : k = dd_cnt R i
        · refine ⟨i, ⟨by omega, b1⟩, fun j hj => ?_⟩
          rw [e, u2 j hj]
          exact t5 i (Nat.le_refl _) j hj
        · obtain ⟨q, ⟨q1, q2⟩, q3⟩ := t3 k (by omega)
          refine ⟨q, ⟨by omega, q2⟩, fun j hj => ?_⟩
          rw [u3 k (by omega) e j hj]
          exact q3 j hj
      · intro q hq hqb
        rw [hc2]
        rcases Nat.lt_or_ge q i with y | y
        · obtain ⟨k, k1, k2⟩ := t4 q y hqb
          refine ⟨k, by omega, fun j hj => ?_⟩
          rw [u3 k (by omega) (by omega) j hj]
          exact k2 j hj
        · have e : q = i := by omega
          refine ⟨dd_cnt R i, by omega, fun j hj => ?_⟩
          rw [e, u2 j hj]
          exact t5 i (Nat.le_refl _) j hj
      · intro q hq j hj
        rw [u3 q (by omega) (by omega) j hj]
        exact t5 q (by omega) j hj
/-- r is the rank of the rows R of a, in c columns, over P -/
def dd_RK (P : Int) (a : Nat → Int32) (R c r : Nat) : Prop := ¬ dd_van P (dd_MS a R) r c ∧ ∀ s, r < s → dd_van P (dd_MS a R) s c
theorem dd_ldg {P : Int} (hP : dd_pr P) {a t : Nat → Int32} (h : ∀ k, k < 20 → (t k).toInt = (a k).toInt % P) : dd_rgs P t := fun i hi j hj => dd_rr hP (h (i * 5 + j) (by omega))
theorem dd_cv {P : Int} {a t t' : Nat → Int32} {R n c : Nat} (ht : ∀ k, k < 20 → (t k).toInt = (a k).toInt % P) (u3 : ∀ k, k < n → ∃ q, (q < 4 ∧ R / 2 ^ q % 2 = 1) ∧ ∀ j, j < 5 → t' (k * 5 + j) = t (q * 5 + j)) (u4 : ∀ q, q < 4 → R / 2 ^ q % 2 = 1 → ∃ k, k < n ∧ ∀ j, j < 5 → t' (k * 5 + j) = t (q * 5 + j)) (s : Nat) : dd_van P (dd_RS t' n) s c ↔ dd_van P (dd_MS a R) s c := by
  constructor
  · refine dd_span ?_
    rintro v ⟨q, ⟨hq, hb⟩, rfl⟩
    obtain ⟨k, k1, k2⟩ := u4 q hq hb
    refine ⟨_, ⟨k, k1, rfl⟩, _, ⟨k, k1, rfl⟩, 0, fun j hj => ?_⟩
    have e : dd_cg P (a (q * 5 + j)).toInt (t (q * 5 + j)).toInt := dd_cs (dd_rc (ht (q * 5 + j) (by omega)))
    refine dd_ct e (dd_c1 ?_ rfl _)
    unfold dd_rw
    rw [k2 j hj]
  · refine dd_span ?_
    rintro v ⟨k, hk, rfl⟩
    obtain ⟨q, ⟨hq, hb⟩, k2⟩ := u3 k hk
    refine ⟨_, ⟨q, ⟨hq, hb⟩, rfl⟩, _, ⟨q, ⟨hq, hb⟩, rfl⟩, 0, fun j hj => ?_⟩
    have e : dd_cg P (t (q * 5 + j)).toInt (a (q * 5 + j)).toInt := dd_rc (ht (q * 5 + j) (by omega))
    refine dd_ct ?_ (dd_ct e (dd_c1 rfl rfl _))
    unfold dd_rw
    rw [k2 j hj]
    exact dd_cr P _
theorem dd_cv2 {P : Int} {a t t' : Nat → Int32} {R n c r : Nat} (ht : ∀ k, k < 20 → (t k).toInt = (a k).toInt % P) (u3 : ∀ k, k < n → ∃ q, (q < 4 ∧ R / 2 ^ q % 2 = 1) ∧ ∀ j, j < 5 → t' (k * 5 + j) = t (q * 5 + j)) (u4 : ∀ q, q < 4 → R / 2 ^ q % 2 = 1 → ∃ k, k < n ∧ ∀ j, j < 5 → t' (k * 5 + j) = t (q * 5 + j)) (hk : ¬ dd_van P (dd_RS t' n) r c ∧ ∀ s, r < s → dd_van P (dd_RS t' n) s c) : dd_RK P a R c r :=
  ⟨fun q => hk.1 ((dd_cv ht u3 u4 r).mpr q), fun s hs => (dd_cv ht u3 u4 s).mp (hk.2 s hs)⟩
theorem dd_rkin {F0 : Int32} {a w v g s : Nat → Int32} {R c : Nat} {post : Int32 → SX → Prop} (hR : R < 2 ^ 31) (hc : c ≤ 5) (h : ∀ (r1 r2 : Nat) (t : Nat → Int32), r1 ≤ 4 → r2 ≤ 4 → dd_RK 32749 a R c r1 → dd_RK 32719 a R c r2 → post (nI (if r1 ≤ r2 then r2 else r1)) (32719, a, t, v, g, s)) : wpX_rankIn post (F0, a, w, v, g, s) (nI R) (nI c) := by
  have e1 : (32749 : Int32).toInt = 32749 := by decide
  have e2 : (32719 : Int32).toInt = 32719 := by decide
  unfold wpX_rankIn
  dsimp only
  refine dd_load (Or.inl rfl) e1 (fun t ht => ?_)
  refine dd_keep hR (dd_ldg (Or.inl rfl) ht) (fun t' u1 u2 u3 u4 => ?_)
  refine dd_rkw (Or.inl rfl) e1 u2 hc u1 (fun r1 t1 h1 k1 => ?_)
  refine dd_load (Or.inr rfl) e2 (fun z hz => ?_)
  refine dd_keep hR (dd_ldg (Or.inr rfl) hz) (fun z' y1 y2 y3 y4 => ?_)
  refine dd_rkw (Or.inr rfl) e2 y2 hc y1 (fun r2 t2 h2 k2 => ?_)
  have k := h r1 r2 t2 h1 h2 (dd_cv2 ht u3 u4 k1) (dd_cv2 hz y3 y4 k2)
  by_cases e : r1 ≤ r2
  · rw [if_pos e] at k
    exact br_t (nI_le e (by omega)) k
  · rw [if_neg e] at k
    exact br_f (nI_ge (by omega) (by omega)) k
end
section
/-! the reference: ones, expand, part -/
theorem dd_cnt_on (S : Nat) : dd_cnt S 5 = dd_on S := by simp [dd_cnt, dd_on]
theorem dd_cnt_le (S : Nat) : ∀ i, dd_cnt S i ≤ i := by
  intro i
  induction i with
  | zero => exact Nat.le_refl _
  | succ i ih => show dd_cnt S i + S / 2 ^ i % 2 ≤ i + 1; omega
theorem dd_on_le (S : Nat) : dd_on S ≤ 5 := by rw [← dd_cnt_on]; exact dd_cnt_le S 5
theorem dd_ones {c k : Nat → Int32} {t : Nat → Int64} {S : Nat} (hS : S < 2 ^ 31) {post : Int32 → Prop} (h : post (nI (dd_on S))) : wpY_ones post (c, k, t) (nI S) := by
  refine loop_0 (fun n i (_ : Unit) => wY_ones_4 post (nI S) c k t n (nI (dd_cnt S i)) (nI i)) (fun _ _ => True) 5 () trivial ?_ ?_
  · intro n _ _
    show wY_ones_4 post (nI S) c k t (n + 1) (nI (dd_cnt S 5)) (nI 5)
    rw [dd_cnt_on]
    exact br_t (by decide) h
  · intro n i _ hi _ ih
    show wY_ones_4 post (nI S) c k t (n + 1) (nI (dd_cnt S i)) (nI i)
    exact br_f (nI_ge (b := 5) hi (by decide)) (nm_r (e' := nI (dd_cnt S (i + 1))) (by rw [dd_bit hS (by omega), nI_add]; rfl) (nm_r (nI_1 i) (ih () trivial)))
theorem dd_rmb : ∀ S, S < 32 → ∀ j, j < 5 → S / 2 ^ j % 2 = 1 → nI S &&& (((1 : Int32) <<< (nI j &&& 31)) ^^^ (-1)) = nI (S - 2 ^ j) := by decide +kernel
theorem dd_iy (i j : Nat) : 5 * nI i + nI j = nI (i * 5 + j) := by
  rw [Int32.mul_comm]; exact dd_ix i j
theorem dd_cly {i j : Nat} (hi : i < 4) (hj : j < 5) : (5 * nI i + nI j).toNatClampNeg = i * 5 + j := by
  rw [dd_iy]; exact nI_clamp (by omega)
theorem dd_iny {i j : Nat} (hi : i < 4) (hj : j < 5) : vp_in (5 * nI i + nI j) 20 := by
  rw [dd_iy]; exact vp_in_nI (by omega) (by decide)
def dd_sm (v T : Nat → Int) (S : Nat) : Nat → Int
  | 0 => 0
  | j + 1 => dd_sm v T S j + dd_tm v T S j
theorem dd_sm5 {v T : Nat → Int} {S : Nat} (h : S < 32) : dd_sm v T S 5 = dd_wd v T S := by
  simp only [dd_wd, if_pos h, dd_sm, Int.zero_add]
theorem dd_exp {c k : Nat → Int32} {t : Nat → Int64} {T : Nat → Int} {i S : Nat} (hi : i < 4) (hS : S < 32) (hT : ∀ j, j < 5 → S / 2 ^ j % 2 = 1 → t (S - 2 ^ j) = Int64.ofInt (T (S - 2 ^ j))) {post : Int64 → Prop} (h : post (Int64.ofInt (dd_wd (dd_rw c i) T S))) : wpY_expand post (c, k, t) (nI i) (nI S) := by
  refine loop_0 (fun n j (_ : Unit) => wY_expand_5 post (nI i) (nI S) c k t n (Int64.ofInt (dd_sm (dd_rw c i) T S j)) (nI j)) (fun _ _ => True) 5 () trivial ?_ ?_
  · intro n _ _
    show wY_expand_5 post (nI i) (nI S) c k t (n + 1) (Int64.ofInt (dd_sm (dd_rw c i) T S 5)) (nI 5)
    rw [dd_sm5 hS]
    exact br_t (by decide) h
  · intro n j _ hj _ ih
    show wY_expand_5 post (nI i) (nI S) c k t (n + 1) (Int64.ofInt (dd_sm (dd_rw c i) T S j)) (nI j)
    have hsm : dd_sm (dd_rw c i) T S (j + 1) = dd_sm (dd_rw c i) T S j + dd_tm (dd_rw c i) T S j := rfl
    have ih2 : wY_expand_5 post (nI i) (nI S) c k t n (Int64.ofInt (dd_sm (dd_rw c i) T S (j + 1))) (nI (j + 1)) := ih () trivial
    have hb := dd_bit (S := S) (k := j) (by omega) (by omega)
    refine br_f (nI_ge (b := 5) hj (by decide)) ?_
    by_cases b : S / 2 ^ j % 2 = 1
    · have hd : S / 2 ^ (j + 1) ≤ S := Nat.div_le_self _ _
      have hsh : nI S >>> ((nI j + 1) &&& 31) = nI (S / 2 ^ (j + 1)) := by
        rw [nI_1]; exact pk_shrN (by omega) _ (j + 1) (s_l (j + 1) (by omega))
      refine br_t (by rw [hb, b]; rfl) ?_
      rw [dd_rmb S hS j hj b, dd_cly hi hj, hsh]
      have hlt : S - 2 ^ j < 32 := Nat.lt_of_le_of_lt (Nat.sub_le _ _) hS
      have hcl : (nI (S - 2 ^ j)).toNatClampNeg = S - 2 ^ j := nI_clamp (Nat.lt_trans hlt (by decide))
      rw [hcl, hT j hj b]
      refine And.intro (dd_iny hi hj) (And.intro (vp_in_nI hlt (by decide)) (nm_e ?_))
      refine dd_ones (by omega) (And.intro (by decide) ?_)
      have hm : nI (dd_on (S / 2 ^ (j + 1))) - nI (dd_on (S / 2 ^ (j + 1))) / 2 * 2 = nI (dd_on (S / 2 ^ (j + 1)) % 2) := pk_rem (d := 2) (by have := dd_on_le (S / 2 ^ (j + 1)); omega) (by decide) (by decide)
      have hx : (c (i * 5 + j)).toInt64 * Int64.ofInt (T (S - 2 ^ j)) = Int64.ofInt (dd_rw c i j * T (S - 2 ^ j)) := by
        rw [Int64.ofInt_mul]; rfl
      rw [hm, hx]
      have htm : dd_tm (dd_rw c i) T S j = dd_sg S j * (dd_rw c i j * T (S - 2 ^ j)) := if_pos b
      by_cases p : dd_on (S / 2 ^ (j + 1)) % 2 = 0
      · have hsg : dd_sg S j = 1 := if_pos p
        refine br_t (by rw [p]; rfl) (nm_r (e' := Int64.ofInt (dd_sm (dd_rw c i) T S (j + 1))) ?_ (nm_r (nI_1 j) ih2))
        rw [hsm, htm, hsg, Int.one_mul, Int64.ofInt_add]
      · have hsg : dd_sg S j = -1 := if_neg p
        refine br_f (nI_ne0 (by omega) (by omega)) (nm_r (e' := Int64.ofInt (dd_sm (dd_rw c i) T S (j + 1))) ?_ (nm_r (nI_1 j) ih2))
        rw [hsm, htm, hsg, Int.neg_mul, Int.one_mul, ← Int.sub_eq_add_neg, Int64.ofInt_sub]
    · have htm : dd_tm (dd_rw c i) T S j = 0 := if_neg b
      have b0 : S / 2 ^ j % 2 = 0 := by omega
      refine br_f (by rw [hb, b0]; decide) (nm_r (nI_1 j) ?_)
      rw [hsm, htm, Int.add_zero] at ih2
      exact ih2
theorem dd_p34 {c k t : _} {l : List (Nat → Int)} {i m : Nat} {x1 x2 : Int32} {post : Int64 → SY → Prop} {J : Int32 → Int32 → (Nat → Int32) → (Nat → Int32) → (Nat → Int64) → Prop} (hi : i < 4) (hm : m < 5) (hT : ∀ S, S < 32 → dd_on S = m → t S = Int64.ofInt (dd_dt l S)) (hJ : ∀ t' : Nat → Int64, (∀ S, S < 32 → dd_on S = m + 1 → t' S = Int64.ofInt (dd_dt (dd_rw c i :: l) S)) → J (nI (m + 1)) (nI (i + 1)) c k t') : ∃ n, wY_part_34 post J x1 x2 (nI (m + 1)) (nI i) n 1 c k t := by
  refine pk_loop (fun n s (t' : Nat → Int64) => wY_part_34 post J x1 x2 (nI (m + 1)) (nI i) n (nI s) c k t') (fun s t' => (∀ S, S < 32 → dd_on S = m → t' S = Int64.ofInt (dd_dt l S)) ∧ (∀ S, S < s → dd_on S = m + 1 → t' S = Int64.ofInt (dd_dt (dd_rw c i :: l) S))) 32 1 t (by decide) ⟨hT, ?_⟩ ?_ ?_
  · intro S hS h
    have e : S = 0 := by omega
    rw [e] at h
    exact absurd h (by show ¬ 0 = m + 1; omega)
  · rintro n t' ⟨_, t2⟩
    exact br_t (by decide) (nm_r (nI_1 i) (hJ t' t2))
  · rintro n s t' hs ⟨t1, t2⟩ ih
    show wY_part_34 post J x1 x2 (nI (m + 1)) (nI i) (n + 1) (nI s) c k t'
    have hin : vp_in (nI s) 32 := vp_in_nI hs (by decide)
    have hcl : (nI s).toNatClampNeg = s := nI_clamp (by omega)
    have h5 := dd_on_le s
    refine br_f (nI_ge (b := 32) hs (by decide)) (dd_ones (by omega) ?_)
    rw [hcl]
    by_cases e : dd_on s = m + 1
    · refine br_t (by rw [e]) ?_
      refine dd_exp (T := dd_dt l) hi hs (fun j hj b => t1 _ (Nat.lt_of_le_of_lt (Nat.sub_le _ _) hs) ?_) (And.intro hin (nm_e (nm_r (nI_1 s) (ih _ ⟨?_, ?_⟩))))
      · have := dd_on_d s hs j hj b
        omega
      · intro S hS h
        rw [pk_uLn (by intro q; rw [q] at h; omega)]
        exact t1 S hS h
      · intro S hS h
        by_cases q : S = s
        · rw [q, pk_uLs]; rfl
        · rw [pk_uLn q]; exact t2 S (by omega) h
    · refine br_f (fun q => e ((nI_eq (by omega) (by omega)).mp q)) (And.intro hin (And.intro hin (nm_e (nm_r (nI_1 s) (ih _ ⟨?_, ?_⟩)))))
      · intro S hS h
        by_cases q : S = s
        · rw [q, pk_uLs, ← q]; exact t1 S hS h
        · rw [pk_uLn q]; exact t1 S hS h
      · intro S hS h
        by_cases q : S = s
        · rw [q] at h; exact absurd h e
        · rw [pk_uLn q]; exact t2 S (by omega) h
theorem dd_on0 : ∀ S, S < 32 → dd_on S = 0 → S = 0 := by decide +kernel
theorem dd_bl_le (m : Nat) : ∀ i, (dd_bl i m).length ≤ i := by
  intro i
  induction i with
  | zero => exact Nat.le_refl _
  | succ i ih =>
    rw [dd_bl]
    split
    · rw [List.length_cons]; omega
    · omega
theorem dd_part {c k : Nat → Int32} {t : Nat → Int64} {R C : Nat} {post : Int64 → SY → Prop} (hR : R < 16) (hC : C < 32) (he : dd_on C = (dd_bl 4 R).length) (h0 : (dd_bl 4 R).length ≠ 0) (h : ∀ t' : Nat → Int64, post (Int64.ofInt (dd_dt ((dd_bl 4 R).map (dd_rw c)) C)) (c, k, t')) : wpY_part post (c, k, t) (nI R) (nI C) := by
  refine nm_e ?_
  refine loop_0 (fun n i (t' : Nat → Int64) => wY_part_12 post (nI R) (nI C) n (nI (dd_bl i R).length) (nI i) c k t') (fun i t' => ∀ S, S < 32 → dd_on S = (dd_bl i R).length → t' S = Int64.ofInt (dd_dt ((dd_bl i R).map (dd_rw c)) S)) 4 _ ?_ ?_ ?_
  · intro S hS h
    have e : S = 0 := dd_on0 S hS h
    rw [e, pk_uLs]
    rfl
  · intro n t' ht
    show wY_part_12 post (nI R) (nI C) (n + 1) (nI (dd_bl 4 R).length) (nI 4) c k t'
    have hl := dd_bl_le R 4
    have hcl : (nI C).toNatClampNeg = C := nI_clamp (by omega)
    refine br_t (by decide) (br_f (nI_ne0 (by omega) (by omega)) (And.intro (vp_in_nI hC (by decide)) ?_))
    rw [hcl, ht C hC he]
    exact h t'
  · intro n i t' hi ht ih
    show wY_part_12 post (nI R) (nI C) (n + 1) (nI (dd_bl i R).length) (nI i) c k t'
    have hb := dd_bit (S := R) (k := i) (by omega) (by omega)
    have hl := dd_bl_le R i
    refine br_f (nI_ge (b := 4) hi (by decide)) ?_
    by_cases b : R / 2 ^ i % 2 = 1
    · have e : dd_bl (i + 1) R = i :: dd_bl i R := if_pos b
      refine br_t (by rw [hb, b]; rfl) (nm_r (nI_1 _) ?_)
      refine dd_p34 hi (by omega) ht (fun t2 h2 => ?_)
      have k2 : wY_part_12 post (nI R) (nI C) n (nI (dd_bl (i + 1) R).length) (nI (i + 1)) c k t2 := ih t2 (by rw [e]; exact h2)
      rw [e, List.length_cons] at k2
      exact k2
    · have e : dd_bl (i + 1) R = dd_bl i R := if_neg b
      have b0 : R / 2 ^ i % 2 = 0 := by omega
      refine br_f (by rw [hb, b0]; decide) (nm_r (nI_1 i) ?_)
      have k2 : wY_part_12 post (nI R) (nI C) n (nI (dd_bl (i + 1) R).length) (nI (i + 1)) c k t' := ih t' (by rw [e]; exact ht)
      rw [e] at k2
      exact k2
theorem dd_ydet {c k : Nat → Int32} {t : Nat → Int64} {post : Int32 → SY → Prop} (h : ∀ t' : Nat → Int64, post (Int32.ofInt (dd_dt ((dd_dn 4).map (dd_rw c)) 15)) (c, k, t')) : wpY_determinant post (c, k, t) := by
  unfold wpY_determinant
  dsimp only
  refine dd_part (R := 15) (C := 15) (by decide) (by decide) (by decide) (by decide) (fun t' => ?_)
  rw [Int64.toInt32_ofInt]
  exact h t'
end
section
/-! bounds; the reference's rankIn and principal -/
theorem dd_ab {x y B C : Int} (hB : 0 ≤ B) (hC : 0 ≤ C) (hx : -B ≤ x ∧ x ≤ B) (hy : -C ≤ y ∧ y ≤ C) : -(B * C) ≤ x * y ∧ x * y ≤ B * C := by
  have h1 : 0 ≤ (B - x) * (C + y) := Int.mul_nonneg (by omega) (by omega)
  have h2 : 0 ≤ (B + x) * (C - y) := Int.mul_nonneg (by omega) (by omega)
  have h3 : 0 ≤ (B - x) * (C - y) := Int.mul_nonneg (by omega) (by omega)
  have h4 : 0 ≤ (B + x) * (C + y) := Int.mul_nonneg (by omega) (by omega)
  rw [Int.sub_mul, Int.mul_add, Int.mul_add] at h1
  rw [Int.add_mul, Int.mul_sub, Int.mul_sub] at h2
  rw [Int.sub_mul, Int.mul_sub, Int.mul_sub] at h3
  rw [Int.add_mul, Int.mul_add, Int.mul_add] at h4
  omega
theorem dd_tm_b {v T : Nat → Int} {S j : Nat} {B C : Int} (hB : 0 ≤ B) (hC : 0 ≤ C) (hv : -B ≤ v j ∧ v j ≤ B) (hT : S / 2 ^ j % 2 = 1 → -C ≤ T (S - 2 ^ j) ∧ T (S - 2 ^ j) ≤ C) : -((S / 2 ^ j % 2 : Nat) * (B * C)) ≤ dd_tm v T S j ∧ dd_tm v T S j ≤ (S / 2 ^ j % 2 : Nat) * (B * C) := by
  by_cases e : S / 2 ^ j % 2 = 1
  · have h := dd_ab hB hC hv (hT e)
    simp only [dd_tm, if_pos e]
    have s : dd_sg S j = 1 ∨ dd_sg S j = -1 := by
      unfold dd_sg; split
      · exact Or.inl rfl
      · exact Or.inr rfl
    rw [e]
    rcases s with s | s <;> rw [s] <;> omega
  · have e0 : S / 2 ^ j % 2 = 0 := by omega
    simp only [dd_tm, if_neg e, e0]
    omega
theorem dd_wd_b {v T : Nat → Int} {S : Nat} {B C : Int} (hS : S < 32) (hB : 0 ≤ B) (hC : 0 ≤ C) (hv : ∀ j, j < 5 → -B ≤ v j ∧ v j ≤ B) (hT : ∀ j, j < 5 → S / 2 ^ j % 2 = 1 → -C ≤ T (S - 2 ^ j) ∧ T (S - 2 ^ j) ≤ C) : -((dd_on S : Nat) * (B * C)) ≤ dd_wd v T S ∧ dd_wd v T S ≤ (dd_on S : Nat) * (B * C) := by
  have t : ∀ j, j < 5 → -((S / 2 ^ j % 2 : Nat) * (B * C)) ≤ dd_tm v T S j ∧ dd_tm v T S j ≤ (S / 2 ^ j % 2 : Nat) * (B * C) := fun j hj => dd_tm_b hB hC (hv j hj) (hT j hj)
  have e : ((dd_on S : Nat) : Int) * (B * C) = (S / 2 ^ 0 % 2 : Nat) * (B * C) + (S / 2 ^ 1 % 2 : Nat) * (B * C) + (S / 2 ^ 2 % 2 : Nat) * (B * C) + (S / 2 ^ 3 % 2 : Nat) * (B * C) + (S / 2 ^ 4 % 2 : Nat) * (B * C) := by
    rw [← Int.add_mul, ← Int.add_mul, ← Int.add_mul, ← Int.add_mul]
    congr 1
    rw [← dd_cnt_on]
    simp only [dd_cnt, Int.natCast_add]
    omega
  have t0 := t 0 (by decide)
  have t1 := t 1 (by decide)
  have t2 := t 2 (by decide)
  have t3 := t 3 (by decide)
  have t4 := t 4 (by decide)
  simp only [dd_wd, if_pos hS]
  rw [e]
  omega
/-- k factorial times the powers of a bound -/
def dd_fb (B : Int) : Nat → Int
  | 0 => 1
  | n + 1 => ((n + 1 : Nat) : Int) * (B * dd_fb B n)
theorem dd_fb0 {B : Int} (hB : 0 ≤ B) : ∀ n, 0 ≤ dd_fb B n := by
  intro n
  induction n with
  | zero => show (0 : Int) ≤ 1; decide
  | succ n ih => exact Int.mul_nonneg (by omega) (Int.mul_nonneg hB ih)
theorem dd_dt_b {B : Int} (hB : 0 ≤ B) : ∀ (l : List (Nat → Int)), (∀ v, v ∈ l → ∀ j, j < 5 → -B ≤ v j ∧ v j ≤ B) → ∀ S, S < 32 → -(dd_fb B l.length) ≤ dd_dt l S ∧ dd_dt l S ≤ dd_fb B l.length := by
  intro l
  induction l with
  | nil =>
    intro _ S _
    show -1 ≤ dd_t0 S ∧ dd_t0 S ≤ 1
    unfold dd_t0
    split <;> decide
  | cons v l ih =>
    intro h S hS
    have hf := dd_fb0 hB l.length
    by_cases e : dd_on S = (v :: l).length
    · have k := dd_wd_b (T := dd_dt l) hS hB hf (h v (List.mem_cons_self ..)) (fun j hj b => ih (fun u hu => h u (List.mem_cons_of_mem _ hu)) _ (Nat.lt_of_le_of_lt (Nat.sub_le _ _) hS))
      rw [e] at k
      exact k
    · rw [dd_dt_on _ S hS e]
      have := dd_fb0 hB (v :: l).length
      omega
def dd_bd (c : Nat → Int32) : Prop := ∀ i, -50 ≤ (c i).toInt ∧ (c i).toInt ≤ 50
theorem dd_blb {c : Nat → Int32} (hc : dd_bd c) (idx : List Nat) (S : Nat) (hS : S < 32) : -(dd_fb 50 idx.length) ≤ dd_dt (idx.map (dd_rw c)) S ∧ dd_dt (idx.map (dd_rw c)) S ≤ dd_fb 50 idx.length := by
  have k := dd_dt_b (B := 50) (by decide) (idx.map (dd_rw c)) (by
    intro v hv j _
    obtain ⟨i, _, e⟩ := List.mem_map.mp hv
    rw [← e]
    exact hc _) S hS
  rw [List.length_map] at k
  exact k
theorem dd_fb4 : ∀ n, n ≤ 4 → dd_fb 50 n ≤ 150000000 := by
  intro n hn
  have e : n = 0 ∨ n = 1 ∨ n = 2 ∨ n = 3 ∨ n = 4 := by omega
  rcases e with rfl | rfl | rfl | rfl | rfl <;> decide
theorem dd_bl4b {c : Nat → Int32} (hc : dd_bd c) (m S : Nat) (hS : S < 32) : -150000000 ≤ dd_dt ((dd_bl 4 m).map (dd_rw c)) S ∧ dd_dt ((dd_bl 4 m).map (dd_rw c)) S ≤ 150000000 := by
  have k := dd_blb hc (dd_bl 4 m) S hS
  have k2 := dd_fb4 _ (dd_bl_le m 4)
  omega
theorem dd_l0 {D : Int} (h1 : -150000000 ≤ D ∧ D ≤ 150000000) (h : Int64.ofInt D = 0) : D = 0 := by
  have k := congrArg Int64.toInt h
  rw [Int64.toInt_ofInt_of_le (by omega) (by omega)] at k
  rw [k]; decide
/-- a part with as many rows as columns, of the rows R and c columns, that is not 0 -/
def dd_ok (a : Nat → Int32) (R c m S : Nat) : Prop := (∀ i, i < 4 → m / 2 ^ i % 2 = 1 → R / 2 ^ i % 2 = 1) ∧ S < 2 ^ c ∧ dd_on m = dd_on S ∧ dd_dt ((dd_bl 4 m).map (dd_rw a)) S ≠ 0
def dd_MI (a : Nat → Int32) (R c : Nat) (Pr : Nat → Nat → Prop) (M : Nat) : Prop :=
  (M = 0 ∨ ∃ m S, m < 16 ∧ S < 32 ∧ dd_ok a R c m S ∧ dd_on m = M) ∧ ∀ m S, 1 ≤ m → m < 16 → 1 ≤ S → S < 32 → Pr m S → dd_ok a R c m S → dd_on m ≤ M
theorem dd_m1 : ∀ R, R < 16 → ∀ m, m < 16 → ((nI m &&& (nI R ^^^ (-1)) = 0) ↔ ∀ i, i < 4 → m / 2 ^ i % 2 = 1 → R / 2 ^ i % 2 = 1) := by decide +kernel
theorem dd_m2 : ∀ c, c < 6 → ∀ S, S < 32 → (c < 4 ∨ ((nI S &&& (nI (2 ^ c - 1) ^^^ (-1)) = 0) ↔ S < 2 ^ c)) := by decide +kernel
theorem dd_on_bl : ∀ m, m < 16 → (dd_bl 4 m).length = dd_on m ∧ (1 ≤ m → dd_on m ≠ 0) := by decide +kernel
theorem dd_y70 {a k : Nat → Int32} {t : Nat → Int64} {R c m S M : Nat} {x1 x2 : Int32} {post : Int32 → SY → Prop} {J5 J15 : Int32 → Int32 → (Nat → Int32) → (Nat → Int32) → (Nat → Int64) → Prop} (ha : dd_bd a) (hm0 : 1 ≤ m) (hm : m < 16) (hS : S < 32) (he : dd_on m = dd_on S) (h : ∀ (t' : Nat → Int64) (M' : Nat), (dd_dt ((dd_bl 4 m).map (dd_rw a)) S = 0 → M' = M) → (dd_dt ((dd_bl 4 m).map (dd_rw a)) S ≠ 0 → M' = dd_on m) → J15 (nI M') (nI (S + 1)) a k t') : wY_rankIn_70 post J5 J15 x1 x2 (nI M) (nI m) (nI S) 1 a k t := by
  obtain ⟨e1, e2⟩ := dd_on_bl m hm
  refine br_f (by decide) ?_
  refine dd_part hm hS (by rw [e1, he]) (by rw [e1]; exact e2 hm0) (fun t' => ?_)
  by_cases z : dd_dt ((dd_bl 4 m).map (dd_rw a)) S = 0
  · refine br_t (by rw [z]; rfl) (nm_r (nI_1 S) (h t' M (fun _ => rfl) (fun q => absurd z q)))
  · refine br_f (fun q => z (dd_l0 (dd_bl4b ha m S hS) q)) ?_
    exact dd_ones (by omega) (nm_r (nI_1 S) (h t' (dd_on m) (fun q => absurd q z) (fun _ => rfl)))
theorem dd_yrank {a k : Nat → Int32} {t : Nat → Int64} {R c : Nat} {post : Int32 → SY → Prop} (ha : dd_bd a) (hR : R < 16) (hc : c = 4 ∨ c = 5) (h : ∀ (t' : Nat → Int64) (M : Nat), dd_MI a R c (fun _ _ => True) M → post (nI M) (a, k, t')) : wpY_rankIn post (a, k, t) (nI R) (nI (2 ^ c - 1)) := by
  refine pk_loop (fun n m (s : Nat × (Nat → Int64)) => wY_rankIn_5 post (nI R) (nI (2 ^ c - 1)) n (nI s.1) (nI m) a k s.2) (fun m s => 1 ≤ m ∧ s.1 ≤ 5 ∧ dd_MI a R c (fun m' _ => m' < m) s.1) 16 1 (0, t) (by decide) ⟨Nat.le_refl _, Nat.zero_le 5, Or.inl rfl, fun m S h1 _ _ _ h2 _ => by omega⟩ ?_ ?_
  · rintro n ⟨M, t'⟩ ⟨_, _, hM⟩
    show wY_rankIn_5 post (nI R) (nI (2 ^ c - 1)) (n + 1) (nI M) (nI 16) a k t'
    exact br_t (by decide) (h t' M ⟨hM.1, fun m S h1 h2 h3 h4 _ h5 => hM.2 m S h1 h2 h3 h4 h2 h5⟩)
  · rintro n m ⟨M0, t0⟩ hm ⟨hm1, hM05, hM0⟩ ih
    show wY_rankIn_5 post (nI R) (nI (2 ^ c - 1)) (n + 1) (nI M0) (nI m) a k t0
    refine br_f (nI_ge (b := 16) hm (by decide)) ?_
    refine pk_loop (fun n' S (s : Nat × (Nat → Int64)) => wY_rankIn_15 post (wY_rankIn_5 post (nI R) (nI (2 ^ c - 1)) n) (nI R) (nI (2 ^ c - 1)) (nI m) n' (nI s.1) (nI S) a k s.2) (fun S s => 1 ≤ S ∧ s.1 ≤ 5 ∧ dd_MI a R c (fun m' S' => m' < m ∨ (m' = m ∧ S' < S)) s.1) 32 1 (M0, t0) (by decide) ⟨Nat.le_refl _, hM05, hM0.1, fun m' S' h1 h2 h3 h4 h5 h6 => hM0.2 m' S' h1 h2 h3 h4 (by omega) h6⟩ ?_ ?_
    · rintro n' ⟨M, t'⟩ ⟨_, hM5, hM⟩
      show wY_rankIn_15 post (wY_rankIn_5 post (nI R) (nI (2 ^ c - 1)) n) (nI R) (nI (2 ^ c - 1)) (nI m) (n' + 1) (nI M) (nI 32) a k t'
      exact br_t (by decide) (nm_r (nI_1 m) (ih (M, t') ⟨by omega, hM5, hM.1, fun m' S' h1 h2 h3 h4 h5 h6 => hM.2 m' S' h1 h2 h3 h4 (by omega) h6⟩))
    · rintro n' S ⟨M, t'⟩ hS ⟨hS1, hM5, hM⟩ ih2
      have hM5' : M ≤ 5 := hM5
      show wY_rankIn_15 post (wY_rankIn_5 post (nI R) (nI (2 ^ c - 1)) n) (nI R) (nI (2 ^ c - 1)) (nI m) (n' + 1) (nI M) (nI S) a k t'
      have hom := dd_on_le m
      have hos := dd_on_le S
      have c1 := dd_m1 R hR m hm
      have c2 : (nI S &&& (nI (2 ^ c - 1) ^^^ (-1)) = 0) ↔ S < 2 ^ c := by
        rcases dd_m2 c (by omega) S hS with q | q
        · omega
        · exact q
      have skip : ∀ (t2 : Nat → Int64), (dd_ok a R c m S → dd_on m ≤ M) → wY_rankIn_15 post (wY_rankIn_5 post (nI R) (nI (2 ^ c - 1)) n) (nI R) (nI (2 ^ c - 1)) (nI m) n' (nI M) (nI (S + 1)) a k t2 := by
        intro t2 hq
        refine ih2 (M, t2) ⟨by omega, hM5, hM.1, fun m' S' h1 h2 h3 h4 h5 h6 => ?_⟩
        by_cases e : m' = m ∧ S' = S
        · obtain ⟨e1, e2⟩ := e
          rw [e1, e2] at h6
          rw [e1]
          exact hq h6
        · exact hM.2 m' S' h1 h2 h3 h4 (by omega) h6
      have skip69 : (dd_ok a R c m S → dd_on m ≤ M) → wY_rankIn_69 post (wY_rankIn_5 post (nI R) (nI (2 ^ c - 1)) n) (wY_rankIn_15 post (wY_rankIn_5 post (nI R) (nI (2 ^ c - 1)) n) (nI R) (nI (2 ^ c - 1)) (nI m) n') (nI R) (nI (2 ^ c - 1)) (nI M) (nI m) (nI S) a k t' := by
        intro hq
        unfold wY_rankIn_69 wY_rankIn_70
        exact br_t rfl (nm_r (nI_1 S) (skip t' hq))
      refine br_f (nI_ge (b := 32) hS (by decide)) ?_
      by_cases q1 : nI m &&& (nI R ^^^ (-1)) = 0
      · refine br_t q1 ?_
        by_cases q2 : nI S &&& (nI (2 ^ c - 1) ^^^ (-1)) = 0
        · refine br_t q2 (dd_ones (by omega) (dd_ones (by omega) ?_))
          by_cases q3 : dd_on m = dd_on S
          · refine br_t (by rw [q3]) (dd_ones (by omega) ?_)
            by_cases q4 : dd_on m ≤ M
            · exact br_t (nI_le q4 (by omega)) (skip69 (fun _ => q4))
            · refine br_f (nI_ge (by omega) (by omega)) ?_
              refine dd_y70 (R := R) (c := c) ha hm1 hm hS q3 (fun t2 M' z1 z2 => ?_)
              by_cases z : dd_dt ((dd_bl 4 m).map (dd_rw a)) S = 0
              · rw [z1 z]
                exact skip t2 (fun q => absurd z q.2.2.2)
              · rw [z2 z]
                refine ih2 (dd_on m, t2) ⟨by omega, hom, Or.inr ⟨m, S, hm, hS, ⟨c1.mp q1, c2.mp q2, q3, z⟩, rfl⟩, fun m' S' h1 h2 h3 h4 h5 h6 => ?_⟩
                by_cases e : m' = m ∧ S' = S
                · rw [e.1]; exact Nat.le_refl _
                · have := hM.2 m' S' h1 h2 h3 h4 (by omega) h6
                  have this2 : dd_on m' ≤ M := this
                  show dd_on m' ≤ dd_on m
                  omega
          · exact br_f (fun q => q3 ((nI_eq (by omega) (by omega)).mp q)) (skip69 (fun q => absurd q.2.2.1 q3))
        · exact br_f q2 (skip69 (fun q => absurd (c2.mpr q.2.1) q2))
      · exact br_f q1 (skip69 (fun q => absurd (c1.mpr q.1) q1))
/-- the sum of the parts with the same k rows and columns, of sets below n -/
def dd_Es (A : Nat → Nat → Int) (k : Nat) : Nat → Int
  | 0 => 0
  | n + 1 => dd_Es A k n + if dd_on n = k then dd_dt ((dd_bl 4 n).map A) n else 0
theorem dd_yprin {a k : Nat → Int32} {t : Nat → Int64} {j : Nat} {post : Int32 → SY → Prop} (hj : 1 ≤ j) (hj4 : j ≤ 4) (h : ∀ (t' : Nat → Int64), post (Int32.ofInt (dd_Es (dd_rw a) j 16)) (a, k, t')) : wpY_principal post (a, k, t) (nI j) := by
  refine br_f (nI_nlt (b := 1) hj (by omega)) (br_t (nI_le (b := 4) hj4 (by decide)) ?_)
  have e0 : dd_Es (dd_rw a) j 1 = 0 := by
    show 0 + (if dd_on 0 = j then dd_dt ((dd_bl 4 0).map (dd_rw a)) 0 else 0) = 0
    rw [if_neg (by show ¬ 0 = j; omega)]; rfl
  have main : ∃ n, wY_principal_18 post (nI j) n (Int64.ofInt (dd_Es (dd_rw a) j 1)) (nI 1) a k t := ?_
  · rw [e0] at main
    exact main
  refine pk_loop (fun n m (s : Nat → Int64) => wY_principal_18 post (nI j) n (Int64.ofInt (dd_Es (dd_rw a) j m)) (nI m) a k s) (fun m _ => 1 ≤ m) 16 1 t (by decide) (by decide) ?_ ?_
  · intro n s _
    show wY_principal_18 post (nI j) (n + 1) (Int64.ofInt (dd_Es (dd_rw a) j 16)) (nI 16) a k s
    refine br_t (by decide) ?_
    rw [Int64.toInt32_ofInt]
    exact h s
  · intro n m s hm hm1 ih
    show wY_principal_18 post (nI j) (n + 1) (Int64.ofInt (dd_Es (dd_rw a) j m)) (nI m) a k s
    have ho := dd_on_le m
    obtain ⟨e1, e2⟩ := dd_on_bl m hm
    have hs : dd_Es (dd_rw a) j (m + 1) = dd_Es (dd_rw a) j m + if dd_on m = j then dd_dt ((dd_bl 4 m).map (dd_rw a)) m else 0 := rfl
    have ih2 : ∀ s', wY_principal_18 post (nI j) n (Int64.ofInt (dd_Es (dd_rw a) j (m + 1))) (nI (m + 1)) a k s' := fun s' => ih s' (by show 1 ≤ m + 1; omega)
    refine br_f (nI_ge (b := 16) hm (by decide)) (dd_ones (by omega) ?_)
    by_cases e : dd_on m = j
    · refine br_t (by rw [e]) (dd_part hm (by omega) e1.symm (by rw [e1]; exact e2 hm1) (fun t' => ?_))
      refine nm_r (e' := Int64.ofInt (dd_Es (dd_rw a) j (m + 1))) ?_ (nm_r (nI_1 m) (ih2 t'))
      rw [hs, if_pos e, Int64.ofInt_add]
    · refine br_f (fun q => e ((nI_eq (by omega) (by omega)).mp q)) (nm_r (nI_1 m) ?_)
      have k2 := ih2 s
      rw [hs, if_neg e, Int.add_zero] at k2
      exact k2
end
section
/-! the relation; the rank: remainders against numbers -/
theorem dd_bl_mem (m : Nat) : ∀ n i, i ∈ dd_bl n m → i < n ∧ m / 2 ^ i % 2 = 1 := by
  intro n
  induction n with
  | zero => intro i h; cases h
  | succ n ih =>
    intro i h
    rw [dd_bl] at h
    split at h
    · rename_i b
      rcases List.mem_cons.mp h with e | e
      · rw [e]; exact ⟨by omega, b⟩
      · have := ih i e; exact ⟨by omega, this.2⟩
    · have := ih i h; exact ⟨by omega, this.2⟩
theorem dd_rlow {P : Int} {a : Nat → Int32} {R c r M : Nat} (hc : c ≤ 5) (h : ¬ dd_van P (dd_MS a R) r c) (hM : dd_MI a R c (fun _ _ => True) M) : r ≤ M := by
  rcases Nat.lt_or_ge M r with q | q
  · exfalso
    apply h
    intro l hl hv S hS
    have hS32 : S < 32 := Nat.lt_of_lt_of_le hS (Nat.pow_le_pow_right (n := 2) (by decide) hc)
    obtain ⟨idx, e, hi⟩ := dd_idx (A := dd_rw a) (R := fun i => i < 4 ∧ R / 2 ^ i % 2 = 1) l hv
    rcases dd_sort (dd_rw a) idx (fun i q => (hi i q).1) with z | ⟨m, hm, hlm, hk, e', _, hD⟩
    · rw [e]; exact dd_cq (z S)
    · by_cases z : dd_dt ((dd_bl 4 m).map (dd_rw a)) S = 0
      · rw [e, hD S, z, Int.mul_zero]; exact dd_cr P 0
      · exfalso
        have ho : dd_on S = (dd_bl 4 m).length := by
          rcases Nat.decEq (dd_on S) ((dd_bl 4 m).map (dd_rw a)).length with y | y
          · exact absurd (dd_dt_on _ S hS32 y) z
          · rw [y, List.length_map]
        obtain ⟨e1, _⟩ := dd_on_bl m hm
        have hl2 : (dd_bl 4 m).length = r := by rw [hlm, ← hl, e, List.length_map]
        have m1 : 1 ≤ m := by
          rcases Nat.eq_zero_or_pos m with y | y
          · rw [y] at hl2
            have : (0 : Nat) = r := hl2
            omega
          · exact y
        have s1 : 1 ≤ S := by
          rcases Nat.eq_zero_or_pos S with y | y
          · rw [y] at ho
            have : (0 : Nat) = (dd_bl 4 m).length := ho
            omega
          · exact y
        have := hM.2 m S m1 hm s1 hS32 trivial ⟨fun i hi4 hb => (hi i (hk i hi4 hb)).2, hS, by rw [← e1, ho], z⟩
        omega
  · exact q
theorem dd_both {D : Int} (h : -150000000 ≤ D ∧ D ≤ 150000000) (h1 : dd_cg 32749 D 0) (h2 : dd_cg 32719 D 0) : D = 0 := by
  unfold dd_cg at h1 h2
  omega
theorem dd_rank_eq {a : Nat → Int32} {R c r1 r2 M : Nat} (ha : dd_bd a) (hc : c ≤ 5) (h1 : dd_RK 32749 a R c r1) (h2 : dd_RK 32719 a R c r2) (hM : dd_MI a R c (fun _ _ => True) M) : M = if r1 ≤ r2 then r2 else r1 := by
  have l1 := dd_rlow hc h1.1 hM
  have l2 := dd_rlow hc h2.1 hM
  have u : M ≤ r1 ∨ M ≤ r2 := by
    rcases Nat.lt_or_ge r1 M with q1 | q1
    · rcases Nat.lt_or_ge r2 M with q2 | q2
      · exfalso
        rcases hM.1 with z | ⟨m, S, hm, hS, ⟨k1, k2, k3, k4⟩, k5⟩
        · omega
        · obtain ⟨e1, _⟩ := dd_on_bl m hm
          have hl : ((dd_bl 4 m).map (dd_rw a)).length = M := by rw [List.length_map, e1, k5]
          have hv : ∀ v, v ∈ (dd_bl 4 m).map (dd_rw a) → dd_MS a R v := by
            intro v hv
            obtain ⟨i, hi, e⟩ := List.mem_map.mp hv
            obtain ⟨i4, ib⟩ := dd_bl_mem m 4 i hi
            exact ⟨i, ⟨i4, k1 i i4 ib⟩, e.symm⟩
          exact k4 (dd_both (dd_bl4b ha m S hS) (h1.2 M q1 _ hl hv S k2) (h2.2 M q2 _ hl hv S k2))
      · exact Or.inr q2
    · exact Or.inl q1
  split <;> omega
/-- the relation: the same numbers, within bounds -/
def i_Rel (_ : Nat) (u : SX) (v : SY) : Prop := u.2.1 = v.1 ∧ dd_bd v.1
theorem i_up {k : Nat} {u : SX} {v : SY} (h : i_Rel k u v) : i_Rel (k + 4) u v := h
theorem i_vc0 : wpX_init (fun u => wpY_init (fun v => i_Rel 0 u v)) := ⟨rfl, fun _ => (by decide : -50 ≤ (0 : Int32).toInt ∧ (0 : Int32).toInt ≤ 50)⟩
theorem i_vc_rank {k : Nat} {u : SX} {v : SY} (I : i_Rel k u v) (hk : k + 4 ≤ 2048) : wpX_rank (fun r u' => wpY_rank (fun r' v' => r' = r ∧ i_Rel (k + 4) u' v') v) u := by
  obtain ⟨F, a, w, vv, g, s⟩ := u
  obtain ⟨c, kk, t⟩ := v
  obtain ⟨e, hb⟩ := I
  have e2 : a = c := e
  have hb2 : dd_bd c := hb
  subst e2
  unfold wpX_rank
  dsimp only
  refine dd_rkin (R := 15) (c := 4) (by decide) (by decide) (fun r1 r2 t1 h1 h2 k1 k2 => ?_)
  unfold wpY_rank
  dsimp only
  refine dd_yrank (R := 15) (c := 4) hb2 (by decide) (Or.inl rfl) (fun t' M hM => ?_)
  exact ⟨by rw [dd_rank_eq hb2 (by decide) k1 k2 hM], rfl, hb2⟩
theorem i_vc_wideRank {k : Nat} {u : SX} {v : SY} (I : i_Rel k u v) (hk : k + 4 ≤ 2048) : wpX_wideRank (fun r u' => wpY_wideRank (fun r' v' => r' = r ∧ i_Rel (k + 4) u' v') v) u := by
  obtain ⟨F, a, w, vv, g, s⟩ := u
  obtain ⟨c, kk, t⟩ := v
  obtain ⟨e, hb⟩ := I
  have e2 : a = c := e
  have hb2 : dd_bd c := hb
  subst e2
  unfold wpX_wideRank
  dsimp only
  refine dd_rkin (R := 15) (c := 5) (by decide) (by decide) (fun r1 r2 t1 h1 h2 k1 k2 => ?_)
  unfold wpY_wideRank
  dsimp only
  refine dd_yrank (R := 15) (c := 5) hb2 (by decide) (Or.inr rfl) (fun t' M hM => ?_)
  exact ⟨by rw [dd_rank_eq hb2 (by decide) k1 k2 hM], rfl, hb2⟩
theorem i_vc_rankOf {k : Nat} {u : SX} {v : SY} (I : i_Rel k u v) (hk : k + 4 ≤ 2048) (v1 : Int32) : wpX_rankOf (fun r u' => wpY_rankOf (fun r' v' => r' = r ∧ i_Rel (k + 4) u' v') v v1) u v1 := by
  obtain ⟨F, a, w, vv, g, s⟩ := u
  obtain ⟨c, kk, t⟩ := v
  obtain ⟨e, hb⟩ := I
  have e2 : a = c := e
  have hb2 : dd_bd c := hb
  subst e2
  by_cases q : v1 < 0
  · exact br_t q (br_t q ⟨rfl, rfl, hb2⟩)
  · by_cases q2 : v1 ≤ 15
    · obtain ⟨R, hR, rfl⟩ := nI_of2 (n := 15) (by decide) q q2
      refine br_f q (br_t q2 ?_)
      refine dd_rkin (c := 4) (by omega) (by decide) (fun r1 r2 t1 h1 h2 k1 k2 => ?_)
      refine br_f q (br_t q2 ?_)
      refine dd_yrank (c := 4) hb2 (by omega) (Or.inl rfl) (fun t' M hM => ?_)
      exact ⟨by rw [dd_rank_eq hb2 (by decide) k1 k2 hM], rfl, hb2⟩
    · exact br_f q (br_f q2 (br_f q (br_f q2 ⟨rfl, rfl, hb2⟩)))
end
section
/-! the characteristic polynomial; minors with a row and a column left out -/
theorem dd_e1 (A : Nat → Nat → Int) : dd_Es A 1 16 = dd_dt ((dd_bl 4 1).map A) 1 + dd_dt ((dd_bl 4 2).map A) 2 + dd_dt ((dd_bl 4 4).map A) 4 + dd_dt ((dd_bl 4 8).map A) 8 := by simp [dd_Es, dd_on]
theorem dd_e2 (A : Nat → Nat → Int) : dd_Es A 2 16 = dd_dt ((dd_bl 4 3).map A) 3 + dd_dt ((dd_bl 4 5).map A) 5 + dd_dt ((dd_bl 4 6).map A) 6 + dd_dt ((dd_bl 4 9).map A) 9 + dd_dt ((dd_bl 4 10).map A) 10 + dd_dt ((dd_bl 4 12).map A) 12 := by simp [dd_Es, dd_on]
theorem dd_e3 (A : Nat → Nat → Int) : dd_Es A 3 16 = dd_dt ((dd_bl 4 7).map A) 7 + dd_dt ((dd_bl 4 11).map A) 11 + dd_dt ((dd_bl 4 13).map A) 13 + dd_dt ((dd_bl 4 14).map A) 14 := by simp [dd_Es, dd_on]
theorem dd_e4 (A : Nat → Nat → Int) : dd_Es A 4 16 = dd_dt ((dd_bl 4 15).map A) 15 := by simp [dd_Es, dd_on]
theorem dd_t00 : dd_t0 0 = 1 := rfl
theorem dd_x1 (u : Nat → Int) : dd_dt [u] 1 = u 0 ∧ dd_dt [u] 2 = u 1 ∧ dd_dt [u] 4 = u 2 ∧ dd_dt [u] 8 = u 3 := by
  simp only [dd_dt, dd_w1, dd_w2, dd_w4, dd_w8, dd_t00, Int.mul_one, and_self]
theorem dd_x2 (u v : Nat → Int) : dd_dt [v, u] 3 = u 0 * v 1 - u 1 * v 0 ∧ dd_dt [v, u] 5 = u 0 * v 2 - u 2 * v 0 ∧ dd_dt [v, u] 6 = u 1 * v 2 - u 2 * v 1 ∧ dd_dt [v, u] 9 = u 0 * v 3 - u 3 * v 0 ∧ dd_dt [v, u] 10 = u 1 * v 3 - u 3 * v 1 ∧ dd_dt [v, u] 12 = u 2 * v 3 - u 3 * v 2 := by
  simp only [dd_dt, dd_w1, dd_w2, dd_w4, dd_w8, dd_w3, dd_w5, dd_w6, dd_w9, dd_w10, dd_w12, dd_t00, Int.mul_one]
  refine ⟨?_, ?_, ?_, ?_, ?_, ?_⟩ <;> grind
theorem dd_x3 (u v w : Nat → Int) : dd_dt [w, v, u] 7 = w 0 * (u 1 * v 2 - u 2 * v 1) - w 1 * (u 0 * v 2 - u 2 * v 0) + w 2 * (u 0 * v 1 - u 1 * v 0) ∧ dd_dt [w, v, u] 11 = w 0 * (u 1 * v 3 - u 3 * v 1) - w 1 * (u 0 * v 3 - u 3 * v 0) + w 3 * (u 0 * v 1 - u 1 * v 0) ∧ dd_dt [w, v, u] 13 = w 0 * (u 2 * v 3 - u 3 * v 2) - w 2 * (u 0 * v 3 - u 3 * v 0) + w 3 * (u 0 * v 2 - u 2 * v 0) ∧ dd_dt [w, v, u] 14 = w 1 * (u 2 * v 3 - u 3 * v 2) - w 2 * (u 1 * v 3 - u 3 * v 1) + w 3 * (u 1 * v 2 - u 2 * v 1) := by
  obtain ⟨h3, h5, h6, h9, h10, h12⟩ := dd_x2 u v
  have e : ∀ S, dd_dt [w, v, u] S = dd_wd w (dd_dt [v, u]) S := fun _ => rfl
  simp only [e, dd_w7, dd_w11, dd_w13, dd_w14, h3, h5, h6, h9, h10, h12]
  exact ⟨trivial, trivial, trivial, trivial⟩
theorem dd_x4 (u v w z : Nat → Int) : dd_dt [z, w, v, u] 15 = - (z 0 * (w 1 * (u 2 * v 3 - u 3 * v 2) - w 2 * (u 1 * v 3 - u 3 * v 1) + w 3 * (u 1 * v 2 - u 2 * v 1))) + z 1 * (w 0 * (u 2 * v 3 - u 3 * v 2) - w 2 * (u 0 * v 3 - u 3 * v 0) + w 3 * (u 0 * v 2 - u 2 * v 0)) - z 2 * (w 0 * (u 1 * v 3 - u 3 * v 1) - w 1 * (u 0 * v 3 - u 3 * v 0) + w 3 * (u 0 * v 1 - u 1 * v 0)) + z 3 * (w 0 * (u 1 * v 2 - u 2 * v 1) - w 1 * (u 0 * v 2 - u 2 * v 0) + w 2 * (u 0 * v 1 - u 1 * v 0)) := by
  obtain ⟨h7, h11, h13, h14⟩ := dd_x3 u v w
  have e : ∀ S, dd_dt [z, w, v, u] S = dd_wd z (dd_dt [w, v, u]) S := fun _ => rfl
  simp only [e, dd_w15, h7, h11, h13, h14]
theorem dd_cpI (a b c d e f g h i j k l m n o p x : Int) :
    - (m * (((j) * ((c) * (h) - d * (g)) - (k + x) * (b * (h) - d * (f + x)) + l * (b * (g) - c * (f + x))))) + n * (i * ((c) * (h) - d * (g)) - (k + x) * ((a + x) * (h) - d * e) + l * ((a + x) * (g) - c * e)) - o * (i * (b * (h) - d * (f + x)) - j * ((a + x) * (h) - d * e) + l * ((a + x) * (f + x) - b * e)) + (p + x) * (i * (b * (g) - c * (f + x)) - j * ((a + x) * (g) - c * e) + (k + x) * ((a + x) * (f + x) - b * e))
    = x ^ 4 + x ^ 3 * (a + f + k + p) + x ^ 2 * ((a * f - b * e) + (a * k - c * i) + (f * k - g * j) + (a * p - d * m) + (f * p - h * n) + (k * p - l * o)) + x * ((i * (b * g - c * f) - j * (a * g - c * e) + k * (a * f - b * e)) + (m * (b * h - d * f) - n * (a * h - d * e) + p * (a * f - b * e)) + (m * (c * l - d * k) - o * (a * l - d * i) + p * (a * k - c * i)) + (n * (g * l - h * k) - o * (f * l - h * j) + p * (f * k - g * j))) + (- (m * (j * (c * h - d * g) - k * (b * h - d * f) + l * (b * g - c * f))) + n * (i * (c * h - d * g) - k * (a * h - d * e) + l * (a * g - c * e)) - o * (i * (b * h - d * f) - j * (a * h - d * e) + l * (a * f - b * e)) + p * (i * (b * g - c * f) - j * (a * g - c * e) + k * (a * f - b * e))) := by
  grind
end
section
/-! the characteristic polynomial; minors with a row and a column left out -/
theorem dd_q1 (A : Nat → Nat → Int) : dd_dt ((dd_bl 4 1).map A) 1 = dd_dt [A 0] 1 := rfl
theorem dd_q2 (A : Nat → Nat → Int) : dd_dt ((dd_bl 4 2).map A) 2 = dd_dt [A 1] 2 := rfl
theorem dd_q4 (A : Nat → Nat → Int) : dd_dt ((dd_bl 4 4).map A) 4 = dd_dt [A 2] 4 := rfl
theorem dd_q8 (A : Nat → Nat → Int) : dd_dt ((dd_bl 4 8).map A) 8 = dd_dt [A 3] 8 := rfl
theorem dd_q3 (A : Nat → Nat → Int) : dd_dt ((dd_bl 4 3).map A) 3 = dd_dt [A 1, A 0] 3 := rfl
theorem dd_q5 (A : Nat → Nat → Int) : dd_dt ((dd_bl 4 5).map A) 5 = dd_dt [A 2, A 0] 5 := rfl
theorem dd_q6 (A : Nat → Nat → Int) : dd_dt ((dd_bl 4 6).map A) 6 = dd_dt [A 2, A 1] 6 := rfl
theorem dd_q9 (A : Nat → Nat → Int) : dd_dt ((dd_bl 4 9).map A) 9 = dd_dt [A 3, A 0] 9 := rfl
theorem dd_q10 (A : Nat → Nat → Int) : dd_dt ((dd_bl 4 10).map A) 10 = dd_dt [A 3, A 1] 10 := rfl
theorem dd_q12 (A : Nat → Nat → Int) : dd_dt ((dd_bl 4 12).map A) 12 = dd_dt [A 3, A 2] 12 := rfl
theorem dd_q7 (A : Nat → Nat → Int) : dd_dt ((dd_bl 4 7).map A) 7 = dd_dt [A 2, A 1, A 0] 7 := rfl
theorem dd_q11 (A : Nat → Nat → Int) : dd_dt ((dd_bl 4 11).map A) 11 = dd_dt [A 3, A 1, A 0] 11 := rfl
theorem dd_q13 (A : Nat → Nat → Int) : dd_dt ((dd_bl 4 13).map A) 13 = dd_dt [A 3, A 2, A 0] 13 := rfl
theorem dd_q14 (A : Nat → Nat → Int) : dd_dt ((dd_bl 4 14).map A) 14 = dd_dt [A 3, A 2, A 1] 14 := rfl
theorem dd_q15 (A : Nat → Nat → Int) : dd_dt ((dd_bl 4 15).map A) 15 = dd_dt [A 3, A 2, A 1, A 0] 15 := rfl
theorem dd_cp (A : Nat → Nat → Int) (x : Int) : dd_dt ((dd_dn 4).map (fun i j => A i j + if i = j then x else 0)) 15 = x ^ 4 + x ^ 3 * dd_Es A 1 16 + x ^ 2 * dd_Es A 2 16 + x * dd_Es A 3 16 + dd_Es A 4 16 := by
  have l : (dd_dn 4).map (fun i j => A i j + if i = j then x else 0) = [fun j => A 3 j + if 3 = j then x else 0, fun j => A 2 j + if 2 = j then x else 0, fun j => A 1 j + if 1 = j then x else 0, fun j => A 0 j + if 0 = j then x else 0] := rfl
  rw [l, dd_x4]
  simp only [dd_e1, dd_e2, dd_e3, dd_e4, dd_q1, dd_q2, dd_q3, dd_q4, dd_q5, dd_q6, dd_q7, dd_q8, dd_q9, dd_q10, dd_q11, dd_q12, dd_q13, dd_q14, dd_q15, dd_x1, dd_x2, dd_x3, dd_x4]
  simp
  grind
theorem dd_cn1 (A : Nat → Nat → Int) : dd_Es (fun i j => - A i j) 1 16 = - dd_Es A 1 16 ∧ dd_Es (fun i j => - A i j) 2 16 = dd_Es A 2 16 ∧ dd_Es (fun i j => - A i j) 3 16 = - dd_Es A 3 16 ∧ dd_Es (fun i j => - A i j) 4 16 = dd_Es A 4 16 := by
  simp only [dd_e1, dd_e2, dd_e3, dd_e4, dd_q1, dd_q2, dd_q3, dd_q4, dd_q5, dd_q6, dd_q7, dd_q8, dd_q9, dd_q10, dd_q11, dd_q12, dd_q13, dd_q14, dd_q15, dd_x1, dd_x2, dd_x3, dd_x4]
  refine ⟨?_, ?_, ?_, ?_⟩ <;> grind
def dd_op (r k : Nat) : Nat := if k < r then k else k + 1
theorem dd_mn00 (A B : Nat → Nat → Int) (hB : ∀ p, p < 3 → ∀ q, q < 3 → B p q = A (dd_op 0 p) (dd_op 0 q)) : dd_dt [B 2, B 1, B 0] 7 = dd_dt [A 3, A 2, A 1] 14 := by
  rw [(dd_x3 (B 0) (B 1) (B 2)).1, (dd_x3 (A 1) (A 2) (A 3)).2.2.2, hB 0 (by decide) 0 (by decide), hB 0 (by decide) 1 (by decide), hB 0 (by decide) 2 (by decide), hB 1 (by decide) 0 (by decide), hB 1 (by decide) 1 (by decide), hB 1 (by decide) 2 (by decide), hB 2 (by decide) 0 (by decide), hB 2 (by decide) 1 (by decide), hB 2 (by decide) 2 (by decide)]
  rfl
theorem dd_mn01 (A B : Nat → Nat → Int) (hB : ∀ p, p < 3 → ∀ q, q < 3 → B p q = A (dd_op 0 p) (dd_op 1 q)) : dd_dt [B 2, B 1, B 0] 7 = dd_dt [A 3, A 2, A 1] 13 := by
  rw [(dd_x3 (B 0) (B 1) (B 2)).1, (dd_x3 (A 1) (A 2) (A 3)).2.2.1, hB 0 (by decide) 0 (by decide), hB 0 (by decide) 1 (by decide), hB 0 (by decide) 2 (by decide), hB 1 (by decide) 0 (by decide), hB 1 (by decide) 1 (by decide), hB 1 (by decide) 2 (by decide), hB 2 (by decide) 0 (by decide), hB 2 (by decide) 1 (by decide), hB 2 (by decide) 2 (by decide)]
  rfl
theorem dd_mn02 (A B : Nat → Nat → Int) (hB : ∀ p, p < 3 → ∀ q, q < 3 → B p q = A (dd_op 0 p) (dd_op 2 q)) : dd_dt [B 2, B 1, B 0] 7 = dd_dt [A 3, A 2, A 1] 11 := by
  rw [(dd_x3 (B 0) (B 1) (B 2)).1, (dd_x3 (A 1) (A 2) (A 3)).2.1, hB 0 (by decide) 0 (by decide), hB 0 (by decide) 1 (by decide), hB 0 (by decide) 2 (by decide), hB 1 (by decide) 0 (by decide), hB 1 (by decide) 1 (by decide), hB 1 (by decide) 2 (by decide), hB 2 (by decide) 0 (by decide), hB 2 (by decide) 1 (by decide), hB 2 (by decide) 2 (by decide)]
  rfl
theorem dd_mn03 (A B : Nat → Nat → Int) (hB : ∀ p, p < 3 → ∀ q, q < 3 → B p q = A (dd_op 0 p) (dd_op 3 q)) : dd_dt [B 2, B 1, B 0] 7 = dd_dt [A 3, A 2, A 1] 7 := by
  rw [(dd_x3 (B 0) (B 1) (B 2)).1, (dd_x3 (A 1) (A 2) (A 3)).1, hB 0 (by decide) 0 (by decide), hB 0 (by decide) 1 (by decide), hB 0 (by decide) 2 (by decide), hB 1 (by decide) 0 (by decide), hB 1 (by decide) 1 (by decide), hB 1 (by decide) 2 (by decide), hB 2 (by decide) 0 (by decide), hB 2 (by decide) 1 (by decide), hB 2 (by decide) 2 (by decide)]
  rfl
theorem dd_mn10 (A B : Nat → Nat → Int) (hB : ∀ p, p < 3 → ∀ q, q < 3 → B p q = A (dd_op 1 p) (dd_op 0 q)) : dd_dt [B 2, B 1, B 0] 7 = dd_dt [A 3, A 2, A 0] 14 := by
  rw [(dd_x3 (B 0) (B 1) (B 2)).1, (dd_x3 (A 0) (A 2) (A 3)).2.2.2, hB 0 (by decide) 0 (by decide), hB 0 (by decide) 1 (by decide), hB 0 (by decide) 2 (by decide), hB 1 (by decide) 0 (by decide), hB 1 (by decide) 1 (by decide), hB 1 (by decide) 2 (by decide), hB 2 (by decide) 0 (by decide), hB 2 (by decide) 1 (by decide), hB 2 (by decide) 2 (by decide)]
  rfl
theorem dd_mn11 (A B : Nat → Nat → Int) (hB : ∀ p, p < 3 → ∀ q, q < 3 → B p q = A (dd_op 1 p) (dd_op 1 q)) : dd_dt [B 2, B 1, B 0] 7 = dd_dt [A 3, A 2, A 0] 13 := by
  rw [(dd_x3 (B 0) (B 1) (B 2)).1, (dd_x3 (A 0) (A 2) (A 3)).2.2.1, hB 0 (by decide) 0 (by decide), hB 0 (by decide) 1 (by decide), hB 0 (by decide) 2 (by decide), hB 1 (by decide) 0 (by decide), hB 1 (by decide) 1 (by decide), hB 1 (by decide) 2 (by decide), hB 2 (by decide) 0 (by decide), hB 2 (by decide) 1 (by decide), hB 2 (by decide) 2 (by decide)]
  rfl
theorem dd_mn12 (A B : Nat → Nat → Int) (hB : ∀ p, p < 3 → ∀ q, q < 3 → B p q = A (dd_op 1 p) (dd_op 2 q)) : dd_dt [B 2, B 1, B 0] 7 = dd_dt [A 3, A 2, A 0] 11 := by
  rw [(dd_x3 (B 0) (B 1) (B 2)).1, (dd_x3 (A 0) (A 2) (A 3)).2.1, hB 0 (by decide) 0 (by decide), hB 0 (by decide) 1 (by decide), hB 0 (by decide) 2 (by decide), hB 1 (by decide) 0 (by decide), hB 1 (by decide) 1 (by decide), hB 1 (by decide) 2 (by decide), hB 2 (by decide) 0 (by decide), hB 2 (by decide) 1 (by decide), hB 2 (by decide) 2 (by decide)]
  rfl
theorem dd_mn13 (A B : Nat → Nat → Int) (hB : ∀ p, p < 3 → ∀ q, q < 3 → B p q = A (dd_op 1 p) (dd_op 3 q)) : dd_dt [B 2, B 1, B 0] 7 = dd_dt [A 3, A 2, A 0] 7 := by
  rw [(dd_x3 (B 0) (B 1) (B 2)).1, (dd_x3 (A 0) (A 2) (A 3)).1, hB 0 (by decide) 0 (by decide), hB 0 (by decide) 1 (by decide), hB 0 (by decide) 2 (by decide), hB 1 (by decide) 0 (by decide), hB 1 (by decide) 1 (by decide), hB 1 (by decide) 2 (by decide), hB 2 (by decide) 0 (by decide), hB 2 (by decide) 1 (by decide), hB 2 (by decide) 2 (by decide)]
  rfl
theorem dd_mn20 (A B : Nat → Nat → Int) (hB : ∀ p, p < 3 → ∀ q, q < 3 → B p q = A (dd_op 2 p) (dd_op 0 q)) : dd_dt [B 2, B 1, B 0] 7 = dd_dt [A 3, A 1, A 0] 14 := by
  rw [(dd_x3 (B 0) (B 1) (B 2)).1, (dd_x3 (A 0) (A 1) (A 3)).2.2.2, hB 0 (by decide) 0 (by decide), hB 0 (by decide) 1 (by decide), hB 0 (by decide) 2 (by decide), hB 1 (by decide) 0 (by decide), hB 1 (by decide) 1 (by decide), hB 1 (by decide) 2 (by decide), hB 2 (by decide) 0 (by decide), hB 2 (by decide) 1 (by decide), hB 2 (by decide) 2 (by decide)]
  rfl
theorem dd_mn21 (A B : Nat → Nat → Int) (hB : ∀ p, p < 3 → ∀ q, q < 3 → B p q = A (dd_op 2 p) (dd_op 1 q)) : dd_dt [B 2, B 1, B 0] 7 = dd_dt [A 3, A 1, A 0] 13 := by
  rw [(dd_x3 (B 0) (B 1) (B 2)).1, (dd_x3 (A 0) (A 1) (A 3)).2.2.1, hB 0 (by decide) 0 (by decide), hB 0 (by decide) 1 (by decide), hB 0 (by decide) 2 (by decide), hB 1 (by decide) 0 (by decide), hB 1 (by decide) 1 (by decide), hB 1 (by decide) 2 (by decide), hB 2 (by decide) 0 (by decide), hB 2 (by decide) 1 (by decide), hB 2 (by decide) 2 (by decide)]
  rfl
theorem dd_mn22 (A B : Nat → Nat → Int) (hB : ∀ p, p < 3 → ∀ q, q < 3 → B p q = A (dd_op 2 p) (dd_op 2 q)) : dd_dt [B 2, B 1, B 0] 7 = dd_dt [A 3, A 1, A 0] 11 := by
  rw [(dd_x3 (B 0) (B 1) (B 2)).1, (dd_x3 (A 0) (A 1) (A 3)).2.1, hB 0 (by decide) 0 (by decide), hB 0 (by decide) 1 (by decide), hB 0 (by decide) 2 (by decide), hB 1 (by decide) 0 (by decide), hB 1 (by decide) 1 (by decide), hB 1 (by decide) 2 (by decide), hB 2 (by decide) 0 (by decide), hB 2 (by decide) 1 (by decide), hB 2 (by decide) 2 (by decide)]
  rfl
theorem dd_mn23 (A B : Nat → Nat → Int) (hB : ∀ p, p < 3 → ∀ q, q < 3 → B p q = A (dd_op 2 p) (dd_op 3 q)) : dd_dt [B 2, B 1, B 0] 7 = dd_dt [A 3, A 1, A 0] 7 := by
  rw [(dd_x3 (B 0) (B 1) (B 2)).1, (dd_x3 (A 0) (A 1) (A 3)).1, hB 0 (by decide) 0 (by decide), hB 0 (by decide) 1 (by decide), hB 0 (by decide) 2 (by decide), hB 1 (by decide) 0 (by decide), hB 1 (by decide) 1 (by decide), hB 1 (by decide) 2 (by decide), hB 2 (by decide) 0 (by decide), hB 2 (by decide) 1 (by decide), hB 2 (by decide) 2 (by decide)]
  rfl
theorem dd_mn30 (A B : Nat → Nat → Int) (hB : ∀ p, p < 3 → ∀ q, q < 3 → B p q = A (dd_op 3 p) (dd_op 0 q)) : dd_dt [B 2, B 1, B 0] 7 = dd_dt [A 2, A 1, A 0] 14 := by
  rw [(dd_x3 (B 0) (B 1) (B 2)).1, (dd_x3 (A 0) (A 1) (A 2)).2.2.2, hB 0 (by decide) 0 (by decide), hB 0 (by decide) 1 (by decide), hB 0 (by decide) 2 (by decide), hB 1 (by decide) 0 (by decide), hB 1 (by decide) 1 (by decide), hB 1 (by decide) 2 (by decide), hB 2 (by decide) 0 (by decide), hB 2 (by decide) 1 (by decide), hB 2 (by decide) 2 (by decide)]
  rfl
theorem dd_mn31 (A B : Nat → Nat → Int) (hB : ∀ p, p < 3 → ∀ q, q < 3 → B p q = A (dd_op 3 p) (dd_op 1 q)) : dd_dt [B 2, B 1, B 0] 7 = dd_dt [A 2, A 1, A 0] 13 := by
  rw [(dd_x3 (B 0) (B 1) (B 2)).1, (dd_x3 (A 0) (A 1) (A 2)).2.2.1, hB 0 (by decide) 0 (by decide), hB 0 (by decide) 1 (by decide), hB 0 (by decide) 2 (by decide), hB 1 (by decide) 0 (by decide), hB 1 (by decide) 1 (by decide), hB 1 (by decide) 2 (by decide), hB 2 (by decide) 0 (by decide), hB 2 (by decide) 1 (by decide), hB 2 (by decide) 2 (by decide)]
  rfl
theorem dd_mn32 (A B : Nat → Nat → Int) (hB : ∀ p, p < 3 → ∀ q, q < 3 → B p q = A (dd_op 3 p) (dd_op 2 q)) : dd_dt [B 2, B 1, B 0] 7 = dd_dt [A 2, A 1, A 0] 11 := by
  rw [(dd_x3 (B 0) (B 1) (B 2)).1, (dd_x3 (A 0) (A 1) (A 2)).2.1, hB 0 (by decide) 0 (by decide), hB 0 (by decide) 1 (by decide), hB 0 (by decide) 2 (by decide), hB 1 (by decide) 0 (by decide), hB 1 (by decide) 1 (by decide), hB 1 (by decide) 2 (by decide), hB 2 (by decide) 0 (by decide), hB 2 (by decide) 1 (by decide), hB 2 (by decide) 2 (by decide)]
  rfl
theorem dd_mn33 (A B : Nat → Nat → Int) (hB : ∀ p, p < 3 → ∀ q, q < 3 → B p q = A (dd_op 3 p) (dd_op 3 q)) : dd_dt [B 2, B 1, B 0] 7 = dd_dt [A 2, A 1, A 0] 7 := by
  rw [(dd_x3 (B 0) (B 1) (B 2)).1, (dd_x3 (A 0) (A 1) (A 2)).1, hB 0 (by decide) 0 (by decide), hB 0 (by decide) 1 (by decide), hB 0 (by decide) 2 (by decide), hB 1 (by decide) 0 (by decide), hB 1 (by decide) 1 (by decide), hB 1 (by decide) 2 (by decide), hB 2 (by decide) 0 (by decide), hB 2 (by decide) 1 (by decide), hB 2 (by decide) 2 (by decide)]
  rfl
theorem dd_mn (A B : Nat → Nat → Int) {i j : Nat} (hi : i < 4) (hj : j < 4) (hB : ∀ p, p < 3 → ∀ q, q < 3 → B p q = A (dd_op i p) (dd_op j q)) : dd_dt ((dd_dn 3).map B) 7 = dd_dt ((dd_bl 4 (15 - 2 ^ i)).map A) (15 - 2 ^ j) := by
  have ei : i = 0 ∨ i = 1 ∨ i = 2 ∨ i = 3 := by omega
  have ej : j = 0 ∨ j = 1 ∨ j = 2 ∨ j = 3 := by omega
  rcases ei with rfl | rfl | rfl | rfl <;> rcases ej with rfl | rfl | rfl | rfl
  · exact dd_mn00 A B hB
  · exact dd_mn01 A B hB
  · exact dd_mn02 A B hB
  · exact dd_mn03 A B hB
  · exact dd_mn10 A B hB
  · exact dd_mn11 A B hB
  · exact dd_mn12 A B hB
  · exact dd_mn13 A B hB
  · exact dd_mn20 A B hB
  · exact dd_mn21 A B hB
  · exact dd_mn22 A B hB
  · exact dd_mn23 A B hB
  · exact dd_mn30 A B hB
  · exact dd_mn31 A B hB
  · exact dd_mn32 A B hB
  · exact dd_mn33 A B hB
end
section
/-! determinants: load, replaceColumn, shift, leaveOut against matrices of numbers -/
def dd_wk (P : Int) (t : Nat → Int32) (B : Nat → Nat → Int) : Prop := ∀ i, i < 4 → ∀ j, j < 5 → dd_rg P (t (i * 5 + j)) ∧ dd_cg P (t (i * 5 + j)).toInt (B i j)
theorem dd_ldw {P : Int} (hP : dd_pr P) {a t : Nat → Int32} (h : ∀ k, k < 20 → (t k).toInt = (a k).toInt % P) : dd_wk P t (dd_rw a) := fun i hi j hj => ⟨dd_rr hP (h (i * 5 + j) (by omega)), dd_rc (h (i * 5 + j) (by omega))⟩
theorem dd_load2 {P : Int} (hP : dd_pr P) {F F0 : Int32} (hF : F.toInt = P) {a w v g s : Nat → Int32} {post : SX → Prop} (h : ∀ t : Nat → Int32, dd_wk P t (dd_rw a) → post (F, a, t, v, g, s)) : wpX_load post (F0, a, w, v, g, s) F :=
  dd_load hP hF (fun t ht => h t (dd_ldw hP ht))
theorem dd_det2 {P : Int} (hP : dd_pr P) {F : Int32} (hF : F.toInt = P) {a w v g s : Nat → Int32} {B : Nat → Nat → Int} {n : Nat} {post : Int32 → SX → Prop} (hn : n ≤ 4) (hw : dd_wk P w B) (h : ∀ (r : Int32) (t : Nat → Int32), dd_rg P r → dd_cg P r.toInt (dd_dt ((dd_dn n).map B) (2 ^ n - 1)) → post r (F, a, t, v, g, s)) : wpX_determinantOf post (F, a, w, v, g, s) (nI n) := by
  refine dd_det hP hF hn (fun i hi j hj => (hw i hi j hj).1) (fun r t hr hc => h r t hr (dd_ct hc ?_))
  refine dd_dt_g (dd_dn n) (fun i hi j hj => (hw i ?_ j hj).2) _
  have := dd_dn_m n i hi
  omega
theorem dd_cl4 {i : Nat} (hi : i < 4) : (nI i * 5 + 4).toNatClampNeg = i * 5 + 4 := dd_cl (j := 4) hi (by decide)
theorem dd_in4 {i : Nat} (hi : i < 4) : vp_in (nI i * 5 + 4) 20 := dd_in (j := 4) hi (by decide)
theorem dd_repl {P : Int} {F : Int32} {a w v g s : Nat → Int32} {B : Nat → Nat → Int} {j : Nat} (hj : j < 4) {post : SX → Prop} (hw : dd_wk P w B) (h : ∀ t : Nat → Int32, dd_wk P t (fun p q => if q = j then B p 4 else B p q) → post (F, a, t, v, g, s)) : wpX_replaceColumn post (F, a, w, v, g, s) (nI j) := by
  refine loop_0 (fun n i (t : Nat → Int32) => wX_replaceColumn_2 post (nI j) F n (nI i) a t v g s) (fun i t => ∀ p, p < 4 → ∀ q, q < 5 → t (p * 5 + q) = if q = j ∧ p < i then w (p * 5 + 4) else w (p * 5 + q)) 4 w ?_ ?_ ?_
  · intro p _ q _
    rw [if_neg (by omega)]
  · intro n t ht
    refine br_t (by decide) (h t ?_)
    intro p hp q hq
    have e := ht p hp q hq
    rw [e]
    by_cases z : q = j
    · simp only [if_pos z, if_pos (show q = j ∧ p < 4 from ⟨z, hp⟩)]
      exact hw p hp 4 (by decide)
    · simp only [if_neg z, if_neg (show ¬ (q = j ∧ p < 4) from fun y => z y.1)]
      exact hw p hp q hq
  · intro n i t hi ht ih
    show wX_replaceColumn_2 post (nI j) F (n + 1) (nI i) a t v g s
    refine br_f (nI_ge (b := 4) hi (by decide)) ?_
    rw [dd_cl4 hi, dd_cl hi (by omega)]
    refine And.intro (dd_in4 hi) (And.intro (dd_in hi (by omega)) (nm_e (nm_r (nI_1 i) (ih _ ?_))))
    intro p hp q hq
    by_cases z : p * 5 + q = i * 5 + j
    · rw [z, pk_us, if_pos (by omega), ht i hi 4 (by decide), if_neg (by omega)]
      congr 1
      omega
    · rw [pk_un z, ht p hp q hq]
      by_cases y : q = j ∧ p < i
      · rw [if_pos y, if_pos (by omega)]
      · rw [if_neg y, if_neg (by omega)]
theorem dd_shf {P : Int} (hP : dd_pr P) {F : Int32} (hF : F.toInt = P) {a w v g s : Nat → Int32} {B : Nat → Nat → Int} {x : Int32} (hx : -50 ≤ x.toInt ∧ x.toInt ≤ 50) {post : SX → Prop} (hw : dd_wk P w B) (h : ∀ t : Nat → Int32, dd_wk P t (fun p q => B p q + if p = q then x.toInt else 0) → post (F, a, t, v, g, s)) : wpX_shift post (F, a, w, v, g, s) x := by
  refine loop_0 (fun n i (t : Nat → Int32) => wX_shift_2 post x F n (nI i) a t v g s) (fun i t => dd_wk P t (fun p q => B p q + if p = q ∧ p < i then x.toInt else 0)) 4 w ?_ ?_ ?_
  · intro p hp q hq
    have k := hw p hp q hq
    simp only [if_neg (show ¬ (p = q ∧ p < 0) from fun y => Nat.not_lt_zero _ y.2), Int.add_zero]
    exact k
  · intro n t ht
    refine br_t (by decide) (h t ?_)
    intro p hp q hq
    have k := ht p hp q hq
    by_cases z : p = q
    · simp only [if_pos (show p = q ∧ p < 4 from ⟨z, hp⟩)] at k
      simp only [if_pos z]
      exact k
    · simp only [if_neg (show ¬ (p = q ∧ p < 4) from fun y => z y.1)] at k
      simp only [if_neg z]
      exact k
  · intro n i t hi ht ih
    have ht2 : dd_wk P t (fun p q => B p q + if p = q ∧ p < i then x.toInt else 0) := ht
    show wX_shift_2 post x F (n + 1) (nI i) a t v g s
    have hin := dd_in (i := i) (j := i) hi (by omega)
    refine br_f (nI_ge (b := 4) hi (by decide)) (And.intro hin ?_)
    rw [dd_cl hi (by omega)]
    refine dd_red hP hF (fun r hr => And.intro hin (nm_e (nm_r (nI_1 i) (ih _ ?_))))
    have kii := ht2 i hi i (by omega)
    have k8 := dd_r8 hP kii.1
    rw [Jvm.Kit.i32_add (by omega) (by omega)] at hr
    intro p hp q hq
    by_cases z : p * 5 + q = i * 5 + i
    · have e1 : p = i := by omega
      have e2 : q = i := by omega
      rw [e1, e2, pk_us]
      refine ⟨dd_rr hP hr, ?_⟩
      show dd_cg P r.toInt (B i i + if i = i ∧ i < i + 1 then x.toInt else 0)
      rw [if_pos (show i = i ∧ i < i + 1 from ⟨rfl, by omega⟩)]
      have k2 : dd_cg P (t (i * 5 + i)).toInt (B i i + if i = i ∧ i < i then x.toInt else 0) := kii.2
      rw [if_neg (show ¬ (i = i ∧ i < i) from fun y => Nat.lt_irrefl _ y.2), Int.add_zero] at k2
      exact dd_ct (dd_rc hr) (dd_ca k2 (dd_cr P _))
    · rw [pk_un z]
      have k := ht2 p hp q hq
      by_cases y : p = q ∧ p < i
      · simp only [if_pos y] at k
        simp only [if_pos (show p = q ∧ p < i + 1 from ⟨y.1, by omega⟩)]
        exact k
      · simp only [if_neg y] at k
        simp only [if_neg (show ¬ (p = q ∧ p < i + 1) from fun y' => by omega)]
        exact k
def dd_sq1 (r i : Nat) : Nat := if r < i then i - 1 else i
theorem dd_lv45 {P : Int} {F : Int32} {a w v g s : Nat → Int32} {i j p q : Nat} {post : SX → Prop} {J2 J10 : Int32 → (Nat → Int32) → (Nat → Int32) → (Nat → Int32) → (Nat → Int32) → (Nat → Int32) → Prop} (hp : p < 4) (hq : q < 4) (hi : i < 4) (hj : j < 4) (h1 : ¬ (p = i ∨ q = j) → J10 (nI (q + 1)) a (upd w (dd_sq1 i p * 5 + dd_sq1 j q) (w (p * 5 + q))) v g s) (h2 : (p = i ∨ q = j) → J10 (nI (q + 1)) a w v g s) : wX_leaveOut_45 post J2 J10 (nI i) (nI j) (nI p) (nI q) (nI (dd_sq1 j q)) (nI (dd_sq1 i p) * 5) F a w v g s := by
  have s1 : dd_sq1 i p < 4 := by unfold dd_sq1; split <;> omega
  have s2 : dd_sq1 j q < 4 := by unfold dd_sq1; split <;> omega
  refine nm_e ?_
  by_cases e1 : p = i
  · exact br_t (by rw [e1]) (nm_r (nI_1 q) (h2 (Or.inl e1)))
  · refine br_f (fun y => e1 ((nI_eq (by omega) (by omega)).mp y)) ?_
    by_cases e2 : q = j
    · exact br_t (by rw [e2]) (nm_r (nI_1 q) (h2 (Or.inr e2)))
    · refine br_f (fun y => e2 ((nI_eq (by omega) (by omega)).mp y)) ?_
      rw [dd_cl hp (by omega), dd_cl s1 (by omega)]
      exact And.intro (dd_in hp (by omega)) (And.intro (dd_in s1 (by omega)) (nm_e (nm_r (nI_1 q) (h1 (by omega)))))
theorem dd_sqe (j q : Nat) (hq : q < 4) (hj : j < 4) {A : Int32 → Prop} (h : A (nI (dd_sq1 j q))) : (nI q ≤ nI j → A (nI q)) ∧ (¬ nI q ≤ nI j → A (nI q - 1)) := by
  unfold dd_sq1 at h
  by_cases e : j < q
  · rw [if_pos e] at h
    refine br_f (nI_ge e (by omega)) ?_
    have e2 : nI q - 1 = nI (q - 1) := pk_sub (b := 1) (by omega)
    rw [e2]
    exact h
  · rw [if_neg e] at h
    exact br_t (nI_le (by omega) (by omega)) h
/-- the invariant of leaveOut at row p, column q -/
def dd_LI (P : Int) (w : Nat → Int32) (i j p q : Nat) (t : Nat → Int32) : Prop :=
  dd_rgs P t ∧ (∀ x y, x < 4 → y < 4 → x ≠ i → y ≠ j → (x < p ∨ (x = p ∧ y < q)) → t (dd_sq1 i x * 5 + dd_sq1 j y) = w (x * 5 + y)) ∧ (∀ x y, x < 4 → y < 5 → (p < x ∨ (x = p ∧ q ≤ y)) → t (x * 5 + y) = w (x * 5 + y))
theorem dd_sqi {r x y : Nat} (hx : x ≠ r) (hy : y ≠ r) (h : dd_sq1 r x = dd_sq1 r y) : x = y := by
  unfold dd_sq1 at h
  split at h <;> split at h <;> omega
theorem dd_sql (r x : Nat) : dd_sq1 r x ≤ x := by
  unfold dd_sq1
  split <;> omega
theorem dd_leave {P : Int} {F : Int32} {a w v g s : Nat → Int32} {i j : Nat} (hi : i < 4) (hj : j < 4) {post : SX → Prop} (hw : dd_rgs P w) (h : ∀ t : Nat → Int32, dd_rgs P t → (∀ p, p < 3 → ∀ q, q < 3 → t (p * 5 + q) = w (dd_op i p * 5 + dd_op j q)) → post (F, a, t, v, g, s)) : wpX_leaveOut post (F, a, w, v, g, s) (nI i) (nI j) := by
  refine loop_0 (fun n p (t : Nat → Int32) => wX_leaveOut_2 post (nI i) (nI j) F n (nI p) a t v g s) (fun p t => dd_LI P w i j p 0 t) 4 w ?_ ?_ ?_
  · exact ⟨hw, fun x y _ _ _ _ h => by omega, fun x y _ _ _ => rfl⟩
  · intro n t ht
    obtain ⟨t1, t2, _⟩ := (ht : dd_LI P w i j 4 0 t)
    refine br_t (by decide) (h t t1 ?_)
    intro p hp q hq
    have k := t2 (dd_op i p) (dd_op j q) (by unfold dd_op; split <;> omega) (by unfold dd_op; split <;> omega) (by unfold dd_op; split <;> omega) (by unfold dd_op; split <;> omega) (by unfold dd_op; split <;> omega)
    have e1 : dd_sq1 i (dd_op i p) = p := by unfold dd_op dd_sq1; split <;> split <;> omega
    have e2 : dd_sq1 j (dd_op j q) = q := by unfold dd_op dd_sq1; split <;> split <;> omega
    rw [e1, e2] at k
    exact k
  · intro n p t hp ht ih
    show wX_leaveOut_2 post (nI i) (nI j) F (n + 1) (nI p) a t v g s
    refine br_f (nI_ge (b := 4) hp (by decide)) ?_
    refine loop_0 (fun n' q (t : Nat → Int32) => wX_leaveOut_10 post (wX_leaveOut_2 post (nI i) (nI j) F n) (nI i) (nI j) (nI p) F n' (nI q) a t v g s) (fun q t => dd_LI P w i j p q t) 4 t ht ?_ ?_
    · intro n' t' ht'
      obtain ⟨t1, t2, t3⟩ := (ht' : dd_LI P w i j p 4 t')
      refine br_t (by decide) (nm_r (nI_1 p) (ih t' ⟨t1, ?_, ?_⟩))
      · intro x y hx hy hxi hyj h
        exact t2 x y hx hy hxi hyj (by omega)
      · intro x y hx hy h
        exact t3 x y hx hy (by omega)
    · intro n' q t' hq ht' ih2
      obtain ⟨t1, t2, t3⟩ := (ht' : dd_LI P w i j p q t')
      show wX_leaveOut_10 post (wX_leaveOut_2 post (nI i) (nI j) F n) (nI i) (nI j) (nI p) F (n' + 1) (nI q) a t' v g s
      refine br_f (nI_ge (b := 4) hq (by decide)) ?_
      have main : wX_leaveOut_45 post (wX_leaveOut_2 post (nI i) (nI j) F n) (wX_leaveOut_10 post (wX_leaveOut_2 post (nI i) (nI j) F n) (nI i) (nI j) (nI p) F n') (nI i) (nI j) (nI p) (nI q) (nI (dd_sq1 j q)) (nI (dd_sq1 i p) * 5) F a t' v g s := by
        refine dd_lv45 (P := P) hp hq hi hj (fun e => ih2 _ ⟨?_, ?_, ?_⟩) (fun e => ih2 _ ⟨t1, ?_, ?_⟩)
        · intro x hx y hy
          by_cases z : x * 5 + y = dd_sq1 i p * 5 + dd_sq1 j q
          · rw [z, pk_us]; exact t1 p hp q (by omega)
          · rw [pk_un z]; exact t1 x hx y hy
        · intro x y hx hy hxi hyj h
          have l1 := dd_sql j y
          have l2 := dd_sql j q
          by_cases z : x = p ∧ y = q
          · rw [z.1, z.2, pk_us]
            exact t3 p q hp (by omega) (by omega)
          · rw [pk_un ?_]
            · exact t2 x y hx hy hxi hyj (by omega)
            · intro e2
              have e3 : dd_sq1 i x = dd_sq1 i p := by omega
              have e4 : dd_sq1 j y = dd_sq1 j q := by omega
              exact z ⟨dd_sqi hxi (by omega) e3, dd_sqi hyj (by omega) e4⟩
        · intro x y hx hy h
          have l1 := dd_sql i p
          have l2 := dd_sql j q
          rw [pk_un (by omega)]
          exact t3 x y hx hy (by omega)
        · intro x y hx hy hxi hyj h
          exact t2 x y hx hy hxi hyj (by omega)
        · intro x y hx hy h
          exact t3 x y hx hy (by omega)
      have main2 : wX_leaveOut_28 post (wX_leaveOut_2 post (nI i) (nI j) F n) (wX_leaveOut_10 post (wX_leaveOut_2 post (nI i) (nI j) F n) (nI i) (nI j) (nI p) F n') (nI i) (nI j) (nI p) (nI q) (nI (dd_sq1 i p)) F a t' v g s := by
        exact dd_sqe j q hq hj (A := fun z => wX_leaveOut_45 post (wX_leaveOut_2 post (nI i) (nI j) F n) (wX_leaveOut_10 post (wX_leaveOut_2 post (nI i) (nI j) F n) (nI i) (nI j) (nI p) F n') (nI i) (nI j) (nI p) (nI q) z (nI (dd_sq1 i p) * 5) F a t' v g s) main
      exact dd_sqe i p hp hi (A := fun z => wX_leaveOut_28 post (wX_leaveOut_2 post (nI i) (nI j) F n) (wX_leaveOut_10 post (wX_leaveOut_2 post (nI i) (nI j) F n) (nI i) (nI j) (nI p) F n') (nI i) (nI j) (nI p) (nI q) z F a t' v g s) main2
end
section
/-! the numbers: set, at, swapRows, addRow, transpose -/
def dd_R4 (p : Int32) : Prop := ∃ i, i < 4 ∧ p = nI i
def dd_R5 (p : Int32) : Prop := ∃ i, i < 5 ∧ p = nI i
def dd_NM (p : Int32) : Prop := -50 ≤ p.toInt ∧ p.toInt ≤ 50
theorem dd_isRow {p : Int32} {post : Int32 → Prop} (h1 : dd_R4 p → post 1) (h0 : ¬ dd_R4 p → post 0) : wpX_isRow post p := by
  refine br_c (fun q => h0 ?_) (fun q => br_c (fun q2 => h0 ?_) (fun q2 => h1 ?_))
  · rintro ⟨i, hi, rfl⟩; exact nI_pos (by omega) q
  · rintro ⟨i, hi, rfl⟩; exact nI_ge (b := 4) hi (by decide) q2
  · obtain ⟨j, hj, rfl⟩ := nI_of q
    refine ⟨j, ?_, rfl⟩
    rcases Nat.lt_or_ge j 4 with y | y
    · exact y
    · exact absurd (nI_le (a := 4) y hj) q2
theorem dd_row {p : Int32} {v : SY} {post : Int32 → Prop} (h1 : dd_R4 p → post 1) (h0 : ¬ dd_R4 p → post 0) : wpY_row post v p := by
  obtain ⟨c, k, t⟩ := v
  refine br_c (fun q => h0 ?_) (fun q => br_c (fun q2 => h0 ?_) (fun q2 => h1 ?_))
  · rintro ⟨i, hi, rfl⟩; exact nI_pos (by omega) q
  · rintro ⟨i, hi, rfl⟩; exact nI_nlt (a := 3) (by omega) (by decide) q2
  · obtain ⟨j, hj, rfl⟩ := nI_of q
    refine ⟨j, ?_, rfl⟩
    rcases Nat.lt_or_ge j 4 with y | y
    · exact y
    · exact absurd (nI_lt (a := 3) (by omega) hj) q2
theorem dd_col {p : Int32} {A B : Prop} (h1 : dd_R5 p → B) (h0 : ¬ dd_R5 p → A) : (p < 0 → A) ∧ (¬ p < 0 → (4 < p → A) ∧ (¬ 4 < p → B)) := by
  refine br_c (fun q => h0 ?_) (fun q => br_c (fun q2 => h0 ?_) (fun q2 => h1 ?_))
  · rintro ⟨i, hi, rfl⟩; exact nI_pos (by omega) q
  · rintro ⟨i, hi, rfl⟩; exact nI_nlt (a := 4) (by omega) (by decide) q2
  · obtain ⟨j, hj, rfl⟩ := nI_of q
    refine ⟨j, ?_, rfl⟩
    rcases Nat.lt_or_ge j 5 with y | y
    · exact y
    · exact absurd (nI_lt (a := 4) (by omega) hj) q2
theorem dd_num2 {p : Int32} {A B : Prop} (h1 : dd_NM p → B) (h0 : ¬ dd_NM p → A) : (p < (-50) → A) ∧ (¬ p < (-50) → (50 < p → A) ∧ (¬ 50 < p → B)) := by
  have e1 : (-50 : Int32).toInt = -50 := by decide
  have e2 : (50 : Int32).toInt = 50 := by decide
  unfold dd_NM at h1 h0
  refine br_c (fun q => h0 ?_) (fun q => br_c (fun q2 => h0 ?_) (fun q2 => h1 ?_)) <;> simp only [Int32.lt_iff_toInt_lt, e1, e2] at * <;> omega
theorem dd_num {p : Int32} {post : Int32 → Prop} (h1 : dd_NM p → post 1) (h0 : ¬ dd_NM p → post 0) : wpX_isNumber post p := dd_num2 h1 h0
theorem dd_fits {p0 p1 p2 : Int32} {v : SY} {post : Int32 → Prop} (h1 : dd_R4 p0 → dd_R5 p1 → dd_NM p2 → post 1) (h0 : ¬ (dd_R4 p0 ∧ dd_R5 p1 ∧ dd_NM p2) → post 0) : wpY_fits post v p0 p1 p2 := by
  obtain ⟨c, k, t⟩ := v
  unfold wpY_fits
  dsimp only
  refine dd_row (fun a => br_f (by decide) ?_) (fun a => br_t rfl (h0 (fun y => a y.1)))
  refine dd_col (fun b => ?_) (fun b => h0 (fun y => b y.2.1))
  exact dd_num2 (fun d => h1 a b d) (fun d => h0 (fun y => d y.2.2))
theorem dd_byte {x : Int32} (h : dd_NM x) : vp_nar .byte x = x := by
  unfold dd_NM at h
  rw [vp_nar_byte, lg_i2b_small (by omega) (by omega)]
theorem dd_byte2 {x : Int32} (h : dd_NM x) : vp_nar .byte x.toInt8.toInt32 = x := by
  unfold dd_NM at h
  rw [pk_vb, lg_i2b_small (by omega) (by omega)]
theorem dd_bdu {a : Nat → Int32} {i : Nat} {x : Int32} (h : dd_bd a) (hx : dd_NM x) : dd_bd (upd a i x) := by
  intro j
  by_cases e : j = i
  · rw [e, pk_us]; exact hx
  · rw [pk_un e]; exact h j
theorem i_vc_set {k : Nat} {u : SX} {v : SY} (I : i_Rel k u v) (hk : k + 4 ≤ 2048) (v1 : Int32) (v2 : Int32) (v3 : Int32) : wpX_set (fun r u' => wpY_set (fun r' v' => r' = r ∧ i_Rel (k + 4) u' v') v v1 v2 v3) u v1 v2 v3 := by
  obtain ⟨F, a, w, vv, g, s⟩ := u
  obtain ⟨c, kk, t⟩ := v
  obtain ⟨e, hb⟩ := I
  have e2 : a = c := e
  have hb2 : dd_bd c := hb
  subst e2
  have no : ¬ (dd_R4 v1 ∧ dd_R5 v2 ∧ dd_NM v3) → wpY_set (fun r' v' => r' = 0 ∧ i_Rel (k + 4) (F, a, w, vv, g, s) v') (a, kk, t) v1 v2 v3 := by
    intro n
    unfold wpY_set
    dsimp only
    exact dd_fits (fun x y z => absurd ⟨x, y, z⟩ n) (fun _ => br_t rfl ⟨rfl, rfl, hb2⟩)
  unfold wpX_set
  dsimp only
  refine dd_isRow (fun x => br_f (by decide) ?_) (fun x => br_t rfl (no (fun n => x n.1)))
  refine dd_col (fun y => ?_) (fun y => no (fun n => y n.2.1))
  refine dd_num (fun z => br_f (by decide) ?_) (fun z => br_t rfl (no (fun n => z n.2.2)))
  have x' := x
  have y' := y
  obtain ⟨i, hi, rfl⟩ := x
  obtain ⟨j, hj, rfl⟩ := y
  rw [dd_cl hi hj, dd_byte2 z]
  refine And.intro (dd_in hi hj) (nm_e ?_)
  unfold wpY_set
  dsimp only
  refine dd_fits (fun _ _ _ => br_f (by decide) ?_) (fun n => absurd ⟨x', y', z⟩ n)
  rw [dd_cly hi hj]
  exact And.intro (dd_iny hi hj) (nm_e ⟨rfl, rfl, dd_bdu hb2 z⟩)
theorem i_vc_at {k : Nat} {u : SX} {v : SY} (I : i_Rel k u v) (hk : k + 4 ≤ 2048) (v1 : Int32) (v2 : Int32) : wpX_at (fun r => wpY_at (fun r' => r' = r ∧ i_Rel (k + 4) u v) v v1 v2) u v1 v2 := by
  obtain ⟨F, a, w, vv, g, s⟩ := u
  obtain ⟨c, kk, t⟩ := v
  obtain ⟨e, hb⟩ := I
  have e2 : a = c := e
  have hb2 : dd_bd c := hb
  subst e2
  have rel : i_Rel (k + 4) (F, a, w, vv, g, s) (a, kk, t) := ⟨rfl, hb2⟩
  have no : ¬ (dd_R4 v1 ∧ dd_R5 v2) → wpY_at (fun r' => r' = -1000000000 ∧ i_Rel (k + 4) (F, a, w, vv, g, s) (a, kk, t)) (a, kk, t) v1 v2 := by
    intro n
    unfold wpY_at
    dsimp only
    refine dd_row (fun x => br_f (by decide) ?_) (fun _ => br_t rfl ⟨rfl, rel⟩)
    exact dd_col (fun y => absurd ⟨x, y⟩ n) (fun _ => ⟨rfl, rel⟩)
  unfold wpX_at
  dsimp only
  refine dd_isRow (fun x => br_f (by decide) ?_) (fun x => br_t rfl (no (fun n => x n.1)))
  refine dd_col (fun y => ?_) (fun y => no (fun n => y n.2))
  have x' := x
  have y' := y
  obtain ⟨i, hi, rfl⟩ := x
  obtain ⟨j, hj, rfl⟩ := y
  rw [dd_cl hi hj]
  refine And.intro (dd_in hi hj) ?_
  unfold wpY_at
  dsimp only
  refine dd_row (fun x => br_f (by decide) ?_) (fun n => absurd x' n)
  refine dd_col (fun y => ?_) (fun n => absurd y' n)
  rw [dd_cly hi hj]
  exact And.intro (dd_iny hi hj) ⟨rfl, rel⟩
/-- the array after the first j columns of rows i and k have been swapped -/
def dd_sw (a : Nat → Int32) (i k : Nat) : Nat → (Nat → Int32)
  | 0 => a
  | j + 1 => upd (upd (dd_sw a i k j) (i * 5 + j) (dd_sw a i k j (k * 5 + j))) (k * 5 + j) (dd_sw a i k j (i * 5 + j))
theorem dd_sw_b {a : Nat → Int32} {i k : Nat} (h : dd_bd a) : ∀ j, dd_bd (dd_sw a i k j) := by
  intro j
  induction j with
  | zero => exact h
  | succ j ih => exact dd_bdu (dd_bdu ih (ih _)) (ih _)
theorem i_vc_swapRows {k : Nat} {u : SX} {v : SY} (I : i_Rel k u v) (hk : k + 4 ≤ 2048) (v1 : Int32) (v2 : Int32) : wpX_swapRows (fun r u' => wpY_swapRows (fun r' v' => r' = r ∧ i_Rel (k + 4) u' v') v v1 v2) u v1 v2 := by
  obtain ⟨F, a, w, vv, g, s⟩ := u
  obtain ⟨c, kk, t⟩ := v
  obtain ⟨e, hb⟩ := I
  have e2 : a = c := e
  have hb2 : dd_bd c := hb
  subst e2
  have no : ¬ (dd_R4 v1 ∧ dd_R4 v2) → wpY_swapRows (fun r' v' => r' = 0 ∧ i_Rel (k + 4) (F, a, w, vv, g, s) v') (a, kk, t) v1 v2 := by
    intro n
    unfold wpY_swapRows
    dsimp only
    refine dd_row (fun x => br_f (by decide) ?_) (fun _ => br_t rfl ⟨rfl, rfl, hb2⟩)
    exact dd_row (fun y => absurd ⟨x, y⟩ n) (fun _ => br_t rfl ⟨rfl, rfl, hb2⟩)
  unfold wpX_swapRows
  dsimp only
  refine dd_isRow (fun x => br_f (by decide) ?_) (fun x => br_t rfl (no (fun n => x n.1)))
  refine dd_isRow (fun y => br_f (by decide) ?_) (fun y => br_t rfl (no (fun n => y n.2)))
  have x' := x
  have y' := y
  obtain ⟨i, hi, rfl⟩ := x
  obtain ⟨q, hq, rfl⟩ := y
  refine loop_0 (fun n j (_ : Unit) => wX_swapRows_18 _ (nI i) (nI q) F n (nI j) (dd_sw a i q j) w vv g s) (fun _ _ => True) 4 () trivial ?_ ?_
  · intro n _ _
    refine br_t (by decide) ?_
    unfold wpY_swapRows
    dsimp only
    refine dd_row (fun x => br_f (by decide) ?_) (fun n => absurd x' n)
    refine dd_row (fun y => br_f (by decide) ?_) (fun n => absurd y' n)
    refine loop_0 (fun n j (_ : Unit) => wY_swapRows_20 _ (nI i) (nI q) n (nI j) (dd_sw a i q j) kk t) (fun _ _ => True) 4 () trivial ?_ ?_
    · intro n _ _
      exact br_t (by decide) ⟨rfl, rfl, dd_sw_b hb2 4⟩
    · intro n j _ hj _ ih
      show wY_swapRows_20 _ (nI i) (nI q) (n + 1) (nI j) (dd_sw a i q j) kk t
      have h1 := dd_iny (i := i) (j := j) hi (by omega)
      have h2 := dd_iny (i := q) (j := j) hq (by omega)
      refine br_f (nI_ge (b := 4) hj (by decide)) ?_
      rw [dd_cly hi (by omega), dd_cly hq (by omega)]
      exact And.intro h1 (nm_e (And.intro h2 (And.intro h1 (nm_e (And.intro h2 (nm_e (nm_r (nI_1 j) (ih () trivial))))))))
  · intro n j _ hj _ ih
    show wX_swapRows_18 _ (nI i) (nI q) F (n + 1) (nI j) (dd_sw a i q j) w vv g s
    have h1 := dd_in (i := i) (j := j) hi (by omega)
    have h2 := dd_in (i := q) (j := j) hq (by omega)
    have b := dd_sw_b (i := i) (k := q) hb2 j
    refine br_f (nI_ge (b := 4) hj (by decide)) ?_
    rw [dd_cl hi (by omega), dd_cl hq (by omega), dd_byte (b _)]
    refine And.intro h1 (nm_e (And.intro h2 (And.intro h1 (nm_e (And.intro h2 ?_)))))
    rw [dd_byte (b _)]
    exact nm_e (nm_r (nI_1 j) (ih () trivial))
end
section
/-! addRow, transpose -/
def dd_ad (a : Nat → Int32) (i q : Nat) (f : Int32) : Nat → (Nat → Int32)
  | 0 => a
  | j + 1 => upd (dd_ad a i q f j) (i * 5 + j) (dd_ad a i q f j (i * 5 + j) + f * dd_ad a i q f j (q * 5 + j))
theorem dd_ad_o {a : Nat → Int32} {i q : Nat} {f : Int32} {x : Nat} : ∀ j, (∀ j', j' < j → x ≠ i * 5 + j') → dd_ad a i q f j x = a x := by
  intro j
  induction j with
  | zero => intro _; rfl
  | succ j ih =>
    intro h
    show upd _ _ _ x = a x
    rw [pk_un (h j (by omega))]
    exact ih (fun j' hj => h j' (by omega))
theorem dd_ad_v {a : Nat → Int32} {i q : Nat} {f : Int32} {j : Nat} (hj : j < 4) (hiq : i ≠ q) : dd_ad a i q f j (i * 5 + j) + f * dd_ad a i q f j (q * 5 + j) = a (i * 5 + j) + f * a (q * 5 + j) := by
  rw [dd_ad_o j (fun j' h => by omega), dd_ad_o j (fun j' h => by omega)]
theorem dd_ad_b {a : Nat → Int32} {i q : Nat} {f : Int32} (h : dd_bd a) (hiq : i ≠ q) (hv : ∀ j, j < 4 → dd_NM (a (i * 5 + j) + f * a (q * 5 + j))) : ∀ j, j ≤ 4 → dd_bd (dd_ad a i q f j) := by
  intro j
  induction j with
  | zero => intro _; exact h
  | succ j ih =>
    intro hj
    refine dd_bdu (ih (by omega)) ?_
    rw [dd_ad_v (by omega) hiq]
    exact hv j (by omega)
theorem dd_x88 {F : Int32} {a w v g s : Nat → Int32} {i q : Nat} {f : Int32} {post : Int32 → SX → Prop} (hi : i < 4) (hq : q < 4) (hiq : i ≠ q) (hv : ∀ j, j < 4 → dd_NM (a (i * 5 + j) + f * a (q * 5 + j))) (h : post 1 (F, dd_ad a i q f 4, w, v, g, s)) : ∃ n, wX_addRow_88 post (nI i) (nI q) f F n 0 a w v g s := by
  refine loop_0 (fun n j (_ : Unit) => wX_addRow_88 post (nI i) (nI q) f F n (nI j) (dd_ad a i q f j) w v g s) (fun _ _ => True) 4 () trivial ?_ ?_
  · intro n _ _
    exact br_t (by decide) h
  · intro n j _ hj _ ih
    show wX_addRow_88 post (nI i) (nI q) f F (n + 1) (nI j) (dd_ad a i q f j) w v g s
    have h1 := dd_in (i := i) (j := j) hi (by omega)
    have h2 := dd_in (i := q) (j := j) hq (by omega)
    refine br_f (nI_ge (b := 4) hj (by decide)) ?_
    rw [dd_cl hi (by omega), dd_cl hq (by omega), dd_byte2 (by rw [dd_ad_v hj hiq]; exact hv j hj)]
    exact And.intro h1 (And.intro h2 (And.intro h1 (nm_e (nm_r (nI_1 j) (ih () trivial)))))
theorem dd_x36 {F : Int32} {a w v g s : Nat → Int32} {i q : Nat} {f : Int32} {post : Int32 → SX → Prop} (hi : i < 4) (hq : q < 4) (hiq : i ≠ q) (h1 : (∀ j, j < 4 → dd_NM (a (i * 5 + j) + f * a (q * 5 + j))) → post 1 (F, dd_ad a i q f 4, w, v, g, s)) (h0 : ¬ (∀ j, j < 4 → dd_NM (a (i * 5 + j) + f * a (q * 5 + j))) → post 0 (F, a, w, v, g, s)) : ∃ n, wX_addRow_36 post (nI i) (nI q) f F a w v g s n 0 := by
  refine loop_0 (fun n j (_ : Unit) => wX_addRow_36 post (nI i) (nI q) f F a w v g s n (nI j)) (fun j _ => ∀ j', j' < j → dd_NM (a (i * 5 + j') + f * a (q * 5 + j'))) 4 () (fun j' h => by omega) ?_ ?_
  · intro n _ hv
    exact br_t (by decide) (dd_x88 hi hq hiq hv (h1 hv))
  · intro n j _ hj hv ih
    show wX_addRow_36 post (nI i) (nI q) f F a w v g s (n + 1) (nI j)
    have k1 := dd_in (i := i) (j := j) hi (by omega)
    have k2 := dd_in (i := q) (j := j) hq (by omega)
    refine br_f (nI_ge (b := 4) hj (by decide)) ?_
    rw [dd_cl hi (by omega), dd_cl hq (by omega)]
    refine And.intro k1 (And.intro k2 (nm_e (dd_num (fun z => br_f (by decide) (nm_r (nI_1 j) (ih () ?_))) (fun z => br_t rfl (h0 (fun y => z (y j hj)))))))
    intro j' hj'
    by_cases e : j' = j
    · rw [e]; exact z
    · exact hv j' (by omega)
theorem dd_y103 {a k : Nat → Int32} {t : Nat → Int64} {i q : Nat} {f : Int32} {post : Int32 → SY → Prop} (hi : i < 4) (hq : q < 4) (h : post 1 (dd_ad a i q f 4, k, t)) : ∃ n, wY_addRow_103 post (nI i) (nI q) f 1 n 0 a k t := by
  refine loop_0 (fun n j (_ : Unit) => wY_addRow_103 post (nI i) (nI q) f 1 n (nI j) (dd_ad a i q f j) k t) (fun _ _ => True) 4 () trivial ?_ ?_
  · intro n _ _
    exact br_t (by decide) (And.intro rfl h)
  · intro n j _ hj _ ih
    show wY_addRow_103 post (nI i) (nI q) f 1 (n + 1) (nI j) (dd_ad a i q f j) k t
    have h1 := dd_iny (i := i) (j := j) hi (by omega)
    have h2 := dd_iny (i := q) (j := j) hq (by omega)
    refine br_f (nI_ge (b := 4) hj (by decide)) (br_f (by decide) ?_)
    rw [dd_cly hi (by omega), dd_cly hq (by omega)]
    exact And.intro h1 (And.intro h2 (And.intro h1 (nm_e (nm_r (nI_1 j) (ih () trivial)))))
theorem dd_y41 {a k : Nat → Int32} {t : Nat → Int64} {i q : Nat} {f : Int32} {post : Int32 → SY → Prop} (hi : i < 4) (hq : q < 4) (h1 : (∀ j, j < 4 → dd_NM (a (i * 5 + j) + f * a (q * 5 + j))) → post 1 (dd_ad a i q f 4, k, t)) (h0 : ¬ (∀ j, j < 4 → dd_NM (a (i * 5 + j) + f * a (q * 5 + j))) → post 0 (a, k, t)) : ∃ n, wY_addRow_41 post (nI i) (nI q) f a k t n 1 0 := by
  refine loop_0 (fun n j (b : Int32) => wY_addRow_41 post (nI i) (nI q) f a k t n b (nI j)) (fun j b => (b = 1 ∧ ∀ j', j' < j → dd_NM (a (i * 5 + j') + f * a (q * 5 + j'))) ∨ (b = 0 ∧ ¬ ∀ j', j' < 4 → dd_NM (a (i * 5 + j') + f * a (q * 5 + j')))) 4 1 (Or.inl ⟨rfl, fun j' h => by omega⟩) ?_ ?_
  · rintro n b (⟨rfl, hv⟩ | ⟨rfl, hv⟩)
    · exact br_t (by decide) (dd_y103 hi hq (h1 hv))
    · exact br_t (by decide) ⟨1, br_f (by decide) (br_t rfl (And.intro rfl (h0 hv)))⟩
  · rintro n j b hj (⟨rfl, hv⟩ | ⟨rfl, hv⟩) ih
    · show wY_addRow_41 post (nI i) (nI q) f a k t (n + 1) 1 (nI j)
      have k1 := dd_iny (i := i) (j := j) hi (by omega)
      have k2 := dd_iny (i := q) (j := j) hq (by omega)
      refine br_f (nI_ge (b := 4) hj (by decide)) (br_f (by decide) ?_)
      rw [dd_cly hi (by omega), dd_cly hq (by omega)]
      refine And.intro k1 (And.intro k2 (dd_fits (fun _ _ z => br_f (by decide) (nm_r (nI_1 j) (ih 1 (Or.inl ⟨rfl, ?_⟩)))) (fun z => br_t rfl (nm_r (nI_1 j) (ih 0 (Or.inr ⟨rfl, fun y => z ⟨⟨i, hi, rfl⟩, ⟨j, by omega, rfl⟩, y j hj⟩⟩))))))
      intro j' hj'
      by_cases e : j' = j
      · rw [e]; exact z
      · exact hv j' (by omega)
    · show wY_addRow_41 post (nI i) (nI q) f a k t (n + 1) 0 (nI j)
      exact br_f (nI_ge (b := 4) hj (by decide)) (br_t rfl (nm_r (nI_1 j) (ih 0 (Or.inr ⟨rfl, hv⟩))))
theorem i_vc_addRow {k : Nat} {u : SX} {v : SY} (I : i_Rel k u v) (hk : k + 4 ≤ 2048) (v1 : Int32) (v2 : Int32) (v3 : Int32) : wpX_addRow (fun r u' => wpY_addRow (fun r' v' => r' = r ∧ i_Rel (k + 4) u' v') v v1 v2 v3) u v1 v2 v3 := by
  obtain ⟨F, a, w, vv, g, s⟩ := u
  obtain ⟨c, kk, t⟩ := v
  obtain ⟨e, hb⟩ := I
  have e2 : a = c := e
  have hb2 : dd_bd c := hb
  subst e2
  have rel : i_Rel (k + 4) (F, a, w, vv, g, s) (a, kk, t) := ⟨rfl, hb2⟩
  have no : ¬ (dd_R4 v1 ∧ dd_R4 v2 ∧ ¬ v1 = v2 ∧ ¬ v3 < (-9) ∧ v3 ≤ 9) → wpY_addRow (fun r' v' => r' = 0 ∧ i_Rel (k + 4) (F, a, w, vv, g, s) v') (a, kk, t) v1 v2 v3 := by
    intro n
    unfold wpY_addRow
    dsimp only
    refine br_c (fun _ => ⟨rfl, rel⟩) (fun n1 => ?_)
    refine dd_row (fun n2 => br_f (by decide) ?_) (fun _ => br_t rfl ⟨rfl, rel⟩)
    refine dd_row (fun n3 => br_f (by decide) ?_) (fun _ => br_t rfl ⟨rfl, rel⟩)
    refine br_c (fun _ => ⟨rfl, rel⟩) (fun n4 => ?_)
    exact br_c (fun n5 => absurd ⟨n2, n3, n1, n4, n5⟩ n) (fun _ => ⟨rfl, rel⟩)
  unfold wpX_addRow
  dsimp only
  refine dd_isRow (fun n2 => br_f (by decide) ?_) (fun y => br_t rfl (no (fun n => y n.1)))
  refine dd_isRow (fun n3 => br_f (by decide) ?_) (fun y => br_t rfl (no (fun n => y n.2.1)))
  refine br_c (fun y => no (fun n => n.2.2.1 y)) (fun n1 => ?_)
  refine br_c (fun y => no (fun n => n.2.2.2.1 y)) (fun n4 => ?_)
  refine br_c (fun n5 => ?_) (fun y => no (fun n => y n.2.2.2.2))
  have n2' := n2
  have n3' := n3
  obtain ⟨i, hi, rfl⟩ := n2
  obtain ⟨q, hq, rfl⟩ := n3
  have hiq : i ≠ q := fun y => n1 (by rw [y])
  refine dd_x36 hi hq hiq (fun hv => ?_) (fun hv => ?_)
  · unfold wpY_addRow
    dsimp only
    refine br_f n1 ?_
    refine dd_row (fun _ => br_f (by decide) ?_) (fun y => absurd n2' y)
    refine dd_row (fun _ => br_f (by decide) ?_) (fun y => absurd n3' y)
    refine br_f n4 (br_t n5 ?_)
    exact dd_y41 hi hq (fun _ => ⟨rfl, rfl, dd_ad_b hb2 hiq hv 4 (by decide)⟩) (fun y => absurd hv y)
  · unfold wpY_addRow
    dsimp only
    refine br_f n1 ?_
    refine dd_row (fun _ => br_f (by decide) ?_) (fun y => absurd n2' y)
    refine dd_row (fun _ => br_f (by decide) ?_) (fun y => absurd n3' y)
    refine br_f n4 (br_t n5 ?_)
    exact dd_y41 hi hq (fun y => absurd y hv) (fun _ => ⟨rfl, rel⟩)
def dd_TC (i j r c : Nat) : Prop := (r < i ∧ c < i) ∨ (r = i ∧ c < j) ∨ (c = i ∧ r < j)
/-- the invariant of X's transpose -/
def dd_TI (a : Nat → Int32) (i j : Nat) (b : Nat → Int32) : Prop :=
  dd_bd b ∧ (∀ r c, r < 4 → c < 4 → (dd_TC i j r c → b (r * 5 + c) = a (c * 5 + r)) ∧ (¬ dd_TC i j r c → b (r * 5 + c) = a (r * 5 + c))) ∧ (∀ x, (20 ≤ x ∨ x % 5 = 4) → b x = a x)
theorem dd_xtr {F : Int32} {a w v g s : Nat → Int32} {post : SX → Prop} (ha : dd_bd a) (h : ∀ b : Nat → Int32, dd_bd b → (∀ r c, r < 4 → c < 4 → b (r * 5 + c) = a (c * 5 + r)) → (∀ x, (20 ≤ x ∨ x % 5 = 4) → b x = a x) → post (F, b, w, v, g, s)) : wpX_transpose post (F, a, w, v, g, s) := by
  refine loop_0 (fun n i (b : Nat → Int32) => wX_transpose_2 post F n (nI i) b w v g s) (fun i b => dd_TI a i 0 b) 4 a ?_ ?_ ?_
  · exact ⟨ha, fun r c _ _ => ⟨fun q => by unfold dd_TC at q; omega, fun _ => rfl⟩, fun _ _ => rfl⟩
  · intro n b hb
    obtain ⟨b1, b2, b3⟩ := (hb : dd_TI a 4 0 b)
    exact br_t (by decide) (h b b1 (fun r c hr hc => (b2 r c hr hc).1 (Or.inl ⟨hr, hc⟩)) b3)
  · intro n i b hi hb ih
    show wX_transpose_2 post F (n + 1) (nI i) b w v g s
    refine br_f (nI_ge (b := 4) hi (by decide)) ?_
    refine loop_0 (fun n' j (b : Nat → Int32) => wX_transpose_9 post (wX_transpose_2 post F n) (nI i) F n' (nI j) b w v g s) (fun j b => dd_TI a i j b) i b hb ?_ ?_
    · intro n' b' hb'
      obtain ⟨b1, b2, b3⟩ := (hb' : dd_TI a i i b')
      refine br_t (Int32.le_refl _) (nm_r (nI_1 i) (ih b' ⟨b1, ?_, b3⟩))
      intro r c hr hc
      by_cases z : dd_TC i i r c
      · exact ⟨fun _ => (b2 r c hr hc).1 z, fun y => absurd (by unfold dd_TC at z ⊢; omega) y⟩
      · have k := (b2 r c hr hc).2 z
        refine ⟨fun y => ?_, fun _ => k⟩
        have e1 : r = i ∧ c = i := by unfold dd_TC at z y; omega
        rw [k, e1.1, e1.2]
    · intro n' j b' hj hb' ih2
      obtain ⟨b1, b2, b3⟩ := (hb' : dd_TI a i j b')
      show wX_transpose_9 post (wX_transpose_2 post F n) (nI i) F (n' + 1) (nI j) b' w v g s
      have h1 := dd_in (i := i) (j := j) hi (by omega)
      have h2 := dd_in (i := j) (j := i) (by omega) (by omega)
      refine br_f (nI_ge hj (by omega)) ?_
      rw [dd_cl hi (by omega), dd_cl (i := j) (j := i) (by omega) (by omega), dd_byte (b1 _)]
      refine And.intro h1 (nm_e (And.intro h2 (And.intro h1 (nm_e (And.intro h2 ?_)))))
      rw [dd_byte (b1 _)]
      refine nm_e (nm_r (nI_1 j) (ih2 _ ⟨dd_bdu (dd_bdu b1 (b1 _)) (b1 _), ?_, ?_⟩))
      · intro r c hr hc
        by_cases e1 : r = j ∧ c = i
        · obtain ⟨e1, e2⟩ := e1
          rw [e1, e2, pk_us]
          refine ⟨fun _ => (b2 i j hi (by omega)).2 (by unfold dd_TC; omega), fun y => absurd (by unfold dd_TC; omega) y⟩
        · rw [pk_un (by omega)]
          by_cases e3 : r = i ∧ c = j
          · obtain ⟨e3, e4⟩ := e3
            rw [e3, e4, pk_us]
            refine ⟨fun _ => (b2 j i (by omega) hi).2 (by unfold dd_TC; omega), fun y => absurd (by unfold dd_TC; omega) y⟩
          · rw [pk_un (by omega)]
            exact ⟨fun y => (b2 r c hr hc).1 (by unfold dd_TC at y ⊢; omega), fun y => (b2 r c hr hc).2 (by unfold dd_TC at y ⊢; omega)⟩
      · intro x hx
        rw [pk_un (by omega), pk_un (by omega)]
        exact b3 x hx
theorem dd_keepY {c k : Nat → Int32} {t : Nat → Int64} {post : SY → Prop} (h : ∀ k' : Nat → Int32, (∀ x, x < 20 → k' x = c x) → post (c, k', t)) : wpY_keep post (c, k, t) := by
  refine loop_0 (fun n i (b : Nat → Int32) => wY_keep_2 post n (nI i) c b t) (fun i b => ∀ x, x < i → b x = c x) 20 k (fun x h => by omega) ?_ ?_
  · intro n b hb
    exact br_t (by decide) (h b hb)
  · intro n i b hi hb ih
    show wY_keep_2 post (n + 1) (nI i) c b t
    have hin : vp_in (nI i) 20 := vp_in_nI hi (by decide)
    have hc : (nI i).toNatClampNeg = i := nI_clamp (by omega)
    refine br_f (nI_ge (b := 20) hi (by decide)) ?_
    rw [hc]
    refine And.intro hin (And.intro hin (nm_e (nm_r (nI_1 i) (ih _ ?_))))
    intro x hx
    by_cases e : x = i
    · rw [e, pk_us]
    · rw [pk_un e]; exact hb x (by omega)
theorem dd_restY {c c' k : Nat → Int32} {t : Nat → Int64} {post : SY → Prop} (h0 : ∀ x, 20 ≤ x → c' x = c x) (h1 : ∀ x, x < 20 → k x = c x) (h : post (c, k, t)) : wpY_restore post (c', k, t) := by
  refine loop_0 (fun n i (b : Nat → Int32) => wY_restore_2 post n (nI i) b k t) (fun i b => (∀ x, 20 ≤ x → b x = c x) ∧ ∀ x, x < i → b x = c x) 20 c' ⟨h0, fun x h => by omega⟩ ?_ ?_
  · rintro n b ⟨b1, b2⟩
    have e : b = c := by
      funext x
      rcases Nat.lt_or_ge x 20 with y | y
      · exact b2 x y
      · exact b1 x y
    subst e
    exact br_t (by decide) h
  · rintro n i b hi ⟨b1, b2⟩ ih
    show wY_restore_2 post (n + 1) (nI i) b k t
    have hin : vp_in (nI i) 20 := vp_in_nI hi (by decide)
    have hc : (nI i).toNatClampNeg = i := nI_clamp (by omega)
    refine br_f (nI_ge (b := 20) hi (by decide)) ?_
    rw [hc]
    refine And.intro hin (And.intro hin (nm_e (nm_r (nI_1 i) (ih _ ⟨?_, ?_⟩))))
    · intro x hx
      rw [pk_un (by omega)]; exact b1 x hx
    · intro x hx
      by_cases e : x = i
      · rw [e, pk_us]; exact h1 i hi
      · rw [pk_un e]; exact b2 x (by omega)
theorem dd_ytr {a k : Nat → Int32} {t : Nat → Int64} {post : SY → Prop} (h : ∀ b k' : Nat → Int32, (∀ r c, r < 4 → c < 4 → b (r * 5 + c) = a (c * 5 + r)) → (∀ x, (20 ≤ x ∨ x % 5 = 4) → b x = a x) → post (b, k', t)) : wpY_transpose post (a, k, t) := by
  unfold wpY_transpose
  dsimp only
  refine dd_keepY (fun k' hk' => ?_)
  refine loop_0 (fun n i (b : Nat → Int32) => wY_transpose_6 post n (nI i) b k' t) (fun i b => (∀ r c, r < 4 → c < 4 → r * 4 + c < i → b (r * 5 + c) = a (c * 5 + r)) ∧ (∀ x, (20 ≤ x ∨ x % 5 = 4) → b x = a x)) 16 a ⟨fun r c _ _ h => by omega, fun _ _ => rfl⟩ ?_ ?_
  · rintro n b ⟨b1, b2⟩
    exact br_t (by decide) (h b k' (fun r c hr hc => b1 r c hr hc (by omega)) b2)
  · rintro n i b hi ⟨b1, b2⟩ ih
    show wY_transpose_6 post (n + 1) (nI i) b k' t
    have z4 : ¬ (4 : Int32) = 0 := by decide
    have e1 : nI i / 4 = nI (i / 4) := pk_div (d := 4) (by omega) (by decide) (by decide)
    have e2 : nI i - nI i / 4 * 4 = nI (i % 4) := pk_rem (d := 4) (by omega) (by decide) (by decide)
    refine br_f (nI_ge (b := 16) hi (by decide)) ?_
    rw [e2, e1]
    have i1 : i % 4 < 4 := Nat.mod_lt _ (by decide)
    have i2 : i / 4 < 4 := by omega
    have h1 := dd_iny (i := i % 4) (j := i / 4) i1 (by omega)
    have h2 := dd_iny (i := i / 4) (j := i % 4) i2 (by omega)
    rw [dd_cly i1 (by omega), dd_cly i2 (by omega)]
    refine And.intro z4 (And.intro z4 (And.intro z4 (And.intro z4 (And.intro h1 (And.intro h2 (nm_e (nm_r (nI_1 i) (ih _ ⟨?_, ?_⟩))))))))
    · intro r c hr hc hlt
      by_cases e : r * 4 + c = i
      · have er : i / 4 = r := by omega
        have ec : i % 4 = c := by omega
        rw [er, ec, pk_us]
        exact hk' _ (by omega)
      · rw [pk_un (by omega)]
        exact b1 r c hr hc (by omega)
    · intro x hx
      rw [pk_un (by omega)]
      exact b2 x hx
theorem i_vc_transpose {k : Nat} {u : SX} {v : SY} (I : i_Rel k u v) (hk : k + 4 ≤ 2048) : wpX_transpose (fun u' => wpY_transpose (fun v' => i_Rel (k + 4) u' v') v) u := by
  obtain ⟨F, a, w, vv, g, s⟩ := u
  obtain ⟨c, kk, t⟩ := v
  obtain ⟨e, hb⟩ := I
  have e2 : a = c := e
  have hb2 : dd_bd c := hb
  subst e2
  refine dd_xtr hb2 (fun b hbb b1 b2 => ?_)
  refine dd_ytr (fun b' k' c1 c2 => ?_)
  have e : b = b' := by
    funext x
    by_cases y : 20 ≤ x ∨ x % 5 = 4
    · rw [b2 x y, c2 x y]
    · have ex : x = x / 5 * 5 + x % 5 := by omega
      rw [ex, b1 _ _ (by omega) (by omega), c1 _ _ (by omega) (by omega)]
  subst e
  exact ⟨rfl, hbb⟩
end
section
/-! determinant, determinantWith, minor, replaced, shifted -/
theorem dd_P1 : dd_pr 32749 := Or.inl rfl
theorem dd_P2 : dd_pr 32719 := Or.inr rfl
theorem dd_T1 : (32749 : Int32).toInt = 32749 := by decide
theorem dd_T2 : (32719 : Int32).toInt = 32719 := by decide
theorem dd_d4b {c : Nat → Int32} (hc : dd_bd c) : -535740906 ≤ dd_dt ((dd_dn 4).map (dd_rw c)) 15 ∧ dd_dt ((dd_dn 4).map (dd_rw c)) 15 ≤ 535740906 := by
  have k := dd_bl4b hc 15 15 (by decide)
  have k2 : -150000000 ≤ dd_dt ((dd_dn 4).map (dd_rw c)) 15 ∧ dd_dt ((dd_dn 4).map (dd_rw c)) 15 ≤ 150000000 := k
  omega
theorem dd_xdet {F : Int32} {a w v g s : Nat → Int32} {post : Int32 → SX → Prop} (ha : dd_bd a) (h : ∀ t : Nat → Int32, post (Int32.ofInt (dd_dt ((dd_dn 4).map (dd_rw a)) 15)) (32719, a, t, v, g, s)) : wpX_determinant post (F, a, w, v, g, s) := by
  unfold wpX_determinant
  dsimp only
  refine dd_load2 dd_P1 dd_T1 (fun t1 h1 => ?_)
  refine dd_det2 (n := 4) dd_P1 dd_T1 (by decide) h1 (fun r1 t2 k1 c1 => ?_)
  refine dd_load2 dd_P2 dd_T2 (fun t3 h3 => ?_)
  refine dd_det2 (n := 4) dd_P2 dd_T2 (by decide) h3 (fun r2 t4 k2 c2 => ?_)
  exact dd_join (dd_d4b ha) k1 c1 k2 c2 (h t4)
theorem i_vc_determinant {k : Nat} {u : SX} {v : SY} (I : i_Rel k u v) (hk : k + 4 ≤ 2048) : wpX_determinant (fun r u' => wpY_determinant (fun r' v' => r' = r ∧ i_Rel (k + 4) u' v') v) u := by
  obtain ⟨F, a, w, vv, g, s⟩ := u
  obtain ⟨c, kk, t⟩ := v
  obtain ⟨e, hb⟩ := I
  have e2 : a = c := e
  have hb2 : dd_bd c := hb
  subst e2
  exact dd_xdet hb2 (fun t1 => dd_ydet (fun t2 => ⟨rfl, rfl, hb2⟩))
theorem dd_uu (a : Nat → Int32) (i : Nat) (x : Int32) : upd (upd a i x) i (a i) = a := by
  funext j
  by_cases e : j = i
  · rw [e, pk_us]
  · rw [pk_un e, pk_un e]
theorem i_vc_determinantWith {k : Nat} {u : SX} {v : SY} (I : i_Rel k u v) (hk : k + 4 ≤ 2048) (v1 : Int32) (v2 : Int32) (v3 : Int32) : wpX_determinantWith (fun r u' => wpY_determinantWith (fun r' v' => r' = r ∧ i_Rel (k + 4) u' v') v v1 v2 v3) u v1 v2 v3 := by
  obtain ⟨F, a, w, vv, g, s⟩ := u
  obtain ⟨c, kk, t⟩ := v
  obtain ⟨e, hb⟩ := I
  have e2 : a = c := e
  have hb2 : dd_bd c := hb
  subst e2
  have rel : i_Rel (k + 4) (F, a, w, vv, g, s) (a, kk, t) := ⟨rfl, hb2⟩
  have no : ¬ (dd_R4 v1 ∧ dd_R4 v2 ∧ dd_NM v3) → wpY_determinantWith (fun r' v' => r' = -1000000000 ∧ i_Rel (k + 4) (F, a, w, vv, g, s) v') (a, kk, t) v1 v2 v3 := by
    intro n
    unfold wpY_determinantWith
    dsimp only
    refine dd_fits (fun x y z => br_f (by decide) ?_) (fun _ => br_t rfl ⟨rfl, rel⟩)
    refine br_c (fun _ => ⟨rfl, rel⟩) (fun q => ?_)
    exfalso
    apply n
    refine ⟨x, ?_, z⟩
    obtain ⟨j, hj, rfl⟩ := y
    refine ⟨j, ?_, rfl⟩
    rcases Nat.lt_or_ge j 4 with y | y
    · exact y
    · have e4 : j = 4 := by omega
      rw [e4] at q
      exact absurd rfl q
  unfold wpX_determinantWith
  dsimp only
  refine dd_isRow (fun x => br_f (by decide) ?_) (fun x => br_t rfl (no (fun n => x n.1)))
  refine dd_isRow (fun y => br_f (by decide) ?_) (fun y => br_t rfl (no (fun n => y n.2.1)))
  refine dd_num (fun z => br_f (by decide) ?_) (fun z => br_t rfl (no (fun n => z n.2.2)))
  have x' := x
  obtain ⟨i, hi, rfl⟩ := x
  obtain ⟨j, hj, rfl⟩ := y
  have hin := dd_in (i := i) (j := j) hi (by omega)
  have hiy := dd_iny (i := i) (j := j) hi (by omega)
  rw [dd_cl hi (by omega), dd_byte2 z]
  refine And.intro hin (nm_e (And.intro hin (nm_e ?_)))
  rw [dd_byte (hb2 _)]
  have hb3 : dd_bd (upd a (i * 5 + j) v3) := dd_bdu hb2 z
  refine dd_xdet hb3 (fun t1 => ?_)
  refine And.intro hin (nm_e ?_)
  unfold wpY_determinantWith
  dsimp only
  refine dd_fits (fun _ _ _ => br_f (by decide) ?_) (fun n => absurd ⟨x', ⟨j, by omega, rfl⟩, z⟩ n)
  refine br_f (fun q => absurd ((nI_eq (b := 4) (by omega) (by decide)).mp q) (by omega)) ?_
  rw [dd_cly hi (by omega)]
  refine And.intro hiy (nm_e (And.intro hiy (nm_e ?_)))
  refine dd_ydet (fun t2 => ?_)
  refine And.intro hiy (nm_e ?_)
  rw [dd_uu]
  exact ⟨rfl, rfl, hb2⟩
theorem dd_msk : ∀ i, i < 4 → (15 : Int32) &&& (((1 : Int32) <<< (nI i &&& 31)) ^^^ (-1)) = nI (15 - 2 ^ i) ∧ 15 - 2 ^ i < 16 ∧ dd_on (15 - 2 ^ i) = 3 ∧ (dd_bl 4 (15 - 2 ^ i)).length = 3 := by decide +kernel
theorem i_vc_minor {k : Nat} {u : SX} {v : SY} (I : i_Rel k u v) (hk : k + 4 ≤ 2048) (v1 : Int32) (v2 : Int32) : wpX_minor (fun r u' => wpY_minor (fun r' v' => r' = r ∧ i_Rel (k + 4) u' v') v v1 v2) u v1 v2 := by
  obtain ⟨F, a, w, vv, g, s⟩ := u
  obtain ⟨c, kk, t⟩ := v
  obtain ⟨e, hb⟩ := I
  have e2 : a = c := e
  have hb2 : dd_bd c := hb
  subst e2
  have rel : i_Rel (k + 4) (F, a, w, vv, g, s) (a, kk, t) := ⟨rfl, hb2⟩
  have no : ¬ (dd_R4 v1 ∧ dd_R4 v2) → wpY_minor (fun r' v' => r' = -1000000000 ∧ i_Rel (k + 4) (F, a, w, vv, g, s) v') (a, kk, t) v1 v2 := by
    intro n
    unfold wpY_minor
    dsimp only
    refine dd_row (fun x => br_f (by decide) ?_) (fun _ => br_t rfl ⟨rfl, rel⟩)
    exact dd_row (fun y => absurd ⟨x, y⟩ n) (fun _ => br_t rfl ⟨rfl, rel⟩)
  unfold wpX_minor
  dsimp only
  refine dd_isRow (fun x => br_f (by decide) ?_) (fun x => br_t rfl (no (fun n => x n.1)))
  refine dd_isRow (fun y => br_f (by decide) ?_) (fun y => br_t rfl (no (fun n => y n.2)))
  have x' := x
  have y' := y
  obtain ⟨i, hi, rfl⟩ := x
  obtain ⟨j, hj, rfl⟩ := y
  obtain ⟨mi1, mi2, mi3, mi4⟩ := dd_msk i hi
  obtain ⟨mj1, mj2, mj3, mj4⟩ := dd_msk j hj
  have law : ∀ {P : Int} {t0 t1 : Nat → Int32}, dd_wk P t0 (dd_rw a) → (∀ p, p < 3 → ∀ q, q < 3 → t1 (p * 5 + q) = t0 (dd_op i p * 5 + dd_op j q)) → dd_cg P (dd_dt ((dd_dn 3).map (dd_rw t1)) (2 ^ 3 - 1)) (dd_dt ((dd_bl 4 (15 - 2 ^ i)).map (dd_rw a)) (15 - 2 ^ j)) := by
    intro P t0 t1 h0 h1
    have m := dd_mn (dd_rw t0) (dd_rw t1) hi hj (fun p hp q hq => by unfold dd_rw; rw [h1 p hp q hq])
    have m2 : dd_dt ((dd_dn 3).map (dd_rw t1)) (2 ^ 3 - 1) = dd_dt ((dd_bl 4 (15 - 2 ^ i)).map (dd_rw t0)) (15 - 2 ^ j) := m
    rw [m2]
    exact dd_dt_g _ (fun p hp q hq => (h0 p (dd_bl_mem _ 4 p hp).1 q hq).2) _
  have bd := dd_bl4b hb2 (15 - 2 ^ i) (15 - 2 ^ j) (by omega)
  refine dd_load2 dd_P1 dd_T1 (fun t1 h1 => ?_)
  refine dd_leave (P := 32749) hi hj (fun p hp q hq => (h1 p hp q hq).1) (fun t2 g2 l2 => ?_)
  refine dd_det (n := 3) dd_P1 dd_T1 (by decide) g2 (fun r1 t3 k1 c1 => ?_)
  refine dd_load2 dd_P2 dd_T2 (fun t4 h4 => ?_)
  refine dd_leave (P := 32719) hi hj (fun p hp q hq => (h4 p hp q hq).1) (fun t5 g5 l5 => ?_)
  refine dd_det (n := 3) dd_P2 dd_T2 (by decide) g5 (fun r2 t6 k2 c2 => ?_)
  refine dd_join (by omega) k1 (dd_ct c1 (law h1 l2)) k2 (dd_ct c2 (law h4 l5)) ?_
  unfold wpY_minor
  dsimp only
  refine dd_row (fun x => br_f (by decide) ?_) (fun n => absurd x' n)
  refine dd_row (fun y => br_f (by decide) ?_) (fun n => absurd y' n)
  rw [mi1, mj1]
  refine dd_part mi2 (by omega) (by rw [mj3, mi4]) (by rw [mi4]; decide) (fun t' => ?_)
  rw [Int64.toInt32_ofInt]
  exact ⟨rfl, rfl, hb2⟩
/-- the array with the last column put into column j, in the first n rows -/
def dd_rp (a : Nat → Int32) (j : Nat) : Nat → (Nat → Int32)
  | 0 => a
  | n + 1 => upd (dd_rp a j n) (n * 5 + j) (dd_rp a j n (n * 5 + 4))
theorem dd_rp_v {a : Nat → Int32} {j : Nat} (hj : j < 4) : ∀ n p q, q < 5 → dd_rp a j n (p * 5 + q) = if q = j ∧ p < n then a (p * 5 + 4) else a (p * 5 + q) := by
  intro n
  induction n with
  | zero => intro p q _; rw [if_neg (by omega)]; rfl
  | succ n ih =>
    intro p q hq
    show upd _ _ _ _ = _
    by_cases z : p * 5 + q = n * 5 + j
    · have e1 : p = n := by omega
      have e2 : q = j := by omega
      rw [z, pk_us, ih n 4 (by decide), if_neg (by omega), if_pos (by omega), e1]
    · rw [pk_un z, ih p q hq]
      by_cases y : q = j ∧ p < n
      · rw [if_pos y, if_pos (by omega)]
      · rw [if_neg y, if_neg (by omega)]
theorem dd_rp_o {a : Nat → Int32} {j : Nat} (hj : j < 4) : ∀ n x, n ≤ 4 → 20 ≤ x → dd_rp a j n x = a x := by
  intro n
  induction n with
  | zero => intro x _ _; rfl
  | succ n ih =>
    intro x hn hx
    show upd _ _ _ _ = _
    rw [pk_un (by omega)]
    exact ih x (by omega) hx
theorem dd_rp_b {a : Nat → Int32} {j : Nat} (h : dd_bd a) : ∀ n, dd_bd (dd_rp a j n) := by
  intro n
  induction n with
  | zero => exact h
  | succ n ih => exact dd_bdu ih (ih _)
theorem dd_cly4 {i : Nat} (hi : i < 4) : (5 * nI i + 4).toNatClampNeg = i * 5 + 4 := dd_cly (j := 4) hi (by decide)
theorem dd_iny4 {i : Nat} (hi : i < 4) : vp_in (5 * nI i + 4) 20 := dd_iny (j := 4) hi (by decide)
theorem dd_dg4 {P : Int} {D1 D2 : Nat → Nat → Int} (h : ∀ p, p < 4 → ∀ q, q < 5 → D1 p q = D2 p q) (r : Int) (hr : dd_cg P r (dd_dt ((dd_dn 4).map D1) (2 ^ 4 - 1))) : dd_cg P r (dd_dt ((dd_dn 4).map D2) 15) :=
  dd_ct hr (dd_dt_g (dd_dn 4) (fun p hp q hq => dd_cq (h p (dd_dn_m 4 p hp) q hq)) _)
theorem i_vc_replaced {k : Nat} {u : SX} {v : SY} (I : i_Rel k u v) (hk : k + 4 ≤ 2048) (v1 : Int32) : wpX_replaced (fun r u' => wpY_replaced (fun r' v' => r' = r ∧ i_Rel (k + 4) u' v') v v1) u v1 := by
  obtain ⟨F, a, w, vv, g, s⟩ := u
  obtain ⟨c, kk, t⟩ := v
  obtain ⟨e, hb⟩ := I
  have e2 : a = c := e
  have hb2 : dd_bd c := hb
  subst e2
  have rel : i_Rel (k + 4) (F, a, w, vv, g, s) (a, kk, t) := ⟨rfl, hb2⟩
  unfold wpX_replaced
  dsimp only
  refine dd_isRow (fun x => br_f (by decide) ?_) (fun x => br_t rfl ?_)
  · have x' := x
    obtain ⟨j, hj, rfl⟩ := x
    have hb3 : dd_bd (dd_rp a j 4) := dd_rp_b hb2 4
    have law : ∀ p, p < 4 → ∀ q, q < 5 → (if q = j then dd_rw a p 4 else dd_rw a p q) = dd_rw (dd_rp a j 4) p q := by
      intro p hp q hq
      unfold dd_rw
      rw [dd_rp_v hj 4 p q hq]
      by_cases y : q = j
      · rw [if_pos y, if_pos ⟨y, hp⟩]
      · rw [if_neg y, if_neg (fun z => y z.1)]
    refine dd_load2 dd_P1 dd_T1 (fun t1 h1 => ?_)
    refine dd_repl hj h1 (fun t2 h2 => ?_)
    refine dd_det2 (n := 4) dd_P1 dd_T1 (by decide) h2 (fun r1 t3 k1 c1 => ?_)
    refine dd_load2 dd_P2 dd_T2 (fun t4 h4 => ?_)
    refine dd_repl hj h4 (fun t5 h5 => ?_)
    refine dd_det2 (n := 4) dd_P2 dd_T2 (by decide) h5 (fun r2 t6 k2 c2 => ?_)
    refine dd_join (dd_d4b hb3) k1 (dd_dg4 law _ c1) k2 (dd_dg4 law _ c2) ?_
    unfold wpY_replaced
    dsimp only
    refine dd_row (fun _ => br_f (by decide) ?_) (fun n => absurd x' n)
    refine dd_keepY (fun k' hk' => ?_)
    refine loop_0 (fun n i (_ : Unit) => wY_replaced_17 _ (nI j) n (nI i) (dd_rp a j i) k' t) (fun _ _ => True) 4 () trivial ?_ ?_
    · intro n _ _
      refine br_t (by decide) ?_
      refine dd_ydet (fun t' => ?_)
      refine dd_restY (c := a) (fun x hx => dd_rp_o hj 4 x (by decide) hx) hk' ?_
      exact ⟨rfl, rfl, hb2⟩
    · intro n i _ hi _ ih
      show wY_replaced_17 _ (nI j) (n + 1) (nI i) (dd_rp a j i) k' t
      refine br_f (nI_ge (b := 4) hi (by decide)) ?_
      rw [dd_cly4 hi, dd_cly hi (by omega)]
      exact And.intro (dd_iny4 hi) (And.intro (dd_iny hi (by omega)) (nm_e (nm_r (nI_1 i) (ih () trivial))))
  · unfold wpY_replaced
    dsimp only
    exact dd_row (fun y => absurd y x) (fun _ => br_t rfl ⟨rfl, rel⟩)
/-- the array with x added to the first n places of the diagonal -/
def dd_sh (a : Nat → Int32) (x : Int32) : Nat → (Nat → Int32)
  | 0 => a
  | n + 1 => upd (dd_sh a x n) (n * 5 + n) (dd_sh a x n (n * 5 + n) + x)
theorem dd_sh_v {a : Nat → Int32} {x : Int32} : ∀ n, n ≤ 4 → ∀ p q, q < 5 → dd_sh a x n (p * 5 + q) = if p = q ∧ p < n then a (p * 5 + q) + x else a (p * 5 + q) := by
  intro n
  induction n with
  | zero => intro _ p q _; rw [if_neg (by omega)]; rfl
  | succ n ih =>
    intro hn p q hq
    show upd _ _ _ _ = _
    by_cases z : p * 5 + q = n * 5 + n
    · have e1 : p = n := by omega
      have e2 : q = n := by omega
      rw [z, pk_us, ih (by omega) n n (by omega), if_neg (by omega), if_pos (by omega)]
    · rw [pk_un z, ih (by omega) p q hq]
      by_cases y : p = q ∧ p < n
      · rw [if_pos y, if_pos (by omega)]
      · rw [if_neg y, if_neg (by omega)]
theorem dd_sh_o {a : Nat → Int32} {y : Int32} : ∀ n x, n ≤ 4 → 20 ≤ x → dd_sh a y n x = a x := by
  intro n
  induction n with
  | zero => intro x _ _; rfl
  | succ n ih =>
    intro x hn hx
    show upd _ _ _ _ = _
    rw [pk_un (by omega)]
    exact ih x (by omega) hx
theorem dd_EB {c : Nat → Int32} (hc : dd_bd c) : (-200 ≤ dd_Es (dd_rw c) 1 16 ∧ dd_Es (dd_rw c) 1 16 ≤ 200) ∧ (-30000 ≤ dd_Es (dd_rw c) 2 16 ∧ dd_Es (dd_rw c) 2 16 ≤ 30000) ∧ (-3000000 ≤ dd_Es (dd_rw c) 3 16 ∧ dd_Es (dd_rw c) 3 16 ≤ 3000000) ∧ (-150000000 ≤ dd_Es (dd_rw c) 4 16 ∧ dd_Es (dd_rw c) 4 16 ≤ 150000000) := by
  have f1 : dd_fb 50 1 = 50 := by decide
  have f2 : dd_fb 50 2 = 5000 := by decide
  have f3 : dd_fb 50 3 = 750000 := by decide
  have f4 : dd_fb 50 4 = 150000000 := by decide
  have b : ∀ m, m < 16 → ∀ B, dd_fb 50 (dd_bl 4 m).length = B → -B ≤ dd_dt ((dd_bl 4 m).map (dd_rw c)) m ∧ dd_dt ((dd_bl 4 m).map (dd_rw c)) m ≤ B := by
    intro m hm B hB
    rw [← hB]
    exact dd_blb hc (dd_bl 4 m) m (by omega)
  rw [dd_e1, dd_e2, dd_e3, dd_e4]
  refine ⟨?_, ?_, ?_, ?_⟩
  · have a1 := b 1 (by decide) 50 f1
    have a2 := b 2 (by decide) 50 f1
    have a3 := b 4 (by decide) 50 f1
    have a4 := b 8 (by decide) 50 f1
    omega
  · have a1 := b 3 (by decide) 5000 f2
    have a2 := b 5 (by decide) 5000 f2
    have a3 := b 6 (by decide) 5000 f2
    have a4 := b 9 (by decide) 5000 f2
    have a5 := b 10 (by decide) 5000 f2
    have a6 := b 12 (by decide) 5000 f2
    omega
  · have a1 := b 7 (by decide) 750000 f3
    have a2 := b 11 (by decide) 750000 f3
    have a3 := b 13 (by decide) 750000 f3
    have a4 := b 14 (by decide) 750000 f3
    omega
  · exact b 15 (by decide) 150000000 f4
theorem dd_shb {c : Nat → Int32} (hc : dd_bd c) {x : Int} (hx : -50 ≤ x ∧ x ≤ 50) : -535740906 ≤ dd_dt ((dd_dn 4).map (fun i j => dd_rw c i j + if i = j then x else 0)) 15 ∧ dd_dt ((dd_dn 4).map (fun i j => dd_rw c i j + if i = j then x else 0)) 15 ≤ 535740906 := by
  rw [dd_cp]
  obtain ⟨b1, b2, b3, b4⟩ := dd_EB hc
  have p2 := dd_ab (by decide) (by decide) hx hx
  have p3 := dd_ab (by decide) (by decide) p2 hx
  have p4 := dd_ab (by decide) (by decide) p3 hx
  have e2 : x ^ 2 = x * x := by rw [Int.pow_succ, Int.pow_succ, Int.pow_zero, Int.one_mul]
  have e3 : x ^ 3 = x * x * x := by rw [Int.pow_succ, e2]
  have e4 : x ^ 4 = x * x * x * x := by rw [Int.pow_succ, e3]
  rw [e2, e3, e4]
  have q1 := dd_ab (by decide) (by decide) p3 b1
  have q2 := dd_ab (by decide) (by decide) p2 b2
  have q3 := dd_ab (by decide) (by decide) hx b3
  omega
theorem i_vc_shifted {k : Nat} {u : SX} {v : SY} (I : i_Rel k u v) (hk : k + 4 ≤ 2048) (v1 : Int32) : wpX_shifted (fun r u' => wpY_shifted (fun r' v' => r' = r ∧ i_Rel (k + 4) u' v') v v1) u v1 := by
  obtain ⟨F, a, w, vv, g, s⟩ := u
  obtain ⟨c, kk, t⟩ := v
  obtain ⟨e, hb⟩ := I
  have e2 : a = c := e
  have hb2 : dd_bd c := hb
  subst e2
  have rel : i_Rel (k + 4) (F, a, w, vv, g, s) (a, kk, t) := ⟨rfl, hb2⟩
  have n1 : (-50 : Int32).toInt = -50 := by decide
  have n2 : (50 : Int32).toInt = 50 := by decide
  unfold wpX_shifted
  dsimp only
  refine dd_num (fun x => br_f (by decide) ?_) (fun x => br_t rfl ?_)
  · have law : ∀ p, p < 4 → ∀ q, q < 5 → dd_rw (dd_sh a v1 4) p q = dd_rw a p q + if p = q then v1.toInt else 0 := by
      intro p hp q hq
      unfold dd_rw
      rw [dd_sh_v 4 (by decide) p q hq]
      by_cases y : p = q
      · rw [if_pos y, if_pos ⟨y, hp⟩]
        have b := hb2 (p * 5 + q)
        unfold dd_NM at x
        exact Jvm.Kit.i32_add (by omega) (by omega)
      · rw [if_neg y, if_neg (fun z => y z.1), Int.add_zero]
    have eD : dd_dt ((dd_dn 4).map (dd_rw (dd_sh a v1 4))) 15 = dd_dt ((dd_dn 4).map (fun i j => dd_rw a i j + if i = j then v1.toInt else 0)) 15 := by
      have l1 := dd_x4 (dd_rw (dd_sh a v1 4) 0) (dd_rw (dd_sh a v1 4) 1) (dd_rw (dd_sh a v1 4) 2) (dd_rw (dd_sh a v1 4) 3)
      have l2 := dd_x4 (fun j => dd_rw a 0 j + if 0 = j then v1.toInt else 0) (fun j => dd_rw a 1 j + if 1 = j then v1.toInt else 0) (fun j => dd_rw a 2 j + if 2 = j then v1.toInt else 0) (fun j => dd_rw a 3 j + if 3 = j then v1.toInt else 0)
      refine Eq.trans l1 (Eq.trans ?_ l2.symm)
      rw [law 0 (by decide) 0 (by decide), law 0 (by decide) 1 (by decide), law 0 (by decide) 2 (by decide), law 0 (by decide) 3 (by decide), law 1 (by decide) 0 (by decide), law 1 (by decide) 1 (by decide), law 1 (by decide) 2 (by decide), law 1 (by decide) 3 (by decide), law 2 (by decide) 0 (by decide), law 2 (by decide) 1 (by decide), law 2 (by decide) 2 (by decide), law 2 (by decide) 3 (by decide), law 3 (by decide) 0 (by decide), law 3 (by decide) 1 (by decide), law 3 (by decide) 2 (by decide), law 3 (by decide) 3 (by decide)]
    refine dd_load2 dd_P1 dd_T1 (fun t1 h1 => ?_)
    refine dd_shf dd_P1 dd_T1 x h1 (fun t2 h2 => ?_)
    refine dd_det2 (n := 4) dd_P1 dd_T1 (by decide) h2 (fun r1 t3 k1 c1 => ?_)
    refine dd_load2 dd_P2 dd_T2 (fun t4 h4 => ?_)
    refine dd_shf dd_P2 dd_T2 x h4 (fun t5 h5 => ?_)
    refine dd_det2 (n := 4) dd_P2 dd_T2 (by decide) h5 (fun r2 t6 k2 c2 => ?_)
    refine dd_join (dd_shb hb2 x) k1 c1 k2 c2 ?_
    unfold wpY_shifted
    dsimp only
    unfold dd_NM at x
    refine br_f (by rw [Int32.lt_iff_toInt_lt, n1]; omega) (br_t (by rw [Int32.le_iff_toInt_le, n2]; omega) ?_)
    refine dd_keepY (fun k' hk' => ?_)
    refine loop_0 (fun n i (_ : Unit) => wY_shifted_21 _ v1 n (nI i) (dd_sh a v1 i) k' t) (fun _ _ => True) 4 () trivial ?_ ?_
    · intro n _ _
      refine br_t (by decide) ?_
      refine dd_ydet (fun t' => ?_)
      refine dd_restY (c := a) (fun x hx => dd_sh_o 4 x (by decide) hx) hk' ?_
      rw [eD]
      exact ⟨rfl, rfl, hb2⟩
    · intro n i _ hi _ ih
      show wY_shifted_21 _ v1 (n + 1) (nI i) (dd_sh a v1 i) k' t
      have e6 : 6 * nI i = nI (i * 5 + i) := by
        rw [show (6 : Int32) = nI 6 from rfl, pk_mul]
        exact congrArg nI (by omega)
      have hin : vp_in (6 * nI i) 20 := by rw [e6]; exact vp_in_nI (by omega) (by decide)
      have hcl : (6 * nI i).toNatClampNeg = i * 5 + i := by rw [e6]; exact nI_clamp (by omega)
      refine br_f (nI_ge (b := 4) hi (by decide)) ?_
      rw [hcl]
      exact And.intro hin (And.intro hin (nm_e (nm_r (nI_1 i) (ih () trivial))))
  · unfold wpY_shifted
    dsimp only
    unfold dd_NM at x
    refine br_c (fun _ => ⟨rfl, rel⟩) (fun y => br_f ?_ ⟨rfl, rel⟩)
    rw [Int32.lt_iff_toInt_lt, n1] at y
    rw [Int32.le_iff_toInt_le, n2]
    omega
end
section
/-! the characteristic polynomial: nextProduct, nextDifferences, coefficientFor -/
theorem dd_nx58 {F : Int32} {a w v g s : Nat → Int32} {post : SX → Prop} (h : ∀ g' : Nat → Int32, (∀ i, i < 5 → g' i = s i) → post (F, a, w, v, g', s)) : ∃ n, wX_nextProduct_58 post F n 0 a w v g s := by
  refine loop_0 (fun n i (b : Nat → Int32) => wX_nextProduct_58 post F n (nI i) a w v b s) (fun i b => ∀ x, x < i → b x = s x) 5 g (fun x h => by omega) ?_ ?_
  · intro n b hb
    exact br_t (by decide) (h b hb)
  · intro n i b hi hb ih
    show wX_nextProduct_58 post F (n + 1) (nI i) a w v b s
    have hin : vp_in (nI i) 5 := vp_in_nI hi (by decide)
    have hc : (nI i).toNatClampNeg = i := nI_clamp (by omega)
    refine br_f (nI_nlt (a := 4) (by omega) (by decide)) ?_
    rw [hc]
    refine And.intro hin (And.intro hin (nm_e (nm_r (nI_1 i) (ih _ ?_))))
    intro x hx
    by_cases e : x = i
    · rw [e, pk_us]
    · rw [pk_un e]; exact hb x (by omega)
/-- the coefficient before -/
def dd_pv (g : Nat → Int32) (i : Nat) : Int := if i = 0 then 0 else (g (i - 1)).toInt
theorem dd_nx22 {P : Int} (hP : dd_pr P) {F : Int32} (hF : F.toInt = P) {a w v g s : Nat → Int32} {d i : Nat} {z : Int32} {post : SX → Prop} {J : Int32 → (Nat → Int32) → (Nat → Int32) → (Nat → Int32) → (Nat → Int32) → (Nat → Int32) → Prop} (hd : d < 5) (hi : i < 5) (hg : ∀ i, i < 5 → dd_rg P (g i)) (hz : 0 ≤ z.toInt ∧ z.toInt < 32768) (hJ : ∀ r : Int32, r.toInt = (z.toInt - d * (g i).toInt) % P → J (nI i + (-1)) a w v g (upd s i r)) : wX_nextProduct_22 post J (nI d) (nI i) z F a w v g s := by
  have hin : vp_in (nI i) 5 := vp_in_nI hi (by decide)
  have hc : (nI i).toNatClampNeg = i := nI_clamp (by omega)
  have td : (nI d).toInt = d := nI_toInt (by omega)
  unfold wX_nextProduct_22
  rw [hc]
  refine And.intro hin (dd_tim hP hF (by rw [td]; omega) (dd_r8 hP (hg i hi)) (fun y hy => dd_red hP hF (fun r hr => And.intro hin (nm_e (nm_e (hJ r ?_))))))
  have ry := dd_r8 hP (dd_rr hP hy)
  rw [hr, Jvm.Kit.i32_sub (by omega) (by omega), hy, td]
  exact dd_cb (dd_cr P _) (dd_ce P _)
theorem dd_nxp {P : Int} (hP : dd_pr P) {F : Int32} (hF : F.toInt = P) {a w v g s : Nat → Int32} {d : Nat} {post : SX → Prop} (hd : d < 5) (hg : ∀ i, i < 5 → dd_rg P (g i)) (h : ∀ g' s' : Nat → Int32, (∀ i, i < 5 → (g' i).toInt = (dd_pv g i - d * (g i).toInt) % P) → post (F, a, w, v, g', s')) : wpX_nextProduct post (F, a, w, v, g, s) (nI d) := by
  have main : wX_nextProduct_2 post (nI d) F (5 + 1) (nI 5 + (-1)) a w v g s := by
    refine pk_loopD (fun n m (b : Nat → Int32) => wX_nextProduct_2 post (nI d) F n (nI m + (-1)) a w v g b) (fun m b => m ≤ 5 ∧ ∀ i, m ≤ i → i < 5 → (b i).toInt = (dd_pv g i - d * (g i).toInt) % P) ?_ ?_ 5 s ⟨Nat.le_refl _, fun i _ _ => by omega⟩
    · rintro n b ⟨_, hb⟩
      refine br_t (by decide) ?_
      exact dd_nx58 (fun g' hg' => h g' b (fun i hi => by rw [hg' i hi]; exact hb i (Nat.zero_le _) hi))
    · rintro n i b ⟨hi5, hb⟩ ih
      show wX_nextProduct_2 post (nI d) F (n + 1) (nI (i + 1) + (-1)) a w v g b
      rw [pk_m1]
      have hi : i < 5 := by omega
      · have step : ∀ z : Int32, z.toInt = dd_pv g i → (0 ≤ z.toInt ∧ z.toInt < 32768) → wX_nextProduct_22 post (wX_nextProduct_2 post (nI d) F n) (nI d) (nI i) z F a w v g b := by
          intro z hz hz2
          refine dd_nx22 hP hF hd hi hg hz2 (fun r hr => ih _ ⟨by omega, ?_⟩)
          intro x hx1 hx2
          by_cases e : x = i
          · rw [e, pk_us, hr, hz]
          · rw [pk_un e]; exact hb x (by omega) hx2
        refine br_f (nI_pos (by omega)) ?_
        by_cases e : i = 0
        · subst e
          refine br_t (by decide) (step 0 ?_ (by decide))
          show (0 : Int32).toInt = 0
          decide
        · have e2 : nI i - 1 = nI (i - 1) := pk_sub (b := 1) (by omega)
          have hc : (nI (i - 1)).toNatClampNeg = i - 1 := nI_clamp (by omega)
          refine br_f (nI_nle (by omega) (by omega)) ?_
          rw [e2, hc]
          refine And.intro (vp_in_nI (by omega) (by decide)) (step _ ?_ (dd_r8 hP (hg _ (by omega))))
          show _ = if i = 0 then 0 else (g (i - 1)).toInt
          rw [if_neg e]
  exact ⟨5 + 1, main⟩
theorem dd_nxd {P : Int} (hP : dd_pr P) {F : Int32} (hF : F.toInt = P) {a w v g s : Nat → Int32} {d : Nat} {post : SX → Prop} (hd : d < 5) (hv : ∀ y, y + d ≤ 4 → dd_rg P (v y)) (h : ∀ v' : Nat → Int32, (∀ y, y + d < 4 → (v' y).toInt = ((v (y + 1)).toInt - (v y).toInt) % P) → post (F, a, w, v', g, s)) : wpX_nextDifferences post (F, a, w, v, g, s) (nI d) := by
  refine loop_0 (fun n i (b : Nat → Int32) => wX_nextDifferences_2 post (nI d) F n (nI i) a w b g s) (fun i b => (∀ y, y < i → (b y).toInt = ((v (y + 1)).toInt - (v y).toInt) % P) ∧ ∀ y, i ≤ y → b y = v y) (4 - d) v ⟨fun x h => by omega, fun _ _ => rfl⟩ ?_ ?_
  · rintro n b ⟨b1, _⟩
    show wX_nextDifferences_2 post (nI d) F (n + 1) (nI (4 - d)) a w b g s
    have e : nI (4 - d) + nI d = nI 4 := by rw [nI_add]; exact congrArg nI (by omega)
    exact br_t (by rw [e]; decide) (h b (fun y hy => b1 y (by omega)))
  · rintro n i b hi ⟨b1, b2⟩ ih
    show wX_nextDifferences_2 post (nI d) F (n + 1) (nI i) a w b g s
    have hin : vp_in (nI i) 5 := vp_in_nI (by omega) (by decide)
    have hin2 : vp_in (nI i + 1) 5 := by rw [nI_1]; exact vp_in_nI (by omega) (by decide)
    have hc : (nI i).toNatClampNeg = i := nI_clamp (by omega)
    have hc2 : (nI i + 1).toNatClampNeg = i + 1 := by rw [nI_1]; exact nI_clamp (by omega)
    refine br_f (by rw [nI_add]; exact nI_ge (b := 4) (by omega) (by decide)) ?_
    rw [hc, hc2]
    refine And.intro hin2 (And.intro hin (dd_red hP hF (fun r hr => And.intro hin (nm_e (nm_r (nI_1 i) (ih _ ⟨?_, ?_⟩))))))
    · rw [b2 (i + 1) (by omega), b2 i (Nat.le_refl _)] at hr
      have r1 := dd_r8 hP (hv (i + 1) (by omega))
      have r2 := dd_r8 hP (hv i (by omega))
      rw [Jvm.Kit.i32_sub (by omega) (by omega)] at hr
      intro y hy
      by_cases e : y = i
      · rw [e, pk_us]; exact hr
      · rw [pk_un e]; exact b1 y (by omega)
    · intro y hy
      rw [pk_un (by omega)]; exact b2 y (by omega)
/-- differences, falling products, factorials, the sum so far -/
def dd_df (f : Nat → Int) : Nat → Nat → Int
  | 0, y => f y
  | d + 1, y => dd_df f d (y + 1) - dd_df f d y
def dd_pd : Nat → Nat → Int
  | 0, i => if i = 0 then 1 else 0
  | d + 1, i => (if i = 0 then 0 else dd_pd d (i - 1)) - d * dd_pd d i
def dd_fc : Nat → Nat
  | 0 => 1
  | d + 1 => dd_fc d * (d + 1)
def dd_rs (q : Nat → Int) (k : Nat) : Nat → Int
  | 0 => 0
  | d + 1 => dd_rs q k d + q d * dd_pd d k
theorem dd_fcb : ∀ d, d < 6 → 0 < dd_fc d ∧ dd_fc d < 32719 := by decide +kernel
def dd_CI (P : Int) (f q : Nat → Int) (k d : Nat) (be re : Int32) (v g : Nat → Int32) : Prop :=
  be.toInt = dd_fc d ∧ (dd_rg P re ∧ dd_cg P re.toInt (dd_rs q k d)) ∧ (∀ y, y + d ≤ 4 → dd_rg P (v y) ∧ dd_cg P (v y).toInt (dd_df f d y)) ∧ (∀ i, i < 5 → dd_rg P (g i) ∧ dd_cg P (g i).toInt (dd_pd d i))
theorem dd_c104 {P : Int} (hP : dd_pr P) {F : Int32} (hF : F.toInt = P) {a w v g s : Nat → Int32} {f q : Nat → Int} {k : Nat} {post : Int32 → SX → Prop} (hk : k < 5) (hq : ∀ d, d < 5 → dd_df f d 0 = dd_fc d * q d) (h0 : dd_CI P f q k 0 1 0 v g) (h : ∀ (r : Int32) (v' g' s' : Nat → Int32), dd_rg P r → dd_cg P r.toInt (dd_rs q k 5) → post r (F, a, w, v', g', s')) : ∃ n, wX_coefficientFor_104 post (nI k) n 1 0 0 F a w v g s := by
  refine loop_0 (fun n d (t : Int32 × Int32 × (Nat → Int32) × (Nat → Int32) × (Nat → Int32)) => wX_coefficientFor_104 post (nI k) n t.1 t.2.1 (nI d) F a w t.2.2.1 t.2.2.2.1 t.2.2.2.2) (fun d t => dd_CI P f q k d t.1 t.2.1 t.2.2.1 t.2.2.2.1) 5 (1, 0, v, g, s) h0 ?_ ?_
  · rintro n ⟨be, re, v', g', s'⟩ ⟨_, ⟨r1, r2⟩, _⟩
    show wX_coefficientFor_104 post (nI k) (n + 1) be re (nI 5) F a w v' g' s'
    exact br_t (by decide) (h re v' g' s' r1 r2)
  · rintro n d ⟨be, re, v', g', s'⟩ hd ⟨h1, ⟨h2, h3⟩, h4, h5⟩ ih
    have h1' : be.toInt = dd_fc d := h1
    have h2' : dd_rg P re := h2
    have h3' : dd_cg P re.toInt (dd_rs q k d) := h3
    have h4' : ∀ y, y + d ≤ 4 → dd_rg P (v' y) ∧ dd_cg P (v' y).toInt (dd_df f d y) := h4
    have h5' : ∀ i, i < 5 → dd_rg P (g' i) ∧ dd_cg P (g' i).toInt (dd_pd d i) := h5
    clear h1 h2 h3 h4 h5
    show wX_coefficientFor_104 post (nI k) (n + 1) be re (nI d) F a w v' g' s'
    have fb := dd_fcb d (by omega)
    have fb2 := dd_fcb (d + 1) (by omega)
    have hPb : 32719 ≤ P := by rcases hP with rfl | rfl <;> decide
    have hbe : dd_rg P be := by unfold dd_rg; omega
    have hin : vp_in (nI k) 5 := vp_in_nI hk (by decide)
    have hc : (nI k).toNatClampNeg = k := nI_clamp (by omega)
    have g1 := h4' 0 (by omega)
    have g2 := h5' k hk
    refine br_f (nI_nlt (a := 4) (by omega) (by decide)) ?_
    refine dd_inv hP hF hbe (by omega) (fun un hun hun1 => ?_)
    refine dd_tim hP hF (dd_r8 hP g1.1) (dd_r8 hP hun) (fun fa hfa => And.intro hin ?_)
    rw [hc]
    refine dd_tim hP hF (dd_r8 hP (dd_rr hP hfa)) (dd_r8 hP g2.1) (fun pa hpa => ?_)
    refine dd_red hP hF (fun re2 hre2 => ?_)
    have rre := dd_r8 hP h2'
    have rpa := dd_r8 hP (dd_rr hP hpa)
    rw [Jvm.Kit.i32_add (by omega) (by omega)] at hre2
    have cfa : dd_cg P fa.toInt (q d) := by
      have k1 : dd_cg P fa.toInt (dd_df f d 0 * un.toInt) := dd_ct (dd_rc hfa) (dd_cm g1.2 (dd_cr P _))
      have k2 : dd_cg P (be.toInt * un.toInt) 1 := by
        unfold dd_cg
        rw [hun1]
        rcases hP with rfl | rfl <;> decide
      have k3 := dd_cm (dd_cr P (q d)) k2
      rw [Int.mul_one, h1'] at k3
      rw [hq d hd] at k1
      have e : (dd_fc d : Int) * q d * un.toInt = q d * ((dd_fc d : Int) * un.toInt) := by
        rw [Int.mul_comm (dd_fc d : Int), Int.mul_assoc]
      rw [e] at k1
      exact dd_ct k1 k3
    have cre : dd_cg P re2.toInt (dd_rs q k (d + 1)) := dd_ct (dd_rc hre2) (dd_ca h3' (dd_ct (dd_rc hpa) (dd_cm cfa g2.2)))
    refine dd_nxp hP hF hd (fun i hi => (h5' i hi).1) (fun g2 s2 hg2 => ?_)
    refine dd_nxd hP hF hd (fun y hy => (h4' y hy).1) (fun v2 hv2 => ?_)
    have td : (nI d + 1).toInt = d + 1 := by rw [nI_1, nI_toInt (by omega)]; rfl
    refine dd_tim hP hF (dd_r8 hP hbe) (by rw [td]; omega) (fun be2 hbe2 => nm_r (nI_1 d) (ih (be2, re2, v2, g2, s2) ⟨?_, ⟨dd_rr hP hre2, cre⟩, ?_, ?_⟩))
    · show be2.toInt = dd_fc (d + 1)
      rw [hbe2, h1', td]
      have e : (dd_fc d : Int) * ((d : Int) + 1) = ((dd_fc (d + 1) : Nat) : Int) := by
        show _ = ((dd_fc d * (d + 1) : Nat) : Int)
        rw [Int.natCast_mul]; rfl
      rw [e]
      exact Int.emod_eq_of_lt (by omega) (by omega)
    · intro y hy
      have k := hv2 y (by omega)
      exact ⟨dd_rr hP k, dd_ct (dd_rc k) (dd_cb (h4' (y + 1) (by omega)).2 (h4' y (by omega)).2)⟩
    · intro i hi
      have k := hg2 i hi
      refine ⟨dd_rr hP k, dd_ct (dd_rc k) (dd_cb ?_ (dd_cm (dd_cr P _) (h5' i hi).2))⟩
      unfold dd_pv
      by_cases e : i = 0
      · rw [if_pos e, if_pos e]; exact dd_cr P 0
      · rw [if_neg e, if_neg e]; exact (h5' (i - 1) (by omega)).2
theorem dd_c78 {P : Int} (hP : dd_pr P) {F : Int32} (hF : F.toInt = P) {a w v g s : Nat → Int32} {f q : Nat → Int} {k : Nat} {post : Int32 → SX → Prop} (hk : k < 5) (hq : ∀ d, d < 5 → dd_df f d 0 = dd_fc d * q d) (hv : ∀ y, y < 5 → dd_rg P (v y) ∧ dd_cg P (v y).toInt (f y)) (h : ∀ (r : Int32) (v' g' s' : Nat → Int32), dd_rg P r → dd_cg P r.toInt (dd_rs q k 5) → post r (F, a, w, v', g', s')) : ∃ n, wX_coefficientFor_78 post (nI k) F n 1 a w v (upd g 0 1) s := by
  have z0 : (0 : Int32).toInt = 0 := by decide
  have z1 : (1 : Int32).toInt = 1 := by decide
  have hp := dd_pp hP
  have hPb : 32719 ≤ P := by rcases hP with rfl | rfl <;> decide
  refine pk_loop (fun n i (b : Nat → Int32) => wX_coefficientFor_78 post (nI k) F n (nI i) a w v b s) (fun i b => 1 ≤ i ∧ b 0 = 1 ∧ ∀ x, 1 ≤ x → x < i → b x = 0) 5 1 (upd g 0 1) (by decide) ⟨Nat.le_refl _, pk_us, fun x _ _ => by omega⟩ ?_ ?_
  · rintro n b ⟨_, b0, b1⟩
    show wX_coefficientFor_78 post (nI k) F (n + 1) (nI 5) a w v b s
    refine br_t (by decide) ?_
    refine dd_c104 hP hF hk hq ⟨z1, ⟨?_, ?_⟩, ?_, ?_⟩ h
    · unfold dd_rg; rw [z0]; omega
    · rw [z0]; exact dd_cr P 0
    · intro y hy
      exact hv y (by omega)
    · intro i hi
      by_cases e : i = 0
      · rw [e, b0]
        refine ⟨by unfold dd_rg; rw [z1]; omega, dd_cq z1⟩
      · rw [b1 i (by omega) hi]
        refine ⟨by unfold dd_rg; rw [z0]; omega, dd_cq ?_⟩
        show (0 : Int32).toInt = if i = 0 then 1 else 0
        rw [if_neg e, z0]
  · rintro n i b hi ⟨hi1, b0, b1⟩ ih
    show wX_coefficientFor_78 post (nI k) F (n + 1) (nI i) a w v b s
    have hin : vp_in (nI i) 5 := vp_in_nI hi (by decide)
    have hc : (nI i).toNatClampNeg = i := nI_clamp (by omega)
    refine br_f (nI_nlt (a := 4) (by omega) (by decide)) ?_
    rw [hc]
    refine And.intro hin (nm_e (nm_r (nI_1 i) (ih _ ⟨by omega, ?_, ?_⟩)))
    · rw [pk_un (by omega)]; exact b0
    · intro x hx1 hx2
      by_cases e : x = i
      · rw [e, pk_us]
      · rw [pk_un e]; exact b1 x hx1 (by omega)
/-- the value of the characteristic polynomial -/
def dd_cf (a : Nat → Int32) (y : Nat) : Int := (y : Int) ^ 4 + (y : Int) ^ 3 * (- dd_Es (dd_rw a) 1 16) + (y : Int) ^ 2 * dd_Es (dd_rw a) 2 16 + (y : Int) * (- dd_Es (dd_rw a) 3 16) + dd_Es (dd_rw a) 4 16
theorem dd_c15 {P : Int} (hP : dd_pr P) {F x1 x2 : Int32} (hF : F.toInt = P) {a w v g s : Nat → Int32} {y : Nat} {post : Int32 → SX → Prop} {J : Int32 → Int32 → (Nat → Int32) → (Nat → Int32) → (Nat → Int32) → (Nat → Int32) → (Nat → Int32) → Prop} (hy : y < 5) (hw : dd_wk P w (dd_rw a)) (hJ : ∀ (r : Int32) (t : Nat → Int32), dd_rg P r → dd_cg P r.toInt (dd_cf a y) → J (nI (y + 1)) F a t (upd v y r) g s) : ∃ n, wX_coefficientFor_15 post J x1 x2 (nI y) F n 0 a w v g s := by
  refine loop_0 (fun n i (t : Nat → Int32) => wX_coefficientFor_15 post J x1 x2 (nI y) F n (nI i) a t v g s) (fun i t => ∀ p, p < 4 → ∀ q, q < 5 → (p * 5 + q < i → dd_rg P (t (p * 5 + q)) ∧ dd_cg P (t (p * 5 + q)).toInt (- dd_rw a p q)) ∧ (i ≤ p * 5 + q → t (p * 5 + q) = w (p * 5 + q))) 20 w (fun p _ q _ => ⟨fun h => by omega, fun _ => rfl⟩) ?_ ?_
  · intro n t ht
    show wX_coefficientFor_15 post J x1 x2 (nI y) F (n + 1) (nI 20) a t v g s
    have hin : vp_in (nI y) 5 := vp_in_nI hy (by decide)
    have hc : (nI y).toNatClampNeg = y := nI_clamp (by omega)
    have ty : (nI y).toInt = y := nI_toInt (by omega)
    have hw2 : dd_wk P t (fun p q => - dd_rw a p q) := fun p hp q hq => (ht p hp q hq).1 (by omega)
    refine br_t (by decide) ?_
    refine dd_shf hP hF (by rw [ty]; omega) hw2 (fun t2 h2 => ?_)
    refine dd_det2 (n := 4) hP hF (by decide) h2 (fun r t3 r1 r2 => ?_)
    refine And.intro hin (nm_r (e' := upd v y r) (by rw [hc]) (nm_r (nI_1 y) (hJ r t3 r1 (dd_ct r2 (dd_cq ?_)))))
    have k := dd_cp (fun p q => - dd_rw a p q) (nI y).toInt
    refine Eq.trans k ?_
    obtain ⟨c1, c2, c3, c4⟩ := dd_cn1 (dd_rw a)
    rw [c1, c2, c3, c4, ty]
    rfl
  · intro n i t hi ht ih
    show wX_coefficientFor_15 post J x1 x2 (nI y) F (n + 1) (nI i) a t v g s
    have hin : vp_in (nI i) 20 := vp_in_nI hi (by decide)
    have hc : (nI i).toNatClampNeg = i := nI_clamp (by omega)
    have ei : i = i / 5 * 5 + i % 5 := by omega
    have wi : t i = w i := by
      have k := (ht (i / 5) (by omega) (i % 5) (by omega)).2 (by omega)
      rw [← ei] at k
      exact k
    have rg := hw (i / 5) (by omega) (i % 5) (by omega)
    rw [← ei] at rg
    have r8 := dd_r8 hP rg.1
    refine br_f (nI_ge (b := 20) hi (by decide)) ?_
    rw [hc]
    refine And.intro hin (dd_red hP hF (fun r hr => And.intro hin (nm_e (nm_r (nI_1 i) (ih _ ?_)))))
    rw [wi, Int32.toInt_neg, Int.bmod_eq_of_le (by omega) (by omega)] at hr
    intro p hp q hq
    constructor
    · intro hlt
      by_cases e : p * 5 + q = i
      · rw [e, pk_us]
        refine ⟨dd_rr hP hr, dd_ct (dd_rc hr) (dd_cn ?_)⟩
        have e1 : i / 5 = p := by omega
        have e2 : i % 5 = q := by omega
        rw [e1, e2] at rg
        exact rg.2
      · rw [pk_un e]; exact (ht p hp q hq).1 (by omega)
    · intro hle
      rw [pk_un (by omega)]; exact (ht p hp q hq).2 (by omega)
/-- the coefficient of the characteristic polynomial -/
def dd_ck (a : Nat → Int32) (k : Nat) : Int := if k = 4 then 1 else if k % 2 = 0 then dd_Es (dd_rw a) (4 - k) 16 else - dd_Es (dd_rw a) (4 - k) 16
def dd_qq (a : Nat → Int32) (d : Nat) : Int := if d = 0 then dd_Es (dd_rw a) 4 16 else if d = 1 then 1 - dd_Es (dd_rw a) 1 16 + dd_Es (dd_rw a) 2 16 - dd_Es (dd_rw a) 3 16 else if d = 2 then 7 - 3 * dd_Es (dd_rw a) 1 16 + dd_Es (dd_rw a) 2 16 else if d = 3 then 6 - dd_Es (dd_rw a) 1 16 else 1
theorem dd_qqd (a : Nat → Int32) : ∀ d, d < 5 → dd_df (dd_cf a) d 0 = dd_fc d * dd_qq a d := by
  intro d hd
  have e : d = 0 ∨ d = 1 ∨ d = 2 ∨ d = 3 ∨ d = 4 := by omega
  rcases e with rfl | rfl | rfl | rfl | rfl <;> simp [dd_df, dd_cf, dd_fc, dd_qq] <;> omega
theorem dd_rs5 (a : Nat → Int32) : ∀ k, k < 5 → dd_rs (dd_qq a) k 5 = dd_ck a k := by
  intro k hk
  have e : k = 0 ∨ k = 1 ∨ k = 2 ∨ k = 3 ∨ k = 4 := by omega
  rcases e with rfl | rfl | rfl | rfl | rfl <;> simp [dd_rs, dd_pd, dd_qq, dd_ck] <;> omega
theorem dd_cof {P : Int} (hP : dd_pr P) {F F0 : Int32} (hF : F.toInt = P) {a w v g s : Nat → Int32} {k : Nat} {post : Int32 → SX → Prop} (hk : k < 5) (h : ∀ (r : Int32) (w' v' g' s' : Nat → Int32), dd_rg P r → dd_cg P r.toInt (dd_ck a k) → post r (F, a, w', v', g', s')) : wpX_coefficientFor post (F0, a, w, v, g, s) F (nI k) := by
  refine loop_0 (fun n y (t : Int32 × (Nat → Int32) × (Nat → Int32)) => wX_coefficientFor_2 post F (nI k) n (nI y) t.1 a t.2.1 t.2.2 g s) (fun y t => (0 < y → t.1 = F) ∧ ∀ x, x < y → dd_rg P (t.2.2 x) ∧ dd_cg P (t.2.2 x).toInt (dd_cf a x)) 5 (F0, w, v) ⟨fun h => absurd h (by decide), fun x h => absurd h (Nat.not_lt_zero _)⟩ ?_ ?_
  · rintro n ⟨F', w', v'⟩ ⟨h1, h2⟩
    have h1' : F' = F := h1 (by decide)
    have h2' : ∀ x, x < 5 → dd_rg P (v' x) ∧ dd_cg P (v' x).toInt (dd_cf a x) := h2
    subst h1'
    show wX_coefficientFor_2 post F' (nI k) (n + 1) (nI 5) F' a w' v' g s
    refine br_t (by decide) (nm_e ?_)
    refine dd_c78 hP hF hk (dd_qqd a) h2' (fun r v2 g2 s2 r1 r2 => h r w' v2 g2 s2 r1 ?_)
    rw [dd_rs5 a k hk] at r2
    exact r2
  · rintro n y ⟨F', w', v'⟩ hy ⟨h1, h2⟩ ih
    have h2' : ∀ x, x < y → dd_rg P (v' x) ∧ dd_cg P (v' x).toInt (dd_cf a x) := h2
    show wX_coefficientFor_2 post F (nI k) (n + 1) (nI y) F' a w' v' g s
    refine br_f (nI_nlt (a := 4) (by omega) (by decide)) ?_
    refine dd_load2 hP hF (fun t ht => ?_)
    refine dd_c15 hP hF hy ht (fun r t2 r1 r2 => ih (F, t2, upd v' y r) ⟨fun _ => rfl, ?_⟩)
    intro x hx
    show dd_rg P (upd v' y r x) ∧ dd_cg P (upd v' y r x).toInt (dd_cf a x)
    by_cases e : x = y
    · rw [e, pk_us]; exact ⟨r1, r2⟩
    · rw [pk_un e]; exact h2' x (by omega)
end
section
/-! coefficient, principal -/
theorem dd_ckb {a : Nat → Int32} (ha : dd_bd a) : ∀ k, k < 5 → -535740906 ≤ dd_ck a k ∧ dd_ck a k ≤ 535740906 := by
  intro k hk
  obtain ⟨b1, b2, b3, b4⟩ := dd_EB ha
  have e : k = 0 ∨ k = 1 ∨ k = 2 ∨ k = 3 ∨ k = 4 := by omega
  rcases e with rfl | rfl | rfl | rfl | rfl <;> simp [dd_ck] <;> omega
theorem dd_xcof {F : Int32} {a w v g s : Nat → Int32} {k : Nat} {post : Int32 → SX → Prop} (ha : dd_bd a) (hk : k < 5) (h : ∀ w' v' g' s' : Nat → Int32, post (Int32.ofInt (dd_ck a k)) (32719, a, w', v', g', s')) : wpX_coefficient post (F, a, w, v, g, s) (nI k) := by
  refine br_f (nI_pos (by omega)) (br_t (nI_le (b := 4) (by omega) (by decide)) ?_)
  refine dd_cof dd_P1 dd_T1 hk (fun r1 w1 v1 g1 s1 k1 c1 => ?_)
  refine dd_cof dd_P2 dd_T2 hk (fun r2 w2 v2 g2 s2 k2 c2 => ?_)
  exact dd_join (dd_ckb ha k hk) k1 c1 k2 c2 (h w2 v2 g2 s2)
theorem dd_y28 {a kk : Nat → Int32} {t : Nat → Int64} {k : Nat} {z : Int} {post : Int32 → SY → Prop} (hk : k < 5) (h : post (Int32.ofInt (if k % 2 = 0 then z else -z)) (a, kk, t)) : wY_coefficient_28 post (nI k) (Int32.ofInt z) a kk t := by
  have e : nI k - nI k / 2 * 2 = nI (k % 2) := pk_rem (d := 2) (by omega) (by decide) (by decide)
  unfold wY_coefficient_28
  rw [e]
  refine And.intro (by decide) ?_
  by_cases q : k % 2 = 0
  · rw [if_pos q] at h
    exact br_t (by rw [q]; rfl) h
  · rw [if_neg q, Int32.ofInt_neg] at h
    exact br_f (nI_ne0 (by omega) (by omega)) h
theorem dd_k4 {v1 : Int32} (h0 : ¬ v1 < 0) (h4 : v1 ≤ 4) : ∃ k, k < 5 ∧ v1 = nI k := by
  obtain ⟨k, hk, e⟩ := nI_of2 (n := 4) (by decide) h0 h4
  exact ⟨k, by omega, e⟩
theorem i_vc_coefficient {k : Nat} {u : SX} {v : SY} (I : i_Rel k u v) (hk : k + 4 ≤ 2048) (v1 : Int32) : wpX_coefficient (fun r u' => wpY_coefficient (fun r' v' => r' = r ∧ i_Rel (k + 4) u' v') v v1) u v1 := by
  obtain ⟨F, a, w, vv, g, s⟩ := u
  obtain ⟨c, kk, t⟩ := v
  obtain ⟨e, hb⟩ := I
  have e2 : a = c := e
  have hb2 : dd_bd c := hb
  subst e2
  have rel : i_Rel (k + 4) (F, a, w, vv, g, s) (a, kk, t) := ⟨rfl, hb2⟩
  by_cases q0 : v1 < 0
  · exact br_t q0 (br_t q0 ⟨rfl, rel⟩)
  · by_cases q4 : v1 ≤ 4
    · have q0' := q0
      have q4' := q4
      obtain ⟨j, hj, rfl⟩ := dd_k4 q0 q4
      refine dd_xcof hb2 hj (fun w' v' g' s' => ?_)
      refine br_f q0' (br_t q4' ?_)
      by_cases e4 : j = 4
      · refine br_t (by rw [e4]; rfl) ?_
        refine dd_y28 (z := 1) hj ?_
        subst e4
        exact ⟨rfl, rfl, hb2⟩
      · refine br_f (fun y => e4 ((nI_eq (b := 4) (by omega) (by decide)).mp y)) ?_
        have e5 : 4 - nI j = nI (4 - j) := pk_sub (a := 4) (by omega)
        rw [e5]
        refine dd_yprin (by omega) (by omega) (fun t' => ?_)
        refine dd_y28 hj ?_
        refine ⟨?_, rfl, hb2⟩
        unfold dd_ck
        rw [if_neg e4]
    · exact br_f q0 (br_f q4 (br_f q0 (br_f q4 ⟨rfl, rel⟩)))
theorem i_vc_principal {k : Nat} {u : SX} {v : SY} (I : i_Rel k u v) (hk : k + 4 ≤ 2048) (v1 : Int32) : wpX_principal (fun r u' => wpY_principal (fun r' v' => r' = r ∧ i_Rel (k + 4) u' v') v v1) u v1 := by
  obtain ⟨F, a, w, vv, g, s⟩ := u
  obtain ⟨c, kk, t⟩ := v
  obtain ⟨e, hb⟩ := I
  have e2 : a = c := e
  have hb2 : dd_bd c := hb
  subst e2
  have rel : i_Rel (k + 4) (F, a, w, vv, g, s) (a, kk, t) := ⟨rfl, hb2⟩
  by_cases q0 : v1 < 1
  · exact br_t q0 (br_t q0 ⟨rfl, rel⟩)
  · by_cases q4 : v1 ≤ 4
    · have q00 : ¬ v1 < 0 := by
        intro y
        apply q0
        rw [Int32.lt_iff_toInt_lt] at y ⊢
        have z0 : (0 : Int32).toInt = 0 := by decide
        have z1 : (1 : Int32).toInt = 1 := by decide
        omega
      obtain ⟨j, hj, rfl⟩ := dd_k4 q00 q4
      have hj1 : 1 ≤ j := by
        rcases Nat.lt_or_ge j 1 with y | y
        · exact absurd (nI_lt (b := 1) y (by decide)) q0
        · exact y
      refine br_f q0 (br_t q4 ?_)
      have e5 : 4 - nI j = nI (4 - j) := pk_sub (a := 4) (by omega)
      have e6 : nI j &&& 1 = nI (j % 2) := pk_andN (by omega) 1 (by decide)
      rw [e5]
      refine dd_xcof hb2 (by omega) (fun w' v' g' s' => ?_)
      have e7 : 4 - (4 - j) = j := by omega
      have e8 : (4 - j) % 2 = j % 2 := by omega
      have e9 : ¬ 4 - j = 4 := by omega
      by_cases q : j % 2 = 0
      · refine br_t (by rw [e6, q]; rfl) ?_
        refine dd_yprin hj1 (by omega) (fun t' => ⟨?_, rfl, hb2⟩)
        unfold dd_ck
        rw [if_neg e9, e8, e7, if_pos q]
      · refine br_f (by rw [e6]; exact nI_ne0 (by omega) (by omega)) ?_
        refine dd_yprin hj1 (by omega) (fun t' => ⟨?_, rfl, hb2⟩)
        unfold dd_ck
        rw [if_neg e9, e8, e7, if_neg q, Int32.ofInt_neg, Int32.neg_neg]
    · exact br_f q0 (br_f q4 (br_f q0 (br_f q4 ⟨rfl, rel⟩)))
end
