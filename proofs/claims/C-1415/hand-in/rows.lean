section
/-! pure rows to paste: stores, nI and lN arithmetic, masks, shifts, narrowing, branches by naturals (pk_le, pk_lt, pk_eq), loops (lp1 .. lp16: the measure of the state; rp1 ..: recursion), negatives. Take what you need -/
theorem pk_us {f : Nat → Int32} {k : Nat} {x : Int32} : upd f k x k = x := if_pos rfl
theorem pk_un {f : Nat → Int32} {k j : Nat} {x : Int32} (h : j ≠ k) : upd f k x j = f j := if_neg h
theorem pk_uLs {f : Nat → Int64} {k : Nat} {x : Int64} : vp_updL f k x k = x := if_pos rfl
theorem pk_uLn {f : Nat → Int64} {k j : Nat} {x : Int64} (h : j ≠ k) : vp_updL f k x j = f j := if_neg h
theorem pk_sub {a b : Nat} (h : b ≤ a) : nI a - nI b = nI (a - b) := by
  obtain ⟨c, rfl⟩ : ∃ c, a = c + b := ⟨a - b, by omega⟩
  rw [← nI_add, Int32.add_sub_cancel, Nat.add_sub_cancel]
theorem pk_m1 (n : Nat) : nI (n + 1) + (-1) = nI n := by
  rw [← nI_1, Int32.add_assoc, show (1 : Int32) + (-1) = 0 from rfl, Int32.add_zero]
theorem pk_mul (a b : Nat) : nI a * nI b = nI (a * b) := (Int32.ofNat_mul a b).symm
theorem pk_div {a d : Nat} (ha : a < 2 ^ 31) (h0 : 0 < d) (hd : d < 2 ^ 31) : nI a / nI d = nI (a / d) := by
  apply Int32.toInt_inj.mp
  rw [lg_idiv_nonneg (by rw [nI_toInt ha]; omega) (by rw [nI_toInt hd]; omega), nI_toInt ha, nI_toInt hd, nI_toInt (Nat.lt_of_le_of_lt (Nat.div_le_self a d) ha)]
  first | rfl | exact (Int.natCast_ediv _ _).symm
theorem pk_rem {a d : Nat} (ha : a < 2 ^ 31) (h0 : 0 < d) (hd : d < 2 ^ 31) : nI a - nI a / nI d * nI d = nI (a % d) := by
  rw [pk_div ha h0 hd, pk_mul, pk_sub (Nat.div_mul_le_self a d)]
  exact congrArg nI (by have := Nat.div_add_mod' a d; omega)
theorem pk_sub_toInt {a b : Nat} (ha : a < 2 ^ 30) (hb : b < 2 ^ 30) : (nI a - nI b).toInt = (a : Int) - b := by
  rw [Int32.toInt_sub, nI_toInt (by omega), nI_toInt (by omega)]
  exact Int.bmod_eq_of_le (by omega) (by omega)
theorem pk_sneg {a b : Nat} (hb : b < 2 ^ 30) (h : a < b) : nI a - nI b < 0 := by
  rw [Int32.lt_iff_toInt_lt, pk_sub_toInt (by omega) hb, show (0 : Int32).toInt = 0 from by decide]
  omega
theorem pk_ix (x : Int32) {n : Nat} (hn : n < 2 ^ 31) : x < 0 ∨ nI n ≤ x ∨ ∃ j : Nat, j < n ∧ x = nI j := by
  by_cases h : x < 0
  · exact Or.inl h
  · obtain ⟨j, hj, rfl⟩ := nI_of h
    by_cases h2 : j < n
    · exact Or.inr (Or.inr ⟨j, h2, rfl⟩)
    · exact Or.inr (Or.inl (nI_le (by omega) hj))
theorem pk_le {x y : Int32} {A B : Prop} (a b : Nat) (f : a ≤ b → A) (g : b < a → B) (hx : x = nI a := by rfl) (hy : y = nI b := by rfl) (ha : a < 2 ^ 31 := by omega) (hb : b < 2 ^ 31 := by omega) : (x ≤ y → A) ∧ (¬ x ≤ y → B) := by
  subst hx hy
  rw [nI_leI ha hb]
  exact ⟨f, fun z => g (by omega)⟩
theorem pk_lt {x y : Int32} {A B : Prop} (a b : Nat) (f : a < b → A) (g : b ≤ a → B) (hx : x = nI a := by rfl) (hy : y = nI b := by rfl) (ha : a < 2 ^ 31 := by omega) (hb : b < 2 ^ 31 := by omega) : (x < y → A) ∧ (¬ x < y → B) := by
  subst hx hy
  rw [nI_ltI ha hb]
  exact ⟨f, fun z => g (by omega)⟩
theorem pk_eq {x y : Int32} {A B : Prop} (a b : Nat) (f : a = b → A) (g : a ≠ b → B) (hx : x = nI a := by rfl) (hy : y = nI b := by rfl) (ha : a < 2 ^ 31 := by omega) (hb : b < 2 ^ 31 := by omega) : (x = y → A) ∧ (¬ x = y → B) := by
  subst hx hy
  rw [nI_eq ha hb]
  exact ⟨f, g⟩
theorem pk_in {x : Int32} (n N : Nat) (h : n < N) (hx : x = nI n := by rfl) (hN : N < 2 ^ 31 := by omega) : vp_in x N := by
  subst hx
  exact vp_in_nI h hN
theorem pk_cl {x : Int32} (n : Nat) (hx : x = nI n := by rfl) (h : n < 2 ^ 31 := by omega) : x.toNatClampNeg = n := by
  subst hx
  exact nI_clamp h
theorem pk_tn {n : Nat} (h : n < 2 ^ 32) : (nI n).toBitVec.toNat = n := Nat.mod_eq_of_lt h
theorem pk_and (x : Int32) {m : Int32} (k : Nat) (hm : m.toBitVec.toNat = 2 ^ k - 1) : x &&& m = nI (x.toBitVec.toNat % 2 ^ k) := by
  apply Int32.toBitVec_inj.mp
  apply BitVec.eq_of_toNat_eq
  rw [Int32.toBitVec_and, BitVec.toNat_and, hm, Nat.and_two_pow_sub_one_eq_mod]
  show _ = (BitVec.ofNat 32 _).toNat
  rw [BitVec.toNat_ofNat]
  exact (Nat.mod_eq_of_lt (Nat.lt_of_le_of_lt (Nat.mod_le _ _) x.toBitVec.isLt)).symm
theorem pk_andN {n : Nat} (h : n < 2 ^ 32) {m : Int32} (k : Nat) (hm : m.toBitVec.toNat = 2 ^ k - 1) : nI n &&& m = nI (n % 2 ^ k) := by
  rw [pk_and _ k hm, pk_tn h]
theorem pk_andE (x : Int32) {m : Int32} (k : Nat) (hm : m.toBitVec.toNat = 2 ^ k - 1) : ∃ j : Nat, j < 2 ^ k ∧ x &&& m = nI j := ⟨_, Nat.mod_lt _ (Nat.two_pow_pos k), pk_and x k hm⟩
theorem pk_andIn (x : Int32) {m : Int32} (k : Nat) (hm : m.toBitVec.toNat = 2 ^ k - 1) (hk : k ≤ 30) : vp_in (x &&& m) (2 ^ k) := by
  obtain ⟨j, hj, e⟩ := pk_andE x k hm
  rw [e]
  exact vp_in_nI hj (Nat.lt_of_le_of_lt (Nat.pow_le_pow_right (by decide) hk) (by decide))
theorem pk_shl (a s : Int32) (k : Nat) (hs : (s.toBitVec.smod 32).toNat = k) : (a <<< s).toBitVec.toNat = a.toBitVec.toNat * 2 ^ k % 2 ^ 32 := by
  show (a.toBitVec <<< (s.toBitVec.smod 32).toNat).toNat = _
  rw [hs, BitVec.toNat_shiftLeft, Nat.shiftLeft_eq]
theorem pk_shlN {n : Nat} (s : Int32) (k : Nat) (hs : (s.toBitVec.smod 32).toNat = k) (h : n * 2 ^ k < 2 ^ 32) : nI n <<< s = nI (n * 2 ^ k) := by
  apply Int32.toBitVec_inj.mp
  apply BitVec.eq_of_toNat_eq
  have hn : n < 2 ^ 32 := Nat.lt_of_le_of_lt (Nat.le_mul_of_pos_right n (Nat.two_pow_pos k)) h
  rw [pk_shl _ _ k hs, pk_tn hn, pk_tn h, Nat.mod_eq_of_lt h]
theorem pk_shr (a s : Int32) (k : Nat) (hs : (s.toBitVec.smod 32).toNat = k) : (a >>> s).toInt = a.toInt >>> k := by
  show (a.toBitVec.sshiftRight (s.toBitVec.smod 32).toNat).toInt = _
  rw [hs, BitVec.toInt_sshiftRight]
  rfl
theorem pk_shrN {n : Nat} (h : n < 2 ^ 31) (s : Int32) (k : Nat) (hs : (s.toBitVec.smod 32).toNat = k) : nI n >>> s = nI (n / 2 ^ k) := by
  apply Int32.toInt_inj.mp
  have h2 : n / 2 ^ k ≤ n := Nat.div_le_self _ _
  rw [pk_shr _ _ k hs, nI_toInt h, nI_toInt (by omega), Int.shiftRight_eq_div_pow]
  rfl
theorem pk_ushr (x s : Int32) (k : Nat) (hs : ((s.toUInt32 &&& Int32.toUInt32 31).toBitVec % 32).toNat = k) : (x.toUInt32 >>> (s.toUInt32 &&& Int32.toUInt32 31)).toInt32.toBitVec.toNat = x.toBitVec.toNat / 2 ^ k := by
  have e : (x.toUInt32 >>> (s.toUInt32 &&& Int32.toUInt32 31)).toInt32.toBitVec = x.toBitVec >>> k := by
    rw [← hs]
    exact UInt32.toBitVec_shiftRight _ _
  rw [e, BitVec.toNat_ushiftRight, Nat.shiftRight_eq_div_pow]
theorem pk_ushrN {n : Nat} (hn : n < 2 ^ 32) (s : Int32) (k : Nat) (hs : ((s.toUInt32 &&& Int32.toUInt32 31).toBitVec % 32).toNat = k) : ((nI n).toUInt32 >>> (s.toUInt32 &&& Int32.toUInt32 31)).toInt32 = nI (n / 2 ^ k) := by
  apply Int32.toBitVec_inj.mp
  apply BitVec.eq_of_toNat_eq
  rw [pk_ushr _ s k hs, pk_tn hn, pk_tn (Nat.lt_of_le_of_lt (Nat.div_le_self _ _) hn)]
theorem pk_nb (z : Int32) : narrow .byte (.int z.toInt8.toInt32) = .int z.toInt8.toInt32 := congrArg Value.int (by simp)
theorem pk_ns (z : Int32) : narrow .short (.int z.toInt16.toInt32) = .int z.toInt16.toInt32 := congrArg Value.int (by simp)
theorem pk_fb (r : Int32) : fits .byte (.int r.toInt8.toInt32) = true := by
  have ⟨a, b⟩ := lg_i2b_range r
  have h1 : (-128 : Int32).toInt = -128 := by decide
  have h2 : (127 : Int32).toInt = 127 := by decide
  simp only [fits, Bool.and_eq_true, decide_eq_true_eq, Int32.le_iff_toInt_le, h1, h2]
  omega
theorem pk_fs (r : Int32) : fits .short (.int r.toInt16.toInt32) = true := by
  have ⟨a, b⟩ := lg_i2s_range r
  have h1 : (-32768 : Int32).toInt = -32768 := by decide
  have h2 : (32767 : Int32).toInt = 32767 := by decide
  simp only [fits, Bool.and_eq_true, decide_eq_true_eq, Int32.le_iff_toInt_le, h1, h2]
  omega
theorem pk_charN {q : Nat} (hq : q < 65536) : narrow .char (.int (nI q)) = .int (nI q) ∧ fits .char (.int (nI q)) = true := by
  constructor
  · have e : (nI q).toUInt32.toUInt16.toUInt32.toInt32 = nI q := by
      apply Int32.toBitVec_inj.mp
      apply BitVec.eq_of_toNat_eq
      show (nI q).toUInt32.toUInt16.toUInt32.toNat = q % 2 ^ 32
      rw [UInt16.toNat_toUInt32, UInt32.toNat_toUInt16, show (nI q).toUInt32.toNat = q % 2 ^ 32 from rfl]
      omega
    exact congrArg Value.int e
  · have a : (0 : Int32) ≤ nI q := nI_pos' (by omega)
    have b : nI q ≤ 65535 := nI_le (b := 65535) (by omega) (by decide)
    show (decide ((0 : Int32) ≤ nI q) && decide (nI q ≤ 65535)) = true
    rw [decide_eq_true a, decide_eq_true b]
    rfl
theorem pk_char (x : Int32) : (x.toUInt32 % 65536).toInt32 = nI (x.toBitVec.toNat % 65536) := by
  apply Int32.toBitVec_inj.mp
  apply BitVec.eq_of_toNat_eq
  rw [pk_tn (by omega)]
  show (x.toUInt32 % 65536).toNat = _
  rw [UInt32.toNat_mod]
  rfl
theorem pk_nc (x : Int32) : narrow .char (.int (x.toUInt32 % 65536).toInt32) = .int (x.toUInt32 % 65536).toInt32 := by
  rw [pk_char]
  exact (pk_charN (Nat.mod_lt _ (by decide))).1
theorem pk_fc (x : Int32) : fits .char (.int (x.toUInt32 % 65536).toInt32) = true := by
  rw [pk_char]
  exact (pk_charN (Nat.mod_lt _ (by decide))).2
theorem pk_vb (z : Int32) : vp_nar .byte z.toInt8.toInt32 = z.toInt8.toInt32 := by rw [vp_nar_byte]; simp
theorem pk_vs (z : Int32) : vp_nar .short z.toInt16.toInt32 = z.toInt16.toInt32 := by rw [vp_nar_short]; simp
theorem pk_vc (z : Int32) : vp_nar .char (z.toUInt32 % 65536).toInt32 = (z.toUInt32 % 65536).toInt32 := Value.int.inj (pk_nc z)
theorem pk_lT {n : Nat} (h : n < 2 ^ 63) : (lN n).toInt = (n : Int) := lg_ofNat_toInt h
theorem pk_lLT {a b : Nat} (ha : a < 2 ^ 63) (hb : b < 2 ^ 63) : lN a < lN b ↔ a < b := by
  rw [Int64.lt_iff_toInt_lt, pk_lT ha, pk_lT hb]; omega
theorem pk_lLE {a b : Nat} (ha : a < 2 ^ 63) (hb : b < 2 ^ 63) : lN a ≤ lN b ↔ a ≤ b := by
  rw [Int64.le_iff_toInt_le, pk_lT ha, pk_lT hb]; omega
theorem pk_lEQ {a b : Nat} (ha : a < 2 ^ 63) (hb : b < 2 ^ 63) : lN a = lN b ↔ a = b := by
  rw [← Int64.toInt_inj, pk_lT ha, pk_lT hb]; omega
theorem pk_lOf {x : Int64} (h : ¬ x < 0) : ∃ k : Nat, k < 2 ^ 63 ∧ x = lN k := by
  rw [Int64.lt_iff_toInt_lt] at h
  have h0 : (0 : Int64).toInt = 0 := by decide
  have hx := Int64.toInt_lt x
  refine ⟨x.toInt.toNat, by omega, Int64.toInt_inj.mp ?_⟩
  rw [pk_lT (by omega)]
  omega
theorem pk_lDiv {a b : Nat} (ha : a < 2 ^ 63) (h0 : 0 < b) (hb : b < 2 ^ 63) : lN a / lN b = lN (a / b) := by
  apply Int64.toInt_inj.mp
  rw [lg_ldiv_nonneg (by rw [pk_lT ha]; omega) (by rw [pk_lT hb]; omega), pk_lT ha, pk_lT hb, pk_lT (Nat.lt_of_le_of_lt (Nat.div_le_self a b) ha)]
  rfl
theorem pk_lRem {a b : Nat} (ha : a < 2 ^ 63) (h0 : 0 < b) (hb : b < 2 ^ 63) : lN a - lN a / lN b * lN b = lN (a % b) := by
  rw [pk_lDiv ha h0 hb, lN_mul, lN_sub (Nat.div_mul_le_self a b)]
  exact congrArg lN (by have := Nat.div_add_mod' a b; omega)
theorem pk_loop {σ : Type} (W : Nat → Nat → σ → Prop) (I : Nat → σ → Prop) (e i0 : Nat) (s : σ) (hi : i0 ≤ e) (h0 : I i0 s) (hx : ∀ n s, I e s → W (n + 1) e s)
    (hs : ∀ n i s, i < e → I i s → (∀ s', I (i + 1) s' → W n (i + 1) s') → W (n + 1) i s) : ∃ n, W n i0 s :=
  ⟨e + 1, loop_i W I e hx hs (e + 1) i0 s hi (by omega) h0⟩
theorem pk_loopD {σ : Type} (W : Nat → Nat → σ → Prop) (I : Nat → σ → Prop) (hx : ∀ n s, I 0 s → W (n + 1) 0 s)
    (hs : ∀ n i s, I (i + 1) s → (∀ s', I i s' → W n i s') → W (n + 1) (i + 1) s) : ∀ (e : Nat) (s : σ), I e s → W (e + 1) e s := by
  intro e
  induction e with
  | zero => exact fun s h => hx 0 s h
  | succ e ih => exact fun s h => hs (e + 1) e s h (fun s' h' => ih s' h')
theorem lp1 {A1 : Type} (W : Nat → A1 → Prop) (I : A1 → Prop) (μ : A1 → Nat) (hs : ∀ (n : Nat) (a1 : A1), I a1 → (∀ (b1 : A1), I b1 → μ b1 < μ a1 → W n b1) → W (n + 1) a1) (a1 : A1) (h : I a1) : ∃ n, W n a1 :=
  loop_m (σ := A1) (fun n s => W n s) (fun s => I s) (fun s => μ s) (fun n s hI hk => hs n s hI (fun b1 h9 hm => hk b1 h9 hm)) a1 h
theorem lp2 {A1 A2 : Type} (W : Nat → A1 → A2 → Prop) (I : A1 → A2 → Prop) (μ : A1 → A2 → Nat) (hs : ∀ (n : Nat) (a1 : A1) (a2 : A2), I a1 a2 → (∀ (b1 : A1) (b2 : A2), I b1 b2 → μ b1 b2 < μ a1 a2 → W n b1 b2) → W (n + 1) a1 a2) (a1 : A1) (a2 : A2) (h : I a1 a2) : ∃ n, W n a1 a2 :=
  loop_m (σ := A1 × A2) (fun n s => W n s.1 s.2) (fun s => I s.1 s.2) (fun s => μ s.1 s.2) (fun n s hI hk => hs n s.1 s.2 hI (fun b1 b2 h9 hm => hk (b1, b2) h9 hm)) (a1, a2) h
theorem lp3 {A1 A2 A3 : Type} (W : Nat → A1 → A2 → A3 → Prop) (I : A1 → A2 → A3 → Prop) (μ : A1 → A2 → A3 → Nat) (hs : ∀ (n : Nat) (a1 : A1) (a2 : A2) (a3 : A3), I a1 a2 a3 → (∀ (b1 : A1) (b2 : A2) (b3 : A3), I b1 b2 b3 → μ b1 b2 b3 < μ a1 a2 a3 → W n b1 b2 b3) → W (n + 1) a1 a2 a3) (a1 : A1) (a2 : A2) (a3 : A3) (h : I a1 a2 a3) : ∃ n, W n a1 a2 a3 :=
  loop_m (σ := A1 × A2 × A3) (fun n s => W n s.1 s.2.1 s.2.2) (fun s => I s.1 s.2.1 s.2.2) (fun s => μ s.1 s.2.1 s.2.2) (fun n s hI hk => hs n s.1 s.2.1 s.2.2 hI (fun b1 b2 b3 h9 hm => hk (b1, b2, b3) h9 hm)) (a1, a2, a3) h
theorem lp4 {A1 A2 A3 A4 : Type} (W : Nat → A1 → A2 → A3 → A4 → Prop) (I : A1 → A2 → A3 → A4 → Prop) (μ : A1 → A2 → A3 → A4 → Nat) (hs : ∀ (n : Nat) (a1 : A1) (a2 : A2) (a3 : A3) (a4 : A4), I a1 a2 a3 a4 → (∀ (b1 : A1) (b2 : A2) (b3 : A3) (b4 : A4), I b1 b2 b3 b4 → μ b1 b2 b3 b4 < μ a1 a2 a3 a4 → W n b1 b2 b3 b4) → W (n + 1) a1 a2 a3 a4) (a1 : A1) (a2 : A2) (a3 : A3) (a4 : A4) (h : I a1 a2 a3 a4) : ∃ n, W n a1 a2 a3 a4 :=
  loop_m (σ := A1 × A2 × A3 × A4) (fun n s => W n s.1 s.2.1 s.2.2.1 s.2.2.2) (fun s => I s.1 s.2.1 s.2.2.1 s.2.2.2) (fun s => μ s.1 s.2.1 s.2.2.1 s.2.2.2) (fun n s hI hk => hs n s.1 s.2.1 s.2.2.1 s.2.2.2 hI (fun b1 b2 b3 b4 h9 hm => hk (b1, b2, b3, b4) h9 hm)) (a1, a2, a3, a4) h
theorem lp5 {A1 A2 A3 A4 A5 : Type} (W : Nat → A1 → A2 → A3 → A4 → A5 → Prop) (I : A1 → A2 → A3 → A4 → A5 → Prop) (μ : A1 → A2 → A3 → A4 → A5 → Nat) (hs : ∀ (n : Nat) (a1 : A1) (a2 : A2) (a3 : A3) (a4 : A4) (a5 : A5), I a1 a2 a3 a4 a5 → (∀ (b1 : A1) (b2 : A2) (b3 : A3) (b4 : A4) (b5 : A5), I b1 b2 b3 b4 b5 → μ b1 b2 b3 b4 b5 < μ a1 a2 a3 a4 a5 → W n b1 b2 b3 b4 b5) → W (n + 1) a1 a2 a3 a4 a5) (a1 : A1) (a2 : A2) (a3 : A3) (a4 : A4) (a5 : A5) (h : I a1 a2 a3 a4 a5) : ∃ n, W n a1 a2 a3 a4 a5 :=
  loop_m (σ := A1 × A2 × A3 × A4 × A5) (fun n s => W n s.1 s.2.1 s.2.2.1 s.2.2.2.1 s.2.2.2.2) (fun s => I s.1 s.2.1 s.2.2.1 s.2.2.2.1 s.2.2.2.2) (fun s => μ s.1 s.2.1 s.2.2.1 s.2.2.2.1 s.2.2.2.2) (fun n s hI hk => hs n s.1 s.2.1 s.2.2.1 s.2.2.2.1 s.2.2.2.2 hI (fun b1 b2 b3 b4 b5 h9 hm => hk (b1, b2, b3, b4, b5) h9 hm)) (a1, a2, a3, a4, a5) h
theorem lp6 {A1 A2 A3 A4 A5 A6 : Type} (W : Nat → A1 → A2 → A3 → A4 → A5 → A6 → Prop) (I : A1 → A2 → A3 → A4 → A5 → A6 → Prop) (μ : A1 → A2 → A3 → A4 → A5 → A6 → Nat) (hs : ∀ (n : Nat) (a1 : A1) (a2 : A2) (a3 : A3) (a4 : A4) (a5 : A5) (a6 : A6), I a1 a2 a3 a4 a5 a6 → (∀ (b1 : A1) (b2 : A2) (b3 : A3) (b4 : A4) (b5 : A5) (b6 : A6), I b1 b2 b3 b4 b5 b6 → μ b1 b2 b3 b4 b5 b6 < μ a1 a2 a3 a4 a5 a6 → W n b1 b2 b3 b4 b5 b6) → W (n + 1) a1 a2 a3 a4 a5 a6) (a1 : A1) (a2 : A2) (a3 : A3) (a4 : A4) (a5 : A5) (a6 : A6) (h : I a1 a2 a3 a4 a5 a6) : ∃ n, W n a1 a2 a3 a4 a5 a6 :=
  loop_m (σ := A1 × A2 × A3 × A4 × A5 × A6) (fun n s => W n s.1 s.2.1 s.2.2.1 s.2.2.2.1 s.2.2.2.2.1 s.2.2.2.2.2) (fun s => I s.1 s.2.1 s.2.2.1 s.2.2.2.1 s.2.2.2.2.1 s.2.2.2.2.2) (fun s => μ s.1 s.2.1 s.2.2.1 s.2.2.2.1 s.2.2.2.2.1 s.2.2.2.2.2) (fun n s hI hk => hs n s.1 s.2.1 s.2.2.1 s.2.2.2.1 s.2.2.2.2.1 s.2.2.2.2.2 hI (fun b1 b2 b3 b4 b5 b6 h9 hm => hk (b1, b2, b3, b4, b5, b6) h9 hm)) (a1, a2, a3, a4, a5, a6) h
theorem lp7 {A1 A2 A3 A4 A5 A6 A7 : Type} (W : Nat → A1 → A2 → A3 → A4 → A5 → A6 → A7 → Prop) (I : A1 → A2 → A3 → A4 → A5 → A6 → A7 → Prop) (μ : A1 → A2 → A3 → A4 → A5 → A6 → A7 → Nat) (hs : ∀ (n : Nat) (a1 : A1) (a2 : A2) (a3 : A3) (a4 : A4) (a5 : A5) (a6 : A6) (a7 : A7), I a1 a2 a3 a4 a5 a6 a7 → (∀ (b1 : A1) (b2 : A2) (b3 : A3) (b4 : A4) (b5 : A5) (b6 : A6) (b7 : A7), I b1 b2 b3 b4 b5 b6 b7 → μ b1 b2 b3 b4 b5 b6 b7 < μ a1 a2 a3 a4 a5 a6 a7 → W n b1 b2 b3 b4 b5 b6 b7) → W (n + 1) a1 a2 a3 a4 a5 a6 a7) (a1 : A1) (a2 : A2) (a3 : A3) (a4 : A4) (a5 : A5) (a6 : A6) (a7 : A7) (h : I a1 a2 a3 a4 a5 a6 a7) : ∃ n, W n a1 a2 a3 a4 a5 a6 a7 :=
  loop_m (σ := A1 × A2 × A3 × A4 × A5 × A6 × A7) (fun n s => W n s.1 s.2.1 s.2.2.1 s.2.2.2.1 s.2.2.2.2.1 s.2.2.2.2.2.1 s.2.2.2.2.2.2) (fun s => I s.1 s.2.1 s.2.2.1 s.2.2.2.1 s.2.2.2.2.1 s.2.2.2.2.2.1 s.2.2.2.2.2.2) (fun s => μ s.1 s.2.1 s.2.2.1 s.2.2.2.1 s.2.2.2.2.1 s.2.2.2.2.2.1 s.2.2.2.2.2.2) (fun n s hI hk => hs n s.1 s.2.1 s.2.2.1 s.2.2.2.1 s.2.2.2.2.1 s.2.2.2.2.2.1 s.2.2.2.2.2.2 hI (fun b1 b2 b3 b4 b5 b6 b7 h9 hm => hk (b1, b2, b3, b4, b5, b6, b7) h9 hm)) (a1, a2, a3, a4, a5, a6, a7) h
theorem lp8 {A1 A2 A3 A4 A5 A6 A7 A8 : Type} (W : Nat → A1 → A2 → A3 → A4 → A5 → A6 → A7 → A8 → Prop) (I : A1 → A2 → A3 → A4 → A5 → A6 → A7 → A8 → Prop) (μ : A1 → A2 → A3 → A4 → A5 → A6 → A7 → A8 → Nat) (hs : ∀ (n : Nat) (a1 : A1) (a2 : A2) (a3 : A3) (a4 : A4) (a5 : A5) (a6 : A6) (a7 : A7) (a8 : A8), I a1 a2 a3 a4 a5 a6 a7 a8 → (∀ (b1 : A1) (b2 : A2) (b3 : A3) (b4 : A4) (b5 : A5) (b6 : A6) (b7 : A7) (b8 : A8), I b1 b2 b3 b4 b5 b6 b7 b8 → μ b1 b2 b3 b4 b5 b6 b7 b8 < μ a1 a2 a3 a4 a5 a6 a7 a8 → W n b1 b2 b3 b4 b5 b6 b7 b8) → W (n + 1) a1 a2 a3 a4 a5 a6 a7 a8) (a1 : A1) (a2 : A2) (a3 : A3) (a4 : A4) (a5 : A5) (a6 : A6) (a7 : A7) (a8 : A8) (h : I a1 a2 a3 a4 a5 a6 a7 a8) : ∃ n, W n a1 a2 a3 a4 a5 a6 a7 a8 :=
  loop_m (σ := A1 × A2 × A3 × A4 × A5 × A6 × A7 × A8) (fun n s => W n s.1 s.2.1 s.2.2.1 s.2.2.2.1 s.2.2.2.2.1 s.2.2.2.2.2.1 s.2.2.2.2.2.2.1 s.2.2.2.2.2.2.2) (fun s => I s.1 s.2.1 s.2.2.1 s.2.2.2.1 s.2.2.2.2.1 s.2.2.2.2.2.1 s.2.2.2.2.2.2.1 s.2.2.2.2.2.2.2) (fun s => μ s.1 s.2.1 s.2.2.1 s.2.2.2.1 s.2.2.2.2.1 s.2.2.2.2.2.1 s.2.2.2.2.2.2.1 s.2.2.2.2.2.2.2) (fun n s hI hk => hs n s.1 s.2.1 s.2.2.1 s.2.2.2.1 s.2.2.2.2.1 s.2.2.2.2.2.1 s.2.2.2.2.2.2.1 s.2.2.2.2.2.2.2 hI (fun b1 b2 b3 b4 b5 b6 b7 b8 h9 hm => hk (b1, b2, b3, b4, b5, b6, b7, b8) h9 hm)) (a1, a2, a3, a4, a5, a6, a7, a8) h
theorem lp9 {A1 A2 A3 A4 A5 A6 A7 A8 A9 : Type} (W : Nat → A1 → A2 → A3 → A4 → A5 → A6 → A7 → A8 → A9 → Prop) (I : A1 → A2 → A3 → A4 → A5 → A6 → A7 → A8 → A9 → Prop) (μ : A1 → A2 → A3 → A4 → A5 → A6 → A7 → A8 → A9 → Nat) (hs : ∀ (n : Nat) (a1 : A1) (a2 : A2) (a3 : A3) (a4 : A4) (a5 : A5) (a6 : A6) (a7 : A7) (a8 : A8) (a9 : A9), I a1 a2 a3 a4 a5 a6 a7 a8 a9 → (∀ (b1 : A1) (b2 : A2) (b3 : A3) (b4 : A4) (b5 : A5) (b6 : A6) (b7 : A7) (b8 : A8) (b9 : A9), I b1 b2 b3 b4 b5 b6 b7 b8 b9 → μ b1 b2 b3 b4 b5 b6 b7 b8 b9 < μ a1 a2 a3 a4 a5 a6 a7 a8 a9 → W n b1 b2 b3 b4 b5 b6 b7 b8 b9) → W (n + 1) a1 a2 a3 a4 a5 a6 a7 a8 a9) (a1 : A1) (a2 : A2) (a3 : A3) (a4 : A4) (a5 : A5) (a6 : A6) (a7 : A7) (a8 : A8) (a9 : A9) (h : I a1 a2 a3 a4 a5 a6 a7 a8 a9) : ∃ n, W n a1 a2 a3 a4 a5 a6 a7 a8 a9 :=
  loop_m (σ := A1 × A2 × A3 × A4 × A5 × A6 × A7 × A8 × A9) (fun n s => W n s.1 s.2.1 s.2.2.1 s.2.2.2.1 s.2.2.2.2.1 s.2.2.2.2.2.1 s.2.2.2.2.2.2.1 s.2.2.2.2.2.2.2.1 s.2.2.2.2.2.2.2.2) (fun s => I s.1 s.2.1 s.2.2.1 s.2.2.2.1 s.2.2.2.2.1 s.2.2.2.2.2.1 s.2.2.2.2.2.2.1 s.2.2.2.2.2.2.2.1 s.2.2.2.2.2.2.2.2) (fun s => μ s.1 s.2.1 s.2.2.1 s.2.2.2.1 s.2.2.2.2.1 s.2.2.2.2.2.1 s.2.2.2.2.2.2.1 s.2.2.2.2.2.2.2.1 s.2.2.2.2.2.2.2.2) (fun n s hI hk => hs n s.1 s.2.1 s.2.2.1 s.2.2.2.1 s.2.2.2.2.1 s.2.2.2.2.2.1 s.2.2.2.2.2.2.1 s.2.2.2.2.2.2.2.1 s.2.2.2.2.2.2.2.2 hI (fun b1 b2 b3 b4 b5 b6 b7 b8 b9 h9 hm => hk (b1, b2, b3, b4, b5, b6, b7, b8, b9) h9 hm)) (a1, a2, a3, a4, a5, a6, a7, a8, a9) h
theorem lp10 {A1 A2 A3 A4 A5 A6 A7 A8 A9 A10 : Type} (W : Nat → A1 → A2 → A3 → A4 → A5 → A6 → A7 → A8 → A9 → A10 → Prop) (I : A1 → A2 → A3 → A4 → A5 → A6 → A7 → A8 → A9 → A10 → Prop) (μ : A1 → A2 → A3 → A4 → A5 → A6 → A7 → A8 → A9 → A10 → Nat) (hs : ∀ (n : Nat) (a1 : A1) (a2 : A2) (a3 : A3) (a4 : A4) (a5 : A5) (a6 : A6) (a7 : A7) (a8 : A8) (a9 : A9) (a10 : A10), I a1 a2 a3 a4 a5 a6 a7 a8 a9 a10 → (∀ (b1 : A1) (b2 : A2) (b3 : A3) (b4 : A4) (b5 : A5) (b6 : A6) (b7 : A7) (b8 : A8) (b9 : A9) (b10 : A10), I b1 b2 b3 b4 b5 b6 b7 b8 b9 b10 → μ b1 b2 b3 b4 b5 b6 b7 b8 b9 b10 < μ a1 a2 a3 a4 a5 a6 a7 a8 a9 a10 → W n b1 b2 b3 b4 b5 b6 b7 b8 b9 b10) → W (n + 1) a1 a2 a3 a4 a5 a6 a7 a8 a9 a10) (a1 : A1) (a2 : A2) (a3 : A3) (a4 : A4) (a5 : A5) (a6 : A6) (a7 : A7) (a8 : A8) (a9 : A9) (a10 : A10) (h : I a1 a2 a3 a4 a5 a6 a7 a8 a9 a10) : ∃ n, W n a1 a2 a3 a4 a5 a6 a7 a8 a9 a10 :=
  loop_m (σ := A1 × A2 × A3 × A4 × A5 × A6 × A7 × A8 × A9 × A10) (fun n s => W n s.1 s.2.1 s.2.2.1 s.2.2.2.1 s.2.2.2.2.1 s.2.2.2.2.2.1 s.2.2.2.2.2.2.1 s.2.2.2.2.2.2.2.1 s.2.2.2.2.2.2.2.2.1 s.2.2.2.2.2.2.2.2.2) (fun s => I s.1 s.2.1 s.2.2.1 s.2.2.2.1 s.2.2.2.2.1 s.2.2.2.2.2.1 s.2.2.2.2.2.2.1 s.2.2.2.2.2.2.2.1 s.2.2.2.2.2.2.2.2.1 s.2.2.2.2.2.2.2.2.2) (fun s => μ s.1 s.2.1 s.2.2.1 s.2.2.2.1 s.2.2.2.2.1 s.2.2.2.2.2.1 s.2.2.2.2.2.2.1 s.2.2.2.2.2.2.2.1 s.2.2.2.2.2.2.2.2.1 s.2.2.2.2.2.2.2.2.2) (fun n s hI hk => hs n s.1 s.2.1 s.2.2.1 s.2.2.2.1 s.2.2.2.2.1 s.2.2.2.2.2.1 s.2.2.2.2.2.2.1 s.2.2.2.2.2.2.2.1 s.2.2.2.2.2.2.2.2.1 s.2.2.2.2.2.2.2.2.2 hI (fun b1 b2 b3 b4 b5 b6 b7 b8 b9 b10 h9 hm => hk (b1, b2, b3, b4, b5, b6, b7, b8, b9, b10) h9 hm)) (a1, a2, a3, a4, a5, a6, a7, a8, a9, a10) h
theorem lp11 {A1 A2 A3 A4 A5 A6 A7 A8 A9 A10 A11 : Type} (W : Nat → A1 → A2 → A3 → A4 → A5 → A6 → A7 → A8 → A9 → A10 → A11 → Prop) (I : A1 → A2 → A3 → A4 → A5 → A6 → A7 → A8 → A9 → A10 → A11 → Prop) (μ : A1 → A2 → A3 → A4 → A5 → A6 → A7 → A8 → A9 → A10 → A11 → Nat) (hs : ∀ (n : Nat) (a1 : A1) (a2 : A2) (a3 : A3) (a4 : A4) (a5 : A5) (a6 : A6) (a7 : A7) (a8 : A8) (a9 : A9) (a10 : A10) (a11 : A11), I a1 a2 a3 a4 a5 a6 a7 a8 a9 a10 a11 → (∀ (b1 : A1) (b2 : A2) (b3 : A3) (b4 : A4) (b5 : A5) (b6 : A6) (b7 : A7) (b8 : A8) (b9 : A9) (b10 : A10) (b11 : A11), I b1 b2 b3 b4 b5 b6 b7 b8 b9 b10 b11 → μ b1 b2 b3 b4 b5 b6 b7 b8 b9 b10 b11 < μ a1 a2 a3 a4 a5 a6 a7 a8 a9 a10 a11 → W n b1 b2 b3 b4 b5 b6 b7 b8 b9 b10 b11) → W (n + 1) a1 a2 a3 a4 a5 a6 a7 a8 a9 a10 a11) (a1 : A1) (a2 : A2) (a3 : A3) (a4 : A4) (a5 : A5) (a6 : A6) (a7 : A7) (a8 : A8) (a9 : A9) (a10 : A10) (a11 : A11) (h : I a1 a2 a3 a4 a5 a6 a7 a8 a9 a10 a11) : ∃ n, W n a1 a2 a3 a4 a5 a6 a7 a8 a9 a10 a11 :=
  loop_m (σ := A1 × A2 × A3 × A4 × A5 × A6 × A7 × A8 × A9 × A10 × A11) (fun n s => W n s.1 s.2.1 s.2.2.1 s.2.2.2.1 s.2.2.2.2.1 s.2.2.2.2.2.1 s.2.2.2.2.2.2.1 s.2.2.2.2.2.2.2.1 s.2.2.2.2.2.2.2.2.1 s.2.2.2.2.2.2.2.2.2.1 s.2.2.2.2.2.2.2.2.2.2) (fun s => I s.1 s.2.1 s.2.2.1 s.2.2.2.1 s.2.2.2.2.1 s.2.2.2.2.2.1 s.2.2.2.2.2.2.1 s.2.2.2.2.2.2.2.1 s.2.2.2.2.2.2.2.2.1 s.2.2.2.2.2.2.2.2.2.1 s.2.2.2.2.2.2.2.2.2.2) (fun s => μ s.1 s.2.1 s.2.2.1 s.2.2.2.1 s.2.2.2.2.1 s.2.2.2.2.2.1 s.2.2.2.2.2.2.1 s.2.2.2.2.2.2.2.1 s.2.2.2.2.2.2.2.2.1 s.2.2.2.2.2.2.2.2.2.1 s.2.2.2.2.2.2.2.2.2.2) (fun n s hI hk => hs n s.1 s.2.1 s.2.2.1 s.2.2.2.1 s.2.2.2.2.1 s.2.2.2.2.2.1 s.2.2.2.2.2.2.1 s.2.2.2.2.2.2.2.1 s.2.2.2.2.2.2.2.2.1 s.2.2.2.2.2.2.2.2.2.1 s.2.2.2.2.2.2.2.2.2.2 hI (fun b1 b2 b3 b4 b5 b6 b7 b8 b9 b10 b11 h9 hm => hk (b1, b2, b3, b4, b5, b6, b7, b8, b9, b10, b11) h9 hm)) (a1, a2, a3, a4, a5, a6, a7, a8, a9, a10, a11) h
theorem lp12 {A1 A2 A3 A4 A5 A6 A7 A8 A9 A10 A11 A12 : Type} (W : Nat → A1 → A2 → A3 → A4 → A5 → A6 → A7 → A8 → A9 → A10 → A11 → A12 → Prop) (I : A1 → A2 → A3 → A4 → A5 → A6 → A7 → A8 → A9 → A10 → A11 → A12 → Prop) (μ : A1 → A2 → A3 → A4 → A5 → A6 → A7 → A8 → A9 → A10 → A11 → A12 → Nat) (hs : ∀ (n : Nat) (a1 : A1) (a2 : A2) (a3 : A3) (a4 : A4) (a5 : A5) (a6 : A6) (a7 : A7) (a8 : A8) (a9 : A9) (a10 : A10) (a11 : A11) (a12 : A12), I a1 a2 a3 a4 a5 a6 a7 a8 a9 a10 a11 a12 → (∀ (b1 : A1) (b2 : A2) (b3 : A3) (b4 : A4) (b5 : A5) (b6 : A6) (b7 : A7) (b8 : A8) (b9 : A9) (b10 : A10) (b11 : A11) (b12 : A12), I b1 b2 b3 b4 b5 b6 b7 b8 b9 b10 b11 b12 → μ b1 b2 b3 b4 b5 b6 b7 b8 b9 b10 b11 b12 < μ a1 a2 a3 a4 a5 a6 a7 a8 a9 a10 a11 a12 → W n b1 b2 b3 b4 b5 b6 b7 b8 b9 b10 b11 b12) → W (n + 1) a1 a2 a3 a4 a5 a6 a7 a8 a9 a10 a11 a12) (a1 : A1) (a2 : A2) (a3 : A3) (a4 : A4) (a5 : A5) (a6 : A6) (a7 : A7) (a8 : A8) (a9 : A9) (a10 : A10) (a11 : A11) (a12 : A12) (h : I a1 a2 a3 a4 a5 a6 a7 a8 a9 a10 a11 a12) : ∃ n, W n a1 a2 a3 a4 a5 a6 a7 a8 a9 a10 a11 a12 :=
  loop_m (σ := A1 × A2 × A3 × A4 × A5 × A6 × A7 × A8 × A9 × A10 × A11 × A12) (fun n s => W n s.1 s.2.1 s.2.2.1 s.2.2.2.1 s.2.2.2.2.1 s.2.2.2.2.2.1 s.2.2.2.2.2.2.1 s.2.2.2.2.2.2.2.1 s.2.2.2.2.2.2.2.2.1 s.2.2.2.2.2.2.2.2.2.1 s.2.2.2.2.2.2.2.2.2.2.1 s.2.2.2.2.2.2.2.2.2.2.2) (fun s => I s.1 s.2.1 s.2.2.1 s.2.2.2.1 s.2.2.2.2.1 s.2.2.2.2.2.1 s.2.2.2.2.2.2.1 s.2.2.2.2.2.2.2.1 s.2.2.2.2.2.2.2.2.1 s.2.2.2.2.2.2.2.2.2.1 s.2.2.2.2.2.2.2.2.2.2.1 s.2.2.2.2.2.2.2.2.2.2.2) (fun s => μ s.1 s.2.1 s.2.2.1 s.2.2.2.1 s.2.2.2.2.1 s.2.2.2.2.2.1 s.2.2.2.2.2.2.1 s.2.2.2.2.2.2.2.1 s.2.2.2.2.2.2.2.2.1 s.2.2.2.2.2.2.2.2.2.1 s.2.2.2.2.2.2.2.2.2.2.1 s.2.2.2.2.2.2.2.2.2.2.2) (fun n s hI hk => hs n s.1 s.2.1 s.2.2.1 s.2.2.2.1 s.2.2.2.2.1 s.2.2.2.2.2.1 s.2.2.2.2.2.2.1 s.2.2.2.2.2.2.2.1 s.2.2.2.2.2.2.2.2.1 s.2.2.2.2.2.2.2.2.2.1 s.2.2.2.2.2.2.2.2.2.2.1 s.2.2.2.2.2.2.2.2.2.2.2 hI (fun b1 b2 b3 b4 b5 b6 b7 b8 b9 b10 b11 b12 h9 hm => hk (b1, b2, b3, b4, b5, b6, b7, b8, b9, b10, b11, b12) h9 hm)) (a1, a2, a3, a4, a5, a6, a7, a8, a9, a10, a11, a12) h
theorem lp13 {A1 A2 A3 A4 A5 A6 A7 A8 A9 A10 A11 A12 A13 : Type} (W : Nat → A1 → A2 → A3 → A4 → A5 → A6 → A7 → A8 → A9 → A10 → A11 → A12 → A13 → Prop) (I : A1 → A2 → A3 → A4 → A5 → A6 → A7 → A8 → A9 → A10 → A11 → A12 → A13 → Prop) (μ : A1 → A2 → A3 → A4 → A5 → A6 → A7 → A8 → A9 → A10 → A11 → A12 → A13 → Nat) (hs : ∀ (n : Nat) (a1 : A1) (a2 : A2) (a3 : A3) (a4 : A4) (a5 : A5) (a6 : A6) (a7 : A7) (a8 : A8) (a9 : A9) (a10 : A10) (a11 : A11) (a12 : A12) (a13 : A13), I a1 a2 a3 a4 a5 a6 a7 a8 a9 a10 a11 a12 a13 → (∀ (b1 : A1) (b2 : A2) (b3 : A3) (b4 : A4) (b5 : A5) (b6 : A6) (b7 : A7) (b8 : A8) (b9 : A9) (b10 : A10) (b11 : A11) (b12 : A12) (b13 : A13), I b1 b2 b3 b4 b5 b6 b7 b8 b9 b10 b11 b12 b13 → μ b1 b2 b3 b4 b5 b6 b7 b8 b9 b10 b11 b12 b13 < μ a1 a2 a3 a4 a5 a6 a7 a8 a9 a10 a11 a12 a13 → W n b1 b2 b3 b4 b5 b6 b7 b8 b9 b10 b11 b12 b13) → W (n + 1) a1 a2 a3 a4 a5 a6 a7 a8 a9 a10 a11 a12 a13) (a1 : A1) (a2 : A2) (a3 : A3) (a4 : A4) (a5 : A5) (a6 : A6) (a7 : A7) (a8 : A8) (a9 : A9) (a10 : A10) (a11 : A11) (a12 : A12) (a13 : A13) (h : I a1 a2 a3 a4 a5 a6 a7 a8 a9 a10 a11 a12 a13) : ∃ n, W n a1 a2 a3 a4 a5 a6 a7 a8 a9 a10 a11 a12 a13 :=
  loop_m (σ := A1 × A2 × A3 × A4 × A5 × A6 × A7 × A8 × A9 × A10 × A11 × A12 × A13) (fun n s => W n s.1 s.2.1 s.2.2.1 s.2.2.2.1 s.2.2.2.2.1 s.2.2.2.2.2.1 s.2.2.2.2.2.2.1 s.2.2.2.2.2.2.2.1 s.2.2.2.2.2.2.2.2.1 s.2.2.2.2.2.2.2.2.2.1 s.2.2.2.2.2.2.2.2.2.2.1 s.2.2.2.2.2.2.2.2.2.2.2.1 s.2.2.2.2.2.2.2.2.2.2.2.2) (fun s => I s.1 s.2.1 s.2.2.1 s.2.2.2.1 s.2.2.2.2.1 s.2.2.2.2.2.1 s.2.2.2.2.2.2.1 s.2.2.2.2.2.2.2.1 s.2.2.2.2.2.2.2.2.1 s.2.2.2.2.2.2.2.2.2.1 s.2.2.2.2.2.2.2.2.2.2.1 s.2.2.2.2.2.2.2.2.2.2.2.1 s.2.2.2.2.2.2.2.2.2.2.2.2) (fun s => μ s.1 s.2.1 s.2.2.1 s.2.2.2.1 s.2.2.2.2.1 s.2.2.2.2.2.1 s.2.2.2.2.2.2.1 s.2.2.2.2.2.2.2.1 s.2.2.2.2.2.2.2.2.1 s.2.2.2.2.2.2.2.2.2.1 s.2.2.2.2.2.2.2.2.2.2.1 s.2.2.2.2.2.2.2.2.2.2.2.1 s.2.2.2.2.2.2.2.2.2.2.2.2) (fun n s hI hk => hs n s.1 s.2.1 s.2.2.1 s.2.2.2.1 s.2.2.2.2.1 s.2.2.2.2.2.1 s.2.2.2.2.2.2.1 s.2.2.2.2.2.2.2.1 s.2.2.2.2.2.2.2.2.1 s.2.2.2.2.2.2.2.2.2.1 s.2.2.2.2.2.2.2.2.2.2.1 s.2.2.2.2.2.2.2.2.2.2.2.1 s.2.2.2.2.2.2.2.2.2.2.2.2 hI (fun b1 b2 b3 b4 b5 b6 b7 b8 b9 b10 b11 b12 b13 h9 hm => hk (b1, b2, b3, b4, b5, b6, b7, b8, b9, b10, b11, b12, b13) h9 hm)) (a1, a2, a3, a4, a5, a6, a7, a8, a9, a10, a11, a12, a13) h
theorem lp14 {A1 A2 A3 A4 A5 A6 A7 A8 A9 A10 A11 A12 A13 A14 : Type} (W : Nat → A1 → A2 → A3 → A4 → A5 → A6 → A7 → A8 → A9 → A10 → A11 → A12 → A13 → A14 → Prop) (I : A1 → A2 → A3 → A4 → A5 → A6 → A7 → A8 → A9 → A10 → A11 → A12 → A13 → A14 → Prop) (μ : A1 → A2 → A3 → A4 → A5 → A6 → A7 → A8 → A9 → A10 → A11 → A12 → A13 → A14 → Nat) (hs : ∀ (n : Nat) (a1 : A1) (a2 : A2) (a3 : A3) (a4 : A4) (a5 : A5) (a6 : A6) (a7 : A7) (a8 : A8) (a9 : A9) (a10 : A10) (a11 : A11) (a12 : A12) (a13 : A13) (a14 : A14), I a1 a2 a3 a4 a5 a6 a7 a8 a9 a10 a11 a12 a13 a14 → (∀ (b1 : A1) (b2 : A2) (b3 : A3) (b4 : A4) (b5 : A5) (b6 : A6) (b7 : A7) (b8 : A8) (b9 : A9) (b10 : A10) (b11 : A11) (b12 : A12) (b13 : A13) (b14 : A14), I b1 b2 b3 b4 b5 b6 b7 b8 b9 b10 b11 b12 b13 b14 → μ b1 b2 b3 b4 b5 b6 b7 b8 b9 b10 b11 b12 b13 b14 < μ a1 a2 a3 a4 a5 a6 a7 a8 a9 a10 a11 a12 a13 a14 → W n b1 b2 b3 b4 b5 b6 b7 b8 b9 b10 b11 b12 b13 b14) → W (n + 1) a1 a2 a3 a4 a5 a6 a7 a8 a9 a10 a11 a12 a13 a14) (a1 : A1) (a2 : A2) (a3 : A3) (a4 : A4) (a5 : A5) (a6 : A6) (a7 : A7) (a8 : A8) (a9 : A9) (a10 : A10) (a11 : A11) (a12 : A12) (a13 : A13) (a14 : A14) (h : I a1 a2 a3 a4 a5 a6 a7 a8 a9 a10 a11 a12 a13 a14) : ∃ n, W n a1 a2 a3 a4 a5 a6 a7 a8 a9 a10 a11 a12 a13 a14 :=
  loop_m (σ := A1 × A2 × A3 × A4 × A5 × A6 × A7 × A8 × A9 × A10 × A11 × A12 × A13 × A14) (fun n s => W n s.1 s.2.1 s.2.2.1 s.2.2.2.1 s.2.2.2.2.1 s.2.2.2.2.2.1 s.2.2.2.2.2.2.1 s.2.2.2.2.2.2.2.1 s.2.2.2.2.2.2.2.2.1 s.2.2.2.2.2.2.2.2.2.1 s.2.2.2.2.2.2.2.2.2.2.1 s.2.2.2.2.2.2.2.2.2.2.2.1 s.2.2.2.2.2.2.2.2.2.2.2.2.1 s.2.2.2.2.2.2.2.2.2.2.2.2.2) (fun s => I s.1 s.2.1 s.2.2.1 s.2.2.2.1 s.2.2.2.2.1 s.2.2.2.2.2.1 s.2.2.2.2.2.2.1 s.2.2.2.2.2.2.2.1 s.2.2.2.2.2.2.2.2.1 s.2.2.2.2.2.2.2.2.2.1 s.2.2.2.2.2.2.2.2.2.2.1 s.2.2.2.2.2.2.2.2.2.2.2.1 s.2.2.2.2.2.2.2.2.2.2.2.2.1 s.2.2.2.2.2.2.2.2.2.2.2.2.2) (fun s => μ s.1 s.2.1 s.2.2.1 s.2.2.2.1 s.2.2.2.2.1 s.2.2.2.2.2.1 s.2.2.2.2.2.2.1 s.2.2.2.2.2.2.2.1 s.2.2.2.2.2.2.2.2.1 s.2.2.2.2.2.2.2.2.2.1 s.2.2.2.2.2.2.2.2.2.2.1 s.2.2.2.2.2.2.2.2.2.2.2.1 s.2.2.2.2.2.2.2.2.2.2.2.2.1 s.2.2.2.2.2.2.2.2.2.2.2.2.2) (fun n s hI hk => hs n s.1 s.2.1 s.2.2.1 s.2.2.2.1 s.2.2.2.2.1 s.2.2.2.2.2.1 s.2.2.2.2.2.2.1 s.2.2.2.2.2.2.2.1 s.2.2.2.2.2.2.2.2.1 s.2.2.2.2.2.2.2.2.2.1 s.2.2.2.2.2.2.2.2.2.2.1 s.2.2.2.2.2.2.2.2.2.2.2.1 s.2.2.2.2.2.2.2.2.2.2.2.2.1 s.2.2.2.2.2.2.2.2.2.2.2.2.2 hI (fun b1 b2 b3 b4 b5 b6 b7 b8 b9 b10 b11 b12 b13 b14 h9 hm => hk (b1, b2, b3, b4, b5, b6, b7, b8, b9, b10, b11, b12, b13, b14) h9 hm)) (a1, a2, a3, a4, a5, a6, a7, a8, a9, a10, a11, a12, a13, a14) h
theorem lp15 {A1 A2 A3 A4 A5 A6 A7 A8 A9 A10 A11 A12 A13 A14 A15 : Type} (W : Nat → A1 → A2 → A3 → A4 → A5 → A6 → A7 → A8 → A9 → A10 → A11 → A12 → A13 → A14 → A15 → Prop) (I : A1 → A2 → A3 → A4 → A5 → A6 → A7 → A8 → A9 → A10 → A11 → A12 → A13 → A14 → A15 → Prop) (μ : A1 → A2 → A3 → A4 → A5 → A6 → A7 → A8 → A9 → A10 → A11 → A12 → A13 → A14 → A15 → Nat) (hs : ∀ (n : Nat) (a1 : A1) (a2 : A2) (a3 : A3) (a4 : A4) (a5 : A5) (a6 : A6) (a7 : A7) (a8 : A8) (a9 : A9) (a10 : A10) (a11 : A11) (a12 : A12) (a13 : A13) (a14 : A14) (a15 : A15), I a1 a2 a3 a4 a5 a6 a7 a8 a9 a10 a11 a12 a13 a14 a15 → (∀ (b1 : A1) (b2 : A2) (b3 : A3) (b4 : A4) (b5 : A5) (b6 : A6) (b7 : A7) (b8 : A8) (b9 : A9) (b10 : A10) (b11 : A11) (b12 : A12) (b13 : A13) (b14 : A14) (b15 : A15), I b1 b2 b3 b4 b5 b6 b7 b8 b9 b10 b11 b12 b13 b14 b15 → μ b1 b2 b3 b4 b5 b6 b7 b8 b9 b10 b11 b12 b13 b14 b15 < μ a1 a2 a3 a4 a5 a6 a7 a8 a9 a10 a11 a12 a13 a14 a15 → W n b1 b2 b3 b4 b5 b6 b7 b8 b9 b10 b11 b12 b13 b14 b15) → W (n + 1) a1 a2 a3 a4 a5 a6 a7 a8 a9 a10 a11 a12 a13 a14 a15) (a1 : A1) (a2 : A2) (a3 : A3) (a4 : A4) (a5 : A5) (a6 : A6) (a7 : A7) (a8 : A8) (a9 : A9) (a10 : A10) (a11 : A11) (a12 : A12) (a13 : A13) (a14 : A14) (a15 : A15) (h : I a1 a2 a3 a4 a5 a6 a7 a8 a9 a10 a11 a12 a13 a14 a15) : ∃ n, W n a1 a2 a3 a4 a5 a6 a7 a8 a9 a10 a11 a12 a13 a14 a15 :=
  loop_m (σ := A1 × A2 × A3 × A4 × A5 × A6 × A7 × A8 × A9 × A10 × A11 × A12 × A13 × A14 × A15) (fun n s => W n s.1 s.2.1 s.2.2.1 s.2.2.2.1 s.2.2.2.2.1 s.2.2.2.2.2.1 s.2.2.2.2.2.2.1 s.2.2.2.2.2.2.2.1 s.2.2.2.2.2.2.2.2.1 s.2.2.2.2.2.2.2.2.2.1 s.2.2.2.2.2.2.2.2.2.2.1 s.2.2.2.2.2.2.2.2.2.2.2.1 s.2.2.2.2.2.2.2.2.2.2.2.2.1 s.2.2.2.2.2.2.2.2.2.2.2.2.2.1 s.2.2.2.2.2.2.2.2.2.2.2.2.2.2) (fun s => I s.1 s.2.1 s.2.2.1 s.2.2.2.1 s.2.2.2.2.1 s.2.2.2.2.2.1 s.2.2.2.2.2.2.1 s.2.2.2.2.2.2.2.1 s.2.2.2.2.2.2.2.2.1 s.2.2.2.2.2.2.2.2.2.1 s.2.2.2.2.2.2.2.2.2.2.1 s.2.2.2.2.2.2.2.2.2.2.2.1 s.2.2.2.2.2.2.2.2.2.2.2.2.1 s.2.2.2.2.2.2.2.2.2.2.2.2.2.1 s.2.2.2.2.2.2.2.2.2.2.2.2.2.2) (fun s => μ s.1 s.2.1 s.2.2.1 s.2.2.2.1 s.2.2.2.2.1 s.2.2.2.2.2.1 s.2.2.2.2.2.2.1 s.2.2.2.2.2.2.2.1 s.2.2.2.2.2.2.2.2.1 s.2.2.2.2.2.2.2.2.2.1 s.2.2.2.2.2.2.2.2.2.2.1 s.2.2.2.2.2.2.2.2.2.2.2.1 s.2.2.2.2.2.2.2.2.2.2.2.2.1 s.2.2.2.2.2.2.2.2.2.2.2.2.2.1 s.2.2.2.2.2.2.2.2.2.2.2.2.2.2) (fun n s hI hk => hs n s.1 s.2.1 s.2.2.1 s.2.2.2.1 s.2.2.2.2.1 s.2.2.2.2.2.1 s.2.2.2.2.2.2.1 s.2.2.2.2.2.2.2.1 s.2.2.2.2.2.2.2.2.1 s.2.2.2.2.2.2.2.2.2.1 s.2.2.2.2.2.2.2.2.2.2.1 s.2.2.2.2.2.2.2.2.2.2.2.1 s.2.2.2.2.2.2.2.2.2.2.2.2.1 s.2.2.2.2.2.2.2.2.2.2.2.2.2.1 s.2.2.2.2.2.2.2.2.2.2.2.2.2.2 hI (fun b1 b2 b3 b4 b5 b6 b7 b8 b9 b10 b11 b12 b13 b14 b15 h9 hm => hk (b1, b2, b3, b4, b5, b6, b7, b8, b9, b10, b11, b12, b13, b14, b15) h9 hm)) (a1, a2, a3, a4, a5, a6, a7, a8, a9, a10, a11, a12, a13, a14, a15) h
theorem lp16 {A1 A2 A3 A4 A5 A6 A7 A8 A9 A10 A11 A12 A13 A14 A15 A16 : Type} (W : Nat → A1 → A2 → A3 → A4 → A5 → A6 → A7 → A8 → A9 → A10 → A11 → A12 → A13 → A14 → A15 → A16 → Prop) (I : A1 → A2 → A3 → A4 → A5 → A6 → A7 → A8 → A9 → A10 → A11 → A12 → A13 → A14 → A15 → A16 → Prop) (μ : A1 → A2 → A3 → A4 → A5 → A6 → A7 → A8 → A9 → A10 → A11 → A12 → A13 → A14 → A15 → A16 → Nat) (hs : ∀ (n : Nat) (a1 : A1) (a2 : A2) (a3 : A3) (a4 : A4) (a5 : A5) (a6 : A6) (a7 : A7) (a8 : A8) (a9 : A9) (a10 : A10) (a11 : A11) (a12 : A12) (a13 : A13) (a14 : A14) (a15 : A15) (a16 : A16), I a1 a2 a3 a4 a5 a6 a7 a8 a9 a10 a11 a12 a13 a14 a15 a16 → (∀ (b1 : A1) (b2 : A2) (b3 : A3) (b4 : A4) (b5 : A5) (b6 : A6) (b7 : A7) (b8 : A8) (b9 : A9) (b10 : A10) (b11 : A11) (b12 : A12) (b13 : A13) (b14 : A14) (b15 : A15) (b16 : A16), I b1 b2 b3 b4 b5 b6 b7 b8 b9 b10 b11 b12 b13 b14 b15 b16 → μ b1 b2 b3 b4 b5 b6 b7 b8 b9 b10 b11 b12 b13 b14 b15 b16 < μ a1 a2 a3 a4 a5 a6 a7 a8 a9 a10 a11 a12 a13 a14 a15 a16 → W n b1 b2 b3 b4 b5 b6 b7 b8 b9 b10 b11 b12 b13 b14 b15 b16) → W (n + 1) a1 a2 a3 a4 a5 a6 a7 a8 a9 a10 a11 a12 a13 a14 a15 a16) (a1 : A1) (a2 : A2) (a3 : A3) (a4 : A4) (a5 : A5) (a6 : A6) (a7 : A7) (a8 : A8) (a9 : A9) (a10 : A10) (a11 : A11) (a12 : A12) (a13 : A13) (a14 : A14) (a15 : A15) (a16 : A16) (h : I a1 a2 a3 a4 a5 a6 a7 a8 a9 a10 a11 a12 a13 a14 a15 a16) : ∃ n, W n a1 a2 a3 a4 a5 a6 a7 a8 a9 a10 a11 a12 a13 a14 a15 a16 :=
  loop_m (σ := A1 × A2 × A3 × A4 × A5 × A6 × A7 × A8 × A9 × A10 × A11 × A12 × A13 × A14 × A15 × A16) (fun n s => W n s.1 s.2.1 s.2.2.1 s.2.2.2.1 s.2.2.2.2.1 s.2.2.2.2.2.1 s.2.2.2.2.2.2.1 s.2.2.2.2.2.2.2.1 s.2.2.2.2.2.2.2.2.1 s.2.2.2.2.2.2.2.2.2.1 s.2.2.2.2.2.2.2.2.2.2.1 s.2.2.2.2.2.2.2.2.2.2.2.1 s.2.2.2.2.2.2.2.2.2.2.2.2.1 s.2.2.2.2.2.2.2.2.2.2.2.2.2.1 s.2.2.2.2.2.2.2.2.2.2.2.2.2.2.1 s.2.2.2.2.2.2.2.2.2.2.2.2.2.2.2) (fun s => I s.1 s.2.1 s.2.2.1 s.2.2.2.1 s.2.2.2.2.1 s.2.2.2.2.2.1 s.2.2.2.2.2.2.1 s.2.2.2.2.2.2.2.1 s.2.2.2.2.2.2.2.2.1 s.2.2.2.2.2.2.2.2.2.1 s.2.2.2.2.2.2.2.2.2.2.1 s.2.2.2.2.2.2.2.2.2.2.2.1 s.2.2.2.2.2.2.2.2.2.2.2.2.1 s.2.2.2.2.2.2.2.2.2.2.2.2.2.1 s.2.2.2.2.2.2.2.2.2.2.2.2.2.2.1 s.2.2.2.2.2.2.2.2.2.2.2.2.2.2.2) (fun s => μ s.1 s.2.1 s.2.2.1 s.2.2.2.1 s.2.2.2.2.1 s.2.2.2.2.2.1 s.2.2.2.2.2.2.1 s.2.2.2.2.2.2.2.1 s.2.2.2.2.2.2.2.2.1 s.2.2.2.2.2.2.2.2.2.1 s.2.2.2.2.2.2.2.2.2.2.1 s.2.2.2.2.2.2.2.2.2.2.2.1 s.2.2.2.2.2.2.2.2.2.2.2.2.1 s.2.2.2.2.2.2.2.2.2.2.2.2.2.1 s.2.2.2.2.2.2.2.2.2.2.2.2.2.2.1 s.2.2.2.2.2.2.2.2.2.2.2.2.2.2.2) (fun n s hI hk => hs n s.1 s.2.1 s.2.2.1 s.2.2.2.1 s.2.2.2.2.1 s.2.2.2.2.2.1 s.2.2.2.2.2.2.1 s.2.2.2.2.2.2.2.1 s.2.2.2.2.2.2.2.2.1 s.2.2.2.2.2.2.2.2.2.1 s.2.2.2.2.2.2.2.2.2.2.1 s.2.2.2.2.2.2.2.2.2.2.2.1 s.2.2.2.2.2.2.2.2.2.2.2.2.1 s.2.2.2.2.2.2.2.2.2.2.2.2.2.1 s.2.2.2.2.2.2.2.2.2.2.2.2.2.2.1 s.2.2.2.2.2.2.2.2.2.2.2.2.2.2.2 hI (fun b1 b2 b3 b4 b5 b6 b7 b8 b9 b10 b11 b12 b13 b14 b15 b16 h9 hm => hk (b1, b2, b3, b4, b5, b6, b7, b8, b9, b10, b11, b12, b13, b14, b15, b16) h9 hm)) (a1, a2, a3, a4, a5, a6, a7, a8, a9, a10, a11, a12, a13, a14, a15, a16) h
theorem pk_least (P : Nat → Prop) (h : ∃ k, P k) : ∃ k, P k ∧ ∀ j, j < k → ¬ P j := by
  obtain ⟨k, hk⟩ := h
  induction k using Nat.strongRecOn with
  | ind k ih =>
    by_cases e : ∃ j, j < k ∧ P j
    · obtain ⟨j, hj, pj⟩ := e
      exact ih j hj pj
    · exact ⟨k, hk, fun j hj pj => e ⟨j, hj, pj⟩⟩
theorem rp1 {ρ A1 : Type} (W : Nat → (ρ → Prop) → A1 → Prop) (ok : A1 → Prop) (μ : A1 → Nat) (val : A1 → ρ)
    (hs : ∀ (d : Nat) (post : ρ → Prop) (a1 : A1), ok a1 → post (val a1) → (∀ (post' : ρ → Prop) (b1 : A1), ok b1 → μ b1 < μ a1 → post' (val b1) → W d post' b1) → W (d + 1) post a1) :
    ∀ (d : Nat) (post : ρ → Prop) (a1 : A1), ok a1 → μ a1 < d → post (val a1) → W d post a1 := by
  intro d
  induction d with
  | zero => intro post a1 _ h; omega
  | succ d ih =>
    intro post a1 ho hm hp
    exact hs d post a1 ho hp (fun post' b1 ho' hm' hp' => ih post' b1 ho' (by omega) hp')
theorem rp2 {ρ A1 A2 : Type} (W : Nat → (ρ → Prop) → A1 → A2 → Prop) (ok : A1 → A2 → Prop) (μ : A1 → A2 → Nat) (val : A1 → A2 → ρ)
    (hs : ∀ (d : Nat) (post : ρ → Prop) (a1 : A1) (a2 : A2), ok a1 a2 → post (val a1 a2) → (∀ (post' : ρ → Prop) (b1 : A1) (b2 : A2), ok b1 b2 → μ b1 b2 < μ a1 a2 → post' (val b1 b2) → W d post' b1 b2) → W (d + 1) post a1 a2) :
    ∀ (d : Nat) (post : ρ → Prop) (a1 : A1) (a2 : A2), ok a1 a2 → μ a1 a2 < d → post (val a1 a2) → W d post a1 a2 := by
  intro d
  induction d with
  | zero => intro post a1 a2 _ h; omega
  | succ d ih =>
    intro post a1 a2 ho hm hp
    exact hs d post a1 a2 ho hp (fun post' b1 b2 ho' hm' hp' => ih post' b1 b2 ho' (by omega) hp')
theorem rp3 {ρ A1 A2 A3 : Type} (W : Nat → (ρ → Prop) → A1 → A2 → A3 → Prop) (ok : A1 → A2 → A3 → Prop) (μ : A1 → A2 → A3 → Nat) (val : A1 → A2 → A3 → ρ)
    (hs : ∀ (d : Nat) (post : ρ → Prop) (a1 : A1) (a2 : A2) (a3 : A3), ok a1 a2 a3 → post (val a1 a2 a3) → (∀ (post' : ρ → Prop) (b1 : A1) (b2 : A2) (b3 : A3), ok b1 b2 b3 → μ b1 b2 b3 < μ a1 a2 a3 → post' (val b1 b2 b3) → W d post' b1 b2 b3) → W (d + 1) post a1 a2 a3) :
    ∀ (d : Nat) (post : ρ → Prop) (a1 : A1) (a2 : A2) (a3 : A3), ok a1 a2 a3 → μ a1 a2 a3 < d → post (val a1 a2 a3) → W d post a1 a2 a3 := by
  intro d
  induction d with
  | zero => intro post a1 a2 a3 _ h; omega
  | succ d ih =>
    intro post a1 a2 a3 ho hm hp
    exact hs d post a1 a2 a3 ho hp (fun post' b1 b2 b3 ho' hm' hp' => ih post' b1 b2 b3 ho' (by omega) hp')
theorem rp4 {ρ A1 A2 A3 A4 : Type} (W : Nat → (ρ → Prop) → A1 → A2 → A3 → A4 → Prop) (ok : A1 → A2 → A3 → A4 → Prop) (μ : A1 → A2 → A3 → A4 → Nat) (val : A1 → A2 → A3 → A4 → ρ)
    (hs : ∀ (d : Nat) (post : ρ → Prop) (a1 : A1) (a2 : A2) (a3 : A3) (a4 : A4), ok a1 a2 a3 a4 → post (val a1 a2 a3 a4) → (∀ (post' : ρ → Prop) (b1 : A1) (b2 : A2) (b3 : A3) (b4 : A4), ok b1 b2 b3 b4 → μ b1 b2 b3 b4 < μ a1 a2 a3 a4 → post' (val b1 b2 b3 b4) → W d post' b1 b2 b3 b4) → W (d + 1) post a1 a2 a3 a4) :
    ∀ (d : Nat) (post : ρ → Prop) (a1 : A1) (a2 : A2) (a3 : A3) (a4 : A4), ok a1 a2 a3 a4 → μ a1 a2 a3 a4 < d → post (val a1 a2 a3 a4) → W d post a1 a2 a3 a4 := by
  intro d
  induction d with
  | zero => intro post a1 a2 a3 a4 _ h; omega
  | succ d ih =>
    intro post a1 a2 a3 a4 ho hm hp
    exact hs d post a1 a2 a3 a4 ho hp (fun post' b1 b2 b3 b4 ho' hm' hp' => ih post' b1 b2 b3 b4 ho' (by omega) hp')
theorem rp5 {ρ A1 A2 A3 A4 A5 : Type} (W : Nat → (ρ → Prop) → A1 → A2 → A3 → A4 → A5 → Prop) (ok : A1 → A2 → A3 → A4 → A5 → Prop) (μ : A1 → A2 → A3 → A4 → A5 → Nat) (val : A1 → A2 → A3 → A4 → A5 → ρ)
    (hs : ∀ (d : Nat) (post : ρ → Prop) (a1 : A1) (a2 : A2) (a3 : A3) (a4 : A4) (a5 : A5), ok a1 a2 a3 a4 a5 → post (val a1 a2 a3 a4 a5) → (∀ (post' : ρ → Prop) (b1 : A1) (b2 : A2) (b3 : A3) (b4 : A4) (b5 : A5), ok b1 b2 b3 b4 b5 → μ b1 b2 b3 b4 b5 < μ a1 a2 a3 a4 a5 → post' (val b1 b2 b3 b4 b5) → W d post' b1 b2 b3 b4 b5) → W (d + 1) post a1 a2 a3 a4 a5) :
    ∀ (d : Nat) (post : ρ → Prop) (a1 : A1) (a2 : A2) (a3 : A3) (a4 : A4) (a5 : A5), ok a1 a2 a3 a4 a5 → μ a1 a2 a3 a4 a5 < d → post (val a1 a2 a3 a4 a5) → W d post a1 a2 a3 a4 a5 := by
  intro d
  induction d with
  | zero => intro post a1 a2 a3 a4 a5 _ h; omega
  | succ d ih =>
    intro post a1 a2 a3 a4 a5 ho hm hp
    exact hs d post a1 a2 a3 a4 a5 ho hp (fun post' b1 b2 b3 b4 b5 ho' hm' hp' => ih post' b1 b2 b3 b4 b5 ho' (by omega) hp')
theorem rp6 {ρ A1 A2 A3 A4 A5 A6 : Type} (W : Nat → (ρ → Prop) → A1 → A2 → A3 → A4 → A5 → A6 → Prop) (ok : A1 → A2 → A3 → A4 → A5 → A6 → Prop) (μ : A1 → A2 → A3 → A4 → A5 → A6 → Nat) (val : A1 → A2 → A3 → A4 → A5 → A6 → ρ)
    (hs : ∀ (d : Nat) (post : ρ → Prop) (a1 : A1) (a2 : A2) (a3 : A3) (a4 : A4) (a5 : A5) (a6 : A6), ok a1 a2 a3 a4 a5 a6 → post (val a1 a2 a3 a4 a5 a6) → (∀ (post' : ρ → Prop) (b1 : A1) (b2 : A2) (b3 : A3) (b4 : A4) (b5 : A5) (b6 : A6), ok b1 b2 b3 b4 b5 b6 → μ b1 b2 b3 b4 b5 b6 < μ a1 a2 a3 a4 a5 a6 → post' (val b1 b2 b3 b4 b5 b6) → W d post' b1 b2 b3 b4 b5 b6) → W (d + 1) post a1 a2 a3 a4 a5 a6) :
    ∀ (d : Nat) (post : ρ → Prop) (a1 : A1) (a2 : A2) (a3 : A3) (a4 : A4) (a5 : A5) (a6 : A6), ok a1 a2 a3 a4 a5 a6 → μ a1 a2 a3 a4 a5 a6 < d → post (val a1 a2 a3 a4 a5 a6) → W d post a1 a2 a3 a4 a5 a6 := by
  intro d
  induction d with
  | zero => intro post a1 a2 a3 a4 a5 a6 _ h; omega
  | succ d ih =>
    intro post a1 a2 a3 a4 a5 a6 ho hm hp
    exact hs d post a1 a2 a3 a4 a5 a6 ho hp (fun post' b1 b2 b3 b4 b5 b6 ho' hm' hp' => ih post' b1 b2 b3 b4 b5 b6 ho' (by omega) hp')
theorem rec_p {σ ρ : Type} (W : Nat → (ρ → Prop) → σ → Prop) (ok : σ → Prop) (μ : σ → Nat) (val : σ → ρ)
    (hs : ∀ d s post, ok s → post (val s) → (∀ s' post', ok s' → μ s' < μ s → post' (val s') → W d post' s') → W (d + 1) post s) :
    ∀ d s post, ok s → μ s < d → post (val s) → W d post s := by
  intro d
  induction d with
  | zero => intro s post _ h; omega
  | succ d ih =>
    intro s post ho hm hp
    exact hs d s post ho hp (fun s' post' ho' hm' hp' => ih s' post' ho' (by omega) hp')
theorem rec_q {σ ρ : Type} (W : Nat → (ρ → Prop) → σ → Prop) (ok : σ → Prop) (μ : σ → Nat) (Q : σ → ρ → Prop)
    (hs : ∀ d s post, ok s → (∀ r, Q s r → post r) → (∀ s' post', ok s' → μ s' < μ s → (∀ r, Q s' r → post' r) → W d post' s') → W (d + 1) post s) :
    ∀ d s post, ok s → μ s < d → (∀ r, Q s r → post r) → W d post s := by
  intro d
  induction d with
  | zero => intro s post _ h; omega
  | succ d ih =>
    intro s post ho hm hp
    exact hs d s post ho hp (fun s' post' ho' hm' hp' => ih s' post' ho' (by omega) hp')
def bx_sum (f : Nat → Int32) : Nat → Int32
  | 0 => 0
  | n + 1 => bx_sum f n + f n
theorem ek_u {A : Prop} {B : Nat → Prop} {k N : Nat} (hk : k < N) (h : B k) : (some k = none → A) ∧ (∀ y : Nat, some k = some y → (y < N ∧ B y)) :=
  ⟨fun z => absurd z (Option.some_ne_none k), fun _ e => (by cases e; exact ⟨hk, h⟩)⟩
theorem ek_nu {A : Prop} {B : Nat → Prop} (h : A) : ((none : Option Nat) = none → A) ∧ (∀ y : Nat, (none : Option Nat) = some y → B y) :=
  ⟨fun _ => h, fun _ e => (by cases e)⟩
theorem ek_if {c d A B : Prop} (e : c ↔ d) (f : d → A) (g : ¬ d → B) : (c → A) ∧ (¬ c → B) :=
  ⟨fun z => f (e.mp z), fun z => g (fun y => z (e.mpr y))⟩
theorem ek_v {α : Sort _} {P : α → Prop} {a b : α} (e : a = b) (h : P b) : P a := e ▸ h
theorem co_some {x : Option Nat} {A : Prop} {B : Nat → Prop} (i : Nat) (h : B i) (hx : x = some i := by rfl) : (x = none → A) ∧ (∀ y : Nat, x = some y → B y) := by
  subst hx
  exact ⟨fun e => (nomatch e), fun y e => Option.some.inj e ▸ h⟩
theorem co_none {x : Option Nat} {A : Prop} {B : Nat → Prop} (h : A) (hx : x = none := by rfl) : (x = none → A) ∧ (∀ y : Nat, x = some y → B y) := by
  subst hx
  exact ⟨fun _ => h, fun y e => (nomatch e)⟩
theorem co_any {x : Option Nat} {A : Prop} {B : Nat → Prop} (hn : x = none → A) (hs : ∀ i : Nat, x = some i → B i) : (x = none → A) ∧ (∀ y : Nat, x = some y → B y) := ⟨hn, hs⟩
theorem co_2 {P : Nat → Prop} (h0 : P 0) (h1 : P 1) {i : Nat} (hi : i < 2) : P i :=
  match i, hi with
  | 0, _ => h0
  | 1, _ => h1
theorem co_3 {P : Nat → Prop} (h0 : P 0) (h1 : P 1) (h2 : P 2) {i : Nat} (hi : i < 3) : P i :=
  match i, hi with
  | 0, _ => h0
  | 1, _ => h1
  | 2, _ => h2
theorem co_4 {P : Nat → Prop} (h0 : P 0) (h1 : P 1) (h2 : P 2) (h3 : P 3) {i : Nat} (hi : i < 4) : P i :=
  match i, hi with
  | 0, _ => h0
  | 1, _ => h1
  | 2, _ => h2
  | 3, _ => h3
theorem co_dec {N : Nat} {P : Nat → Prop} [DecidablePred P] (h : (List.range N).all (fun i => decide (P i)) = true) {i : Nat} (hi : i < N) : P i := by
  have := List.all_eq_true.mp h i (List.mem_range.mpr hi)
  exact of_decide_eq_true this
theorem co_tab {α : Type} {l : List α} {d : α} {P : α → Prop} (h : ∀ a, a ∈ l → P a) {i : Nat} (hi : i < l.length) : P (l.getD i d) := by
  rw [List.getD_eq_getElem?_getD, List.getElem?_eq_getElem hi]
  exact h _ (List.getElem_mem hi)
theorem pk_mu {x : Int32} {L : Nat} (h0 : ¬ x < 0) (h : ¬ nI L ≤ x) (hL : L < 2 ^ 31) : ∃ j : Nat, j < L ∧ x = nI j ∧ x + 1 = nI (j + 1) ∧ x.toNatClampNeg = j ∧ L - (x + 1).toNatClampNeg < L - x.toNatClampNeg := by
  obtain ⟨j, hj, rfl⟩ := nI_of h0
  have hl : j < L := Nat.not_le.mp fun q => h (nI_le q hj)
  refine ⟨j, hl, rfl, nI_1 j, nI_clamp hj, ?_⟩
  rw [nI_1, nI_clamp (by omega), nI_clamp hj]
  omega
theorem op_s {α : Type} {r : Option α} {A : Prop} {B : α → Prop} {y : α} (h : r = some y) (b : B y) : (r = none → A) ∧ ∀ z, r = some z → B z :=
  ⟨fun e => (by rw [h] at e; cases e), fun z e => (by rw [h] at e; cases e; exact b)⟩
def l_holds {α : Type} (a : Nat → Option Nat) (LP : List Nat) (p : Nat → α) (c : Nat) (b : Nat → α) : Prop :=
  ∀ j, j < c → ∃ y, a j = some y ∧ y ∈ LP ∧ p y = b j
theorem l_holds_0 {α : Type} {a : Nat → Option Nat} {LP : List Nat} {p b : Nat → α} : l_holds a LP p 0 b := fun j h => absurd h (Nat.not_lt_zero j)
theorem l_in_new (LP : List Nat) (q : Nat) : q ∈ LP ++ [q] := List.mem_append.mpr (Or.inr (List.mem_singleton.mpr rfl))
def l_sum (b : Nat → Int32) : Nat → Int32
  | 0 => 0
  | k + 1 => l_sum b k + b k
theorem sb_shr0 (x : Int32) : x >>> ((0 : Int32) &&& 31) = x := by
  rw [show ((0 : Int32) &&& 31) = 0 by decide]
  simp
theorem sb_shl0 (x : Int32) : x <<< ((0 : Int32) &&& 31) = x := by
  rw [show ((0 : Int32) &&& 31) = 0 by decide]
  simp
theorem sb_cl0 : (0 : Int32).toNatClampNeg = 0 := by decide
theorem sb_m1 {p : Nat} (h : 0 < p) : nI p + (-1) = nI (p - 1) := by
  obtain ⟨q, rfl⟩ : ∃ q, p = q + 1 := ⟨p - 1, by omega⟩
  exact pk_m1 q
def sb_b (c : Nat) : Int32 := (nI c).toInt8.toInt32
theorem sb_byte : ∀ c, c < 256 → sb_b c &&& 255 = nI c ∧ ((nI c).toUInt32 % 65536).toInt32 = nI c ∧ nI c ≤ 255 := by decide +kernel
def sb_Fit (a : Nat → Int32) : Prop := ∀ j, fits .byte (.int (a j)) = true
def sb_Lat (t : Nat → Nat) (n : Nat) (a : Nat → Int32) : Prop := ∀ j, j < n → t j < 256 ∧ a j = sb_b (t j)
theorem sb_fitB (c : Nat) : fits .byte (.int (sb_b c)) = true := pk_fb _
theorem sb_fit0 : sb_Fit (fun _ => 0) := fun _ => by
  show fits .byte (.int 0) = true
  decide
theorem sb_fitU {a : Nat → Int32} {k : Nat} {x : Int32} (h : sb_Fit a) (hx : fits .byte (.int x) = true) : sb_Fit (upd a k x) := by
  intro j
  by_cases e : j = k
  · subst e
    rw [pk_us]
    exact hx
  · rw [pk_un e]
    exact h j
def sb_cat (t : Nat → Nat) (n : Nat) (s : Nat → Nat) : Nat → Nat := fun j => if j < n then t j else s (j - n)
theorem sb_cat_lo {t s : Nat → Nat} {n j : Nat} (h : j < n) : sb_cat t n s j = t j := if_pos h
theorem sb_cat_hi {t s : Nat → Nat} {n j : Nat} : sb_cat t n s (n + j) = s j := by
  show (if n + j < n then t (n + j) else s (n + j - n)) = s j
  rw [if_neg (by omega), Nat.add_sub_cancel_left]
theorem sb_latPut {t s : Nat → Nat} {n w : Nat} {a a' : Nat → Int32} (h : sb_Lat t n a) (hk : ∀ j, j < n → a' j = a j) (hs : ∀ i, i < w → s i < 256 ∧ a' (n + i) = sb_b (s i)) : sb_Lat (sb_cat t n s) (n + w) a' := by
  intro j hj
  by_cases e : j < n
  · rw [sb_cat_lo e, hk j e]
    exact h j e
  · obtain ⟨i, rfl⟩ : ∃ i, j = n + i := ⟨j - n, by omega⟩
    rw [sb_cat_hi]
    exact hs i (by omega)
theorem sb_latKeep {t : Nat → Nat} {n : Nat} {a a' : Nat → Int32} (h : sb_Lat t n a) (hk : ∀ j, j < n → a' j = a j) : sb_Lat t n a' := fun j hj => by
  rw [hk j hj]
  exact h j hj
def sb_cap (q m : Nat) : Nat := if q ≤ m then m else if 2 * m + 2 < q then q else 2 * m + 2
def sb_Room (q m mc ms : Nat) : Prop := q ≤ m ∨ (1 ≤ mc ∧ sb_cap q m ≤ ms ∧ sb_cap q m ≤ 65536)
theorem sb_cap_ge (q m : Nat) : q ≤ sb_cap q m := by
  unfold sb_cap
  split
  · omega
  · split <;> omega
theorem sb_cap_gem (q m : Nat) : m ≤ sb_cap q m := by
  unfold sb_cap
  split
  · omega
  · split <;> omega
theorem sb_cap_le {q m mc ms : Nat} (hm : m ≤ 65536) (hr : sb_Room q m mc ms) : sb_cap q m ≤ 65536 := by
  rcases hr with h | h
  · rw [sb_cap, if_pos h]
    exact hm
  · exact h.2.2
theorem sb_at {P : Int32 → Prop} {x y : Int32} (e : x = y) (h : P y) : P x := e ▸ h
def sb_dg (w : Nat) : Nat := if w < 10 then 1 else if w < 100 then 2 else if w < 1000 then 3 else if w < 10000 then 4 else if w < 100000 then 5 else if w < 1000000 then 6 else if w < 10000000 then 7 else if w < 100000000 then 8 else if w < 1000000000 then 9 else 10
def sb_dec (v : Nat) : Nat → Nat := fun i => 48 + v / 10 ^ (sb_dg v - 1 - i) % 10
theorem sb_dg_in (w : Nat) : 1 ≤ sb_dg w ∧ sb_dg w ≤ 10 := by
  unfold sb_dg
  constructor <;> (repeat' split) <;> omega
theorem sb_dg100 {w : Nat} (h : 100 ≤ w) (hw : w < 2 ^ 31) : sb_dg w = sb_dg (w / 100) + 2 := by
  rw [sb_dg, sb_dg, if_neg (show ¬ w < 10 by omega), if_neg (show ¬ w < 100 by omega)]
  by_cases h3 : w < 1000
  · rw [if_pos h3, if_pos (show w / 100 < 10 by omega)]
  rw [if_neg h3, if_neg (show ¬ w / 100 < 10 by omega)]
  by_cases h4 : w < 10000
  · rw [if_pos h4, if_pos (show w / 100 < 100 by omega)]
  rw [if_neg h4, if_neg (show ¬ w / 100 < 100 by omega)]
  by_cases h5 : w < 100000
  · rw [if_pos h5, if_pos (show w / 100 < 1000 by omega)]
  rw [if_neg h5, if_neg (show ¬ w / 100 < 1000 by omega)]
  by_cases h6 : w < 1000000
  · rw [if_pos h6, if_pos (show w / 100 < 10000 by omega)]
  rw [if_neg h6, if_neg (show ¬ w / 100 < 10000 by omega)]
  by_cases h7 : w < 10000000
  · rw [if_pos h7, if_pos (show w / 100 < 100000 by omega)]
  rw [if_neg h7, if_neg (show ¬ w / 100 < 100000 by omega)]
  by_cases h8 : w < 100000000
  · rw [if_pos h8, if_pos (show w / 100 < 1000000 by omega)]
  rw [if_neg h8, if_neg (show ¬ w / 100 < 1000000 by omega)]
  by_cases h9 : w < 1000000000
  · rw [if_pos h9, if_pos (show w / 100 < 10000000 by omega)]
  rw [if_neg h9, if_neg (show ¬ w / 100 < 10000000 by omega)]
  rw [if_pos (show w / 100 < 100000000 by omega)]
theorem sb_negT {w : Nat} (h : w < 2 ^ 31) : (-nI w).toInt = -(w : Int) := by
  rw [Int32.toInt_neg, nI_toInt h]
  exact Int.bmod_eq_of_le (by omega) (by omega)
theorem sb_nle {a b : Nat} (ha : a < 2 ^ 31) (hb : b < 2 ^ 31) : -nI a ≤ -nI b ↔ b ≤ a := by
  rw [Int32.le_iff_toInt_le, sb_negT ha, sb_negT hb]
  omega
theorem sb_nlt {a b : Nat} (ha : a < 2 ^ 31) (hb : b < 2 ^ 31) : -nI a < -nI b ↔ b < a := by
  rw [Int32.lt_iff_toInt_lt, sb_negT ha, sb_negT hb]
  omega
theorem sb_cmp {A B : Prop} {x : Int32} (v c : Nat) (f : c ≤ v → A) (g : v < c → B) (hv : v < 2 ^ 31) (hx : x = -nI c := by rfl) (hc : c < 2 ^ 31 := by omega) : (-nI v ≤ x → A) ∧ (¬ -nI v ≤ x → B) := by
  subst hx
  rw [sb_nle hv hc]
  exact ⟨f, fun z => g (by omega)⟩
theorem sb_ndiv {w : Nat} (hw : w < 2 ^ 31) : (-nI w) / 100 = -nI (w / 100) := by
  apply Int32.toInt_inj.mp
  have h100 : (100 : Int32).toInt = 100 := by decide
  rw [Int32.toInt_div, sb_negT hw, h100, sb_negT (by omega), Int.neg_tdiv, Int.tdiv_eq_ediv_of_nonneg (by omega), Int.bmod_eq_of_le (by omega) (by omega)]
  omega
theorem sb_nrem {w : Nat} (hw : w < 2 ^ 31) : (-nI (w / 100)) * 100 - (-nI w) = nI (w % 100) := by
  have h := pk_rem (a := w) (d := 100) hw (by decide) (by decide)
  rw [pk_div hw (by decide) (by decide)] at h
  rw [← h]
  show (-nI (w / 100)) * nI 100 - (-nI w) = nI w - nI (w / 100) * nI 100
  rw [Int32.neg_mul, Int32.sub_neg, Int32.add_comm, ← Int32.sub_eq_add_neg]
end
section
/-! ## the ghost log and the states that it tells
a record: kind, slot, record, value, before, back (0: none; n + 1: record n), number -/
abbrev rt_Rc : Type := Nat × Nat × Nat × Int32 × Int32 × Nat × Nat
/-- a state told by a log: rows, first (0: none; n + 1: record n), number, prepared, chain of the changes in effect (latest first), last number -/
abbrev rt_AS : Type := (Nat → Int32) × (Nat → Nat) × (Nat → Nat) × (Nat → Bool) × (Nat → List Nat) × Nat
def rt_rk (x : rt_Rc) : Nat := x.1
def rt_rs (x : rt_Rc) : Nat := x.2.1
def rt_rr (x : rt_Rc) : Nat := x.2.2.1
def rt_rv (x : rt_Rc) : Int32 := x.2.2.2.1
def rt_rb (x : rt_Rc) : Int32 := x.2.2.2.2.1
def rt_rl (x : rt_Rc) : Nat := x.2.2.2.2.2.1
def rt_rn (x : rt_Rc) : Nat := x.2.2.2.2.2.2
def rt_row (a : rt_AS) : Nat → Int32 := a.1
def rt_fi (a : rt_AS) : Nat → Nat := a.2.1
def rt_nu (a : rt_AS) : Nat → Nat := a.2.2.1
def rt_pr (a : rt_AS) : Nat → Bool := a.2.2.2.1
def rt_ch (a : rt_AS) : Nat → List Nat := a.2.2.2.2.1
def rt_ac (a : rt_AS) : Nat := a.2.2.2.2.2
def rt_u {α : Type} (f : Nat → α) (k : Nat) (x : α) : Nat → α := fun j => if j = k then x else f j
theorem rt_us {α : Type} {f : Nat → α} {k : Nat} {x : α} : rt_u f k x k = x := if_pos rfl
theorem rt_uo {α : Type} {f : Nat → α} {k j : Nat} {x : α} (h : j ≠ k) : rt_u f k x j = f j := if_neg h
def rt_hd : List Nat → Nat
  | [] => 0
  | c :: _ => c + 1
/-- what a record does to the rows -/
def rt_rw (x : rt_Rc) (row : Nat → Int32) : Nat → Int32 :=
  if rt_rk x = 1 ∨ rt_rk x = 3 then upd row (rt_rr x) (rt_rv x) else upd row (rt_rr x) (row (rt_rr x) + rt_rv x)
def rt_apC (n : Nat) (x : rt_Rc) (a : rt_AS) : rt_AS :=
  (rt_rw x (rt_row a),
   rt_u (rt_fi a) (rt_rs x) (if rt_fi a (rt_rs x) = 0 then n + 1 else rt_fi a (rt_rs x)),
   rt_u (rt_nu a) (rt_rs x) (if rt_nu a (rt_rs x) = 0 then rt_rn x else rt_nu a (rt_rs x)),
   rt_pr a,
   rt_u (rt_ch a) (rt_rs x) (n :: rt_ch a (rt_rs x)),
   rt_rn x)
def rt_apU (x : rt_Rc) (a : rt_AS) : rt_AS :=
  (rt_rw x (rt_row a), rt_fi a, rt_nu a, rt_pr a, rt_u (rt_ch a) (rt_rs x) (rt_ch a (rt_rs x)).tail, rt_ac a)
def rt_apL (x : rt_Rc) (a : rt_AS) : rt_AS :=
  (rt_row a, rt_u (rt_fi a) (rt_rs x) 0, rt_u (rt_nu a) (rt_rs x) 0, rt_u (rt_pr a) (rt_rs x) false, rt_u (rt_ch a) (rt_rs x) [], rt_ac a)
def rt_apP (x : rt_Rc) (a : rt_AS) : rt_AS :=
  (rt_row a, rt_fi a, rt_nu a, rt_u (rt_pr a) (rt_rs x) true, rt_ch a, rt_ac a)
def rt_ap (n : Nat) (x : rt_Rc) (a : rt_AS) : rt_AS :=
  if rt_rk x ≤ 2 then rt_apC n x a else if rt_rk x ≤ 4 then rt_apU x a else if rt_rk x = 7 then rt_apP x a else rt_apL x a
def rt_A0 : rt_AS := (fun _ => 0, fun _ => 0, fun _ => 0, fun _ => false, fun _ => [], 0)
def rt_A (L : Nat → rt_Rc) : Nat → rt_AS
  | 0 => rt_A0
  | n + 1 => rt_ap n (L n) (rt_A L n)
theorem rt_A_cg {L L' : Nat → rt_Rc} : ∀ {n : Nat}, (∀ j, j < n → L' j = L j) → rt_A L' n = rt_A L n := by
  intro n
  induction n with
  | zero => intro _; rfl
  | succ n ih =>
    intro h
    show rt_ap n (L' n) (rt_A L' n) = rt_ap n (L n) (rt_A L n)
    rw [ih (fun j hj => h j (by omega)), h n (by omega)]
/-- the chain of slot t: links, places, kinds -/
def rt_Cn (L : Nat → rt_Rc) (n t fi : Nat) : List Nat → Prop
  | [] => True
  | c :: cs => (c < n ∧ fi ≤ c + 1 ∧ rt_rs (L c) = t ∧ (rt_rk (L c) = 1 ∨ rt_rk (L c) = 2) ∧ rt_rr (L c) < 12 ∧ rt_rl (L c) = rt_hd cs) ∧ rt_Cn L n t fi cs
theorem rt_Cn_mem {L : Nat → rt_Rc} {n t fi : Nat} : ∀ {cs : List Nat}, rt_Cn L n t fi cs → ∀ c, c ∈ cs → c < n ∧ fi ≤ c + 1 ∧ rt_rs (L c) = t ∧ (rt_rk (L c) = 1 ∨ rt_rk (L c) = 2) ∧ rt_rr (L c) < 12 := by
  intro cs
  induction cs with
  | nil => intro _ c hc; cases hc
  | cons d ds ih =>
    intro h c hc
    cases hc with
    | head => exact ⟨h.1.1, h.1.2.1, h.1.2.2.1, h.1.2.2.2.1, h.1.2.2.2.2.1⟩
    | tail _ hm => exact ih h.2 c hm
theorem rt_Cn_mono {L : Nat → rt_Rc} {n m t fi : Nat} (hn : n ≤ m) : ∀ {cs : List Nat}, rt_Cn L n t fi cs → rt_Cn L m t fi cs := by
  intro cs
  induction cs with
  | nil => intro _; trivial
  | cons d ds ih => intro h; exact ⟨⟨by have := h.1.1; omega, h.1.2⟩, ih h.2⟩
theorem rt_Cn_cg {L L' : Nat → rt_Rc} {n t fi : Nat} (hL : ∀ j, j < n → L' j = L j) : ∀ {cs : List Nat}, rt_Cn L n t fi cs → rt_Cn L' n t fi cs := by
  intro cs
  induction cs with
  | nil => intro _; trivial
  | cons d ds ih =>
    intro h
    refine ⟨?_, ih h.2⟩
    rw [hL d h.1.1]
    exact h.1
/-! the count that bounds how far back a live transaction's first record lies -/
def rt_ph (a : rt_AS) (t : Nat) : Nat := if rt_fi a t = 0 then 0 else (rt_ch a t).length + (if rt_pr a t = true then 1 else 2)
def rt_Ph (a : rt_AS) : Nat := rt_ph a 0 + rt_ph a 1 + rt_ph a 2 + rt_ph a 3
theorem rt_s4 {f g : Nat → Nat} {t : Nat} (ht : t < 4) (h : ∀ u, u ≠ t → g u = f u) :
    g 0 + g 1 + g 2 + g 3 + f t = f 0 + f 1 + f 2 + f 3 + g t := by
  have h4 : t = 0 ∨ t = 1 ∨ t = 2 ∨ t = 3 := by omega
  rcases h4 with rfl | rfl | rfl | rfl
  · have h1 := h 1 (by decide); have h2 := h 2 (by decide); have h3 := h 3 (by decide); omega
  · have h1 := h 0 (by decide); have h2 := h 2 (by decide); have h3 := h 3 (by decide); omega
  · have h1 := h 0 (by decide); have h2 := h 1 (by decide); have h3 := h 3 (by decide); omega
  · have h1 := h 0 (by decide); have h2 := h 1 (by decide); have h3 := h 2 (by decide); omega
theorem rt_s4b {f : Nat → Nat} {t : Nat} (ht : t < 4) (h : ∀ u, u < 4 → f u ≤ 12) (h0 : f t = 0) :
    f 0 + f 1 + f 2 + f 3 ≤ 36 := by
  have a0 := h 0 (by decide); have a1 := h 1 (by decide); have a2 := h 2 (by decide); have a3 := h 3 (by decide)
  have h4 : t = 0 ∨ t = 1 ∨ t = 2 ∨ t = 3 := by omega
  rcases h4 with rfl | rfl | rfl | rfl <;> omega
theorem rt_Ph_s {a b : rt_AS} {t : Nat} (ht : t < 4) (h : ∀ u, u ≠ t → rt_ph b u = rt_ph a u) : rt_Ph b + rt_ph a t = rt_Ph a + rt_ph b t := rt_s4 (f := rt_ph a) (g := rt_ph b) ht h
theorem rt_ph_cg {a b : rt_AS} {u : Nat} (h1 : rt_fi b u = rt_fi a u) (h2 : rt_ch b u = rt_ch a u) (h3 : rt_pr b u = rt_pr a u) : rt_ph b u = rt_ph a u := by
  unfold rt_ph; rw [h1, h2, h3]
/-- slot t is in order at state a, told by n records -/
def rt_SO (L : Nat → rt_Rc) (n : Nat) (a : rt_AS) (t : Nat) : Prop :=
  rt_Cn L n t (rt_fi a t) (rt_ch a t) ∧ (rt_ch a t).length ≤ 10 ∧
  (rt_fi a t = 0 → rt_ch a t = [] ∧ rt_nu a t = 0 ∧ rt_pr a t = false) ∧
  (rt_fi a t ≠ 0 → rt_fi a t ≤ n ∧ 0 < rt_nu a t ∧ rt_nu a t ≤ rt_ac a ∧ rt_ac a ≤ rt_nu a t + 30 ∧ n + rt_Ph a ≤ rt_fi a t + 39 + 4 * (rt_ac a - rt_nu a t))
/-- two transactions' changes of one record are additions -/
def rt_Cf (L : Nat → rt_Rc) (a : rt_AS) : Prop :=
  ∀ t u, t < 4 → u < 4 → t ≠ u → ∀ c, c ∈ rt_ch a t → ∀ d, d ∈ rt_ch a u → rt_rr (L c) = rt_rr (L d) → rt_rk (L c) = 2 ∧ rt_rk (L d) = 2
def rt_WF (L : Nat → rt_Rc) (n : Nat) (a : rt_AS) : Prop := (∀ t, t < 4 → rt_SO L n a t) ∧ rt_Cf L a
/-- the record x may follow at state a: a change -/
def rt_VC (L : Nat → rt_Rc) (a : rt_AS) (x : rt_Rc) : Prop :=
  (rt_rk x = 1 ∨ rt_rk x = 2) ∧ rt_rs x < 4 ∧ rt_rr x < 12 ∧ rt_pr a (rt_rs x) = false ∧ (rt_ch a (rt_rs x)).length < 10 ∧
  rt_rl x = rt_hd (rt_ch a (rt_rs x)) ∧ rt_rb x = rt_row a (rt_rr x) ∧ rt_ac a < rt_rn x ∧
  (∀ u, u < 4 → rt_fi a u ≠ 0 → rt_rn x ≤ rt_nu a u + 30) ∧
  (∀ u, u < 4 → u ≠ rt_rs x → ∀ d, d ∈ rt_ch a u → rt_rr (L d) = rt_rr x → rt_rk (L d) = 2 ∧ rt_rk x = 2)
/-- an undoing -/
def rt_VU (L : Nat → rt_Rc) (a : rt_AS) (x : rt_Rc) : Prop :=
  rt_rs x < 4 ∧ ∃ c cs, rt_ch a (rt_rs x) = c :: cs ∧ rt_rk x = (if rt_rk (L c) = 1 then 3 else 4) ∧ rt_rr x = rt_rr (L c) ∧ rt_rl x = rt_hd cs ∧
    rt_rv x = (if rt_rk (L c) = 1 then rt_rb (L c) else - rt_rv (L c))
/-- a commit or an end -/
def rt_VL (a : rt_AS) (x : rt_Rc) : Prop :=
  (rt_rk x = 5 ∨ rt_rk x = 6) ∧ rt_rs x < 4 ∧ rt_fi a (rt_rs x) ≠ 0
/-- a prepare -/
def rt_VP (a : rt_AS) (x : rt_Rc) : Prop :=
  rt_rk x = 7 ∧ rt_rs x < 4 ∧ rt_fi a (rt_rs x) ≠ 0 ∧ rt_pr a (rt_rs x) = false
def rt_Vd (L : Nat → rt_Rc) (a : rt_AS) (x : rt_Rc) : Prop := rt_VC L a x ∨ rt_VU L a x ∨ rt_VL a x ∨ rt_VP a x
theorem rt_ap_C {n : Nat} {x : rt_Rc} {a : rt_AS} (h : rt_rk x = 1 ∨ rt_rk x = 2) : rt_ap n x a = rt_apC n x a := if_pos (by omega)
theorem rt_ap_U {n : Nat} {x : rt_Rc} {a : rt_AS} (h : rt_rk x = 3 ∨ rt_rk x = 4) : rt_ap n x a = rt_apU x a := by
  unfold rt_ap; rw [if_neg (by omega), if_pos (by omega)]
theorem rt_ap_L {n : Nat} {x : rt_Rc} {a : rt_AS} (h : rt_rk x = 5 ∨ rt_rk x = 6) : rt_ap n x a = rt_apL x a := by
  unfold rt_ap; rw [if_neg (by omega), if_neg (by omega), if_neg (by omega)]
theorem rt_ap_P {n : Nat} {x : rt_Rc} {a : rt_AS} (h : rt_rk x = 7) : rt_ap n x a = rt_apP x a := by
  unfold rt_ap; rw [if_neg (by omega), if_neg (by omega), if_pos h]
theorem rt_VU_k {L : Nat → rt_Rc} {a : rt_AS} {x : rt_Rc} (v : rt_VU L a x) : rt_rk x = 3 ∨ rt_rk x = 4 := by
  obtain ⟨_, c, cs, _, hk, _⟩ := v
  rw [hk]; split <;> simp
theorem rt_ph_le {L : Nat → rt_Rc} {n : Nat} {a : rt_AS} {t : Nat} (h : rt_SO L n a t) : rt_ph a t ≤ 12 := by
  have := h.2.1
  unfold rt_ph
  split
  · omega
  · split <;> omega
theorem rt_wf_C {L : Nat → rt_Rc} {n : Nat} {a : rt_AS} {x : rt_Rc} (h : rt_WF L n a) (hL : L n = x) (v : rt_VC L a x) : rt_WF L (n + 1) (rt_apC n x a) := by
  obtain ⟨hS, hC⟩ := h
  obtain ⟨hk, ht, hr, hp, hlen, hl, hb, hac, hnu, hcf⟩ := v
  have hSt := hS _ ht
  have ho : ∀ u, u ≠ rt_rs x → rt_ph (rt_apC n x a) u = rt_ph a u := fun u hu => rt_ph_cg (rt_uo hu) (rt_uo hu) rfl
  have hPh := rt_Ph_s (a := a) (b := rt_apC n x a) ht ho
  have ecx : rt_ch (rt_apC n x a) (rt_rs x) = n :: rt_ch a (rt_rs x) := rt_us
  have efx : rt_fi (rt_apC n x a) (rt_rs x) = if rt_fi a (rt_rs x) = 0 then n + 1 else rt_fi a (rt_rs x) := rt_us
  have enx : rt_nu (rt_apC n x a) (rt_rs x) = if rt_nu a (rt_rs x) = 0 then rt_rn x else rt_nu a (rt_rs x) := rt_us
  have epx : rt_pr (rt_apC n x a) (rt_rs x) = false := hp
  have eac : rt_ac (rt_apC n x a) = rt_rn x := rfl
  have hph3 : rt_ph (rt_apC n x a) (rt_rs x) ≤ rt_ph a (rt_rs x) + 3 ∧ (rt_fi a (rt_rs x) = 0 → rt_ph (rt_apC n x a) (rt_rs x) = 3 ∧ rt_ph a (rt_rs x) = 0) := by
    unfold rt_ph
    rw [ecx, efx, epx, hp]
    by_cases hf : rt_fi a (rt_rs x) = 0
    · have hce := (hSt.2.2.1 hf).1
      simp [hf, hce]
    · simp [hf]
  refine ⟨fun u hu => ?_, ?_⟩
  · by_cases e : u = rt_rs x
    · subst e
      unfold rt_SO
      rw [ecx, efx, enx, epx, eac]
      by_cases hf : rt_fi a (rt_rs x) = 0
      · obtain ⟨hce, hne, _⟩ := hSt.2.2.1 hf
        have h36 := rt_s4b (f := rt_ph a) ht (fun u hu => rt_ph_le (hS u hu)) (hph3.2 hf).2
        have h36' : rt_Ph a ≤ 36 := h36
        have h3 := (hph3.2 hf).1
        rw [if_pos hf, if_pos hne, hce]
        refine ⟨⟨⟨by omega, by omega, by rw [hL], by rw [hL]; exact hk, by rw [hL]; exact hr, by rw [hL, hl, hce]⟩, trivial⟩, by simp, fun z => by omega, fun _ => ⟨by omega, by omega, by omega, by omega, by omega⟩⟩
      · obtain ⟨f1, f2, f3, f4, f5⟩ := hSt.2.2.2 hf
        have := hnu _ ht hf
        rw [if_neg hf, if_neg (by omega)]
        refine ⟨⟨⟨by omega, by omega, by rw [hL], by rw [hL]; exact hk, by rw [hL]; exact hr, by rw [hL, hl]⟩, rt_Cn_mono (by omega) hSt.1⟩, by simp; omega, fun z => absurd z hf, fun _ => ⟨by omega, by omega, by omega, by omega, by omega⟩⟩
    · have hSu := hS u hu
      have e1 : rt_ch (rt_apC n x a) u = rt_ch a u := rt_uo e
      have e2 : rt_fi (rt_apC n x a) u = rt_fi a u := rt_uo e
      have e3 : rt_nu (rt_apC n x a) u = rt_nu a u := rt_uo e
      have e4 : rt_pr (rt_apC n x a) u = rt_pr a u := rfl
      unfold rt_SO
      rw [e1, e2, e3, e4, eac]
      refine ⟨rt_Cn_mono (by omega) hSu.1, hSu.2.1, hSu.2.2.1, fun hf => ?_⟩
      obtain ⟨f1, f2, f3, f4, f5⟩ := hSu.2.2.2 hf
      have := hnu u hu hf
      exact ⟨by omega, by omega, by omega, by omega, by omega⟩
  · intro t u ht' hu htu c hc d hd hcd
    by_cases e1 : t = rt_rs x
    · have e2 : u ≠ rt_rs x := fun z => htu (e1.trans z.symm)
      have hd' : d ∈ rt_ch a u := by have := hd; rw [show rt_ch (rt_apC n x a) u = rt_ch a u from rt_uo e2] at this; exact this
      rw [e1, ecx] at hc
      cases hc with
      | head =>
        rw [hL] at hcd ⊢
        have := hcf u hu e2 d hd' hcd.symm
        exact ⟨this.2, this.1⟩
      | tail _ hm => exact hC t u ht' hu htu c (by rw [e1]; exact hm) d hd' hcd
    · have hc' : c ∈ rt_ch a t := by have := hc; rw [show rt_ch (rt_apC n x a) t = rt_ch a t from rt_uo e1] at this; exact this
      by_cases e2 : u = rt_rs x
      · rw [e2, ecx] at hd
        cases hd with
        | head =>
          rw [hL] at hcd ⊢
          exact hcf t ht' e1 c hc' hcd
        | tail _ hm => exact hC t u ht' hu htu c hc' d (by rw [e2]; exact hm) hcd
      · have hd' : d ∈ rt_ch a u := by have := hd; rw [show rt_ch (rt_apC n x a) u = rt_ch a u from rt_uo e2] at this; exact this
        exact hC t u ht' hu htu c hc' d hd' hcd
/-- chains that only shrink keep the absence of conflicts -/
theorem rt_Cf_sub {L : Nat → rt_Rc} {a b : rt_AS} (h : rt_Cf L a) (hs : ∀ t, t < 4 → ∀ c, c ∈ rt_ch b t → c ∈ rt_ch a t) : rt_Cf L b :=
  fun t u ht hu htu c hc d hd e => h t u ht hu htu c (hs t ht c hc) d (hs u hu d hd) e
theorem rt_wf_U {L : Nat → rt_Rc} {n : Nat} {a : rt_AS} {x : rt_Rc} (h : rt_WF L n a) (v : rt_VU L a x) : rt_WF L (n + 1) (rt_apU x a) := by
  obtain ⟨hS, hC⟩ := h
  obtain ⟨ht, c, cs, hch, _⟩ := v
  have hSt := hS _ ht
  have hf : rt_fi a (rt_rs x) ≠ 0 := fun z => by have := (hSt.2.2.1 z).1; rw [hch] at this; cases this
  have ecx : rt_ch (rt_apU x a) (rt_rs x) = cs := by
    show rt_u (rt_ch a) (rt_rs x) (rt_ch a (rt_rs x)).tail (rt_rs x) = cs
    rw [rt_us, hch]; rfl
  have hPh := rt_Ph_s (a := a) (b := rt_apU x a) ht (fun u hu => rt_ph_cg rfl (rt_uo hu) rfl)
  have hph : rt_ph (rt_apU x a) (rt_rs x) + 1 = rt_ph a (rt_rs x) := by
    unfold rt_ph
    rw [ecx, hch, show rt_fi (rt_apU x a) = rt_fi a from rfl, show rt_pr (rt_apU x a) = rt_pr a from rfl, if_neg hf, if_neg hf, List.length_cons]
    omega
  refine ⟨fun u hu => ?_, ?_⟩
  · have hSu := hS u hu
    have e4 : rt_fi (rt_apU x a) = rt_fi a := rfl
    have e5 : rt_nu (rt_apU x a) = rt_nu a := rfl
    have e6 : rt_pr (rt_apU x a) = rt_pr a := rfl
    have e7 : rt_ac (rt_apU x a) = rt_ac a := rfl
    unfold rt_SO
    rw [e4, e5, e6, e7]
    by_cases e : u = rt_rs x
    · subst e
      rw [ecx]
      have h1 := hSt.1; have h2 := hSt.2.1
      rw [hch] at h1 h2
      rw [List.length_cons] at h2
      refine ⟨rt_Cn_mono (by omega) h1.2, by omega, fun z => absurd z hf, fun _ => ?_⟩
      obtain ⟨f1, f2, f3, f4, f5⟩ := hSt.2.2.2 hf
      exact ⟨by omega, by omega, by omega, by omega, by omega⟩
    · have e1 : rt_ch (rt_apU x a) u = rt_ch a u := rt_uo e
      rw [e1]
      refine ⟨rt_Cn_mono (by omega) hSu.1, hSu.2.1, hSu.2.2.1, fun hf => ?_⟩
      obtain ⟨f1, f2, f3, f4, f5⟩ := hSu.2.2.2 hf
      exact ⟨by omega, by omega, by omega, by omega, by omega⟩
  · refine rt_Cf_sub hC fun u hu d hd => ?_
    by_cases e : u = rt_rs x
    · subst e
      rw [ecx] at hd
      rw [hch]
      exact List.mem_cons_of_mem _ hd
    · rw [show rt_ch (rt_apU x a) u = rt_ch a u from rt_uo e] at hd
      exact hd
theorem rt_wf_L {L : Nat → rt_Rc} {n : Nat} {a : rt_AS} {x : rt_Rc} (h : rt_WF L n a) (v : rt_VL a x) : rt_WF L (n + 1) (rt_apL x a) := by
  obtain ⟨hS, hC⟩ := h
  obtain ⟨_, ht, hf⟩ := v
  have hSt := hS _ ht
  have hPh := rt_Ph_s (a := a) (b := rt_apL x a) ht (fun u hu => rt_ph_cg (rt_uo hu) (rt_uo hu) (rt_uo hu))
  have efx : rt_fi (rt_apL x a) (rt_rs x) = 0 := rt_us
  have hph : rt_ph (rt_apL x a) (rt_rs x) + 1 ≤ rt_ph a (rt_rs x) := by
    unfold rt_ph
    rw [efx, if_pos rfl, if_neg hf]
    split <;> omega
  refine ⟨fun u hu => ?_, ?_⟩
  · have hSu := hS u hu
    by_cases e : u = rt_rs x
    · subst e
      unfold rt_SO
      rw [efx, show rt_ch (rt_apL x a) (rt_rs x) = [] from rt_us, show rt_nu (rt_apL x a) (rt_rs x) = 0 from rt_us, show rt_pr (rt_apL x a) (rt_rs x) = false from rt_us]
      exact ⟨trivial, by simp, fun _ => ⟨rfl, rfl, rfl⟩, fun z => absurd rfl z⟩
    · have e1 : rt_ch (rt_apL x a) u = rt_ch a u := rt_uo e
      have e2 : rt_fi (rt_apL x a) u = rt_fi a u := rt_uo e
      have e3 : rt_nu (rt_apL x a) u = rt_nu a u := rt_uo e
      have e4 : rt_pr (rt_apL x a) u = rt_pr a u := rt_uo e
      have e7 : rt_ac (rt_apL x a) = rt_ac a := rfl
      unfold rt_SO
      rw [e1, e2, e3, e4, e7]
      refine ⟨rt_Cn_mono (by omega) hSu.1, hSu.2.1, hSu.2.2.1, fun hf => ?_⟩
      obtain ⟨f1, f2, f3, f4, f5⟩ := hSu.2.2.2 hf
      exact ⟨by omega, by omega, by omega, by omega, by omega⟩
  · refine rt_Cf_sub hC fun u hu d hd => ?_
    by_cases e : u = rt_rs x
    · subst e
      rw [show rt_ch (rt_apL x a) (rt_rs x) = [] from rt_us] at hd
      cases hd
    · rw [show rt_ch (rt_apL x a) u = rt_ch a u from rt_uo e] at hd
      exact hd
theorem rt_wf_P {L : Nat → rt_Rc} {n : Nat} {a : rt_AS} {x : rt_Rc} (h : rt_WF L n a) (v : rt_VP a x) : rt_WF L (n + 1) (rt_apP x a) := by
  obtain ⟨hS, hC⟩ := h
  obtain ⟨_, ht, hf, hp⟩ := v
  have hSt := hS _ ht
  have hPh := rt_Ph_s (a := a) (b := rt_apP x a) ht (fun u hu => rt_ph_cg rfl rfl (rt_uo hu))
  have epx : rt_pr (rt_apP x a) (rt_rs x) = true := rt_us
  have hph : rt_ph (rt_apP x a) (rt_rs x) + 1 = rt_ph a (rt_rs x) := by
    unfold rt_ph
    rw [epx, hp, show rt_fi (rt_apP x a) = rt_fi a from rfl, show rt_ch (rt_apP x a) = rt_ch a from rfl, if_neg hf, if_neg hf, if_pos rfl]
    simp
  refine ⟨fun u hu => ?_, rt_Cf_sub hC fun u hu d hd => hd⟩
  have hSu := hS u hu
  have e1 : rt_ch (rt_apP x a) = rt_ch a := rfl
  have e2 : rt_fi (rt_apP x a) = rt_fi a := rfl
  have e3 : rt_nu (rt_apP x a) = rt_nu a := rfl
  have e7 : rt_ac (rt_apP x a) = rt_ac a := rfl
  unfold rt_SO
  rw [e1, e2, e3, e7]
  refine ⟨rt_Cn_mono (by omega) hSu.1, hSu.2.1, fun z => ?_, fun hf => ?_⟩
  · obtain ⟨z1, z2, z3⟩ := hSu.2.2.1 z
    refine ⟨z1, z2, ?_⟩
    by_cases e : u = rt_rs x
    · subst e; exact absurd z hf
    · rw [show rt_pr (rt_apP x a) u = rt_pr a u from rt_uo e]; exact z3
  · obtain ⟨f1, f2, f3, f4, f5⟩ := hSu.2.2.2 hf
    exact ⟨by omega, by omega, by omega, by omega, by omega⟩
theorem rt_wf_s {L : Nat → rt_Rc} {n : Nat} {a : rt_AS} (h : rt_WF L n a) (v : rt_Vd L a (L n)) : rt_WF L (n + 1) (rt_ap n (L n) a) := by
  rcases v with v | v | v | v
  · rw [rt_ap_C v.1]; exact rt_wf_C h rfl v
  · rw [rt_ap_U (rt_VU_k v)]; exact rt_wf_U h v
  · rw [rt_ap_L v.1]; exact rt_wf_L h v
  · rw [rt_ap_P v.1]; exact rt_wf_P h v
/-- a log whose first e records are in order -/
def rt_LV (L : Nat → rt_Rc) (e : Nat) : Prop := ∀ n, n < e → rt_Vd L (rt_A L n) (L n)
theorem rt_wf {L : Nat → rt_Rc} {e : Nat} (h : rt_LV L e) : ∀ n, n ≤ e → rt_WF L n (rt_A L n) := by
  intro n
  induction n with
  | zero =>
    intro _
    refine ⟨fun t _ => ⟨trivial, by show (0 : Nat) ≤ 10; omega, fun _ => ⟨rfl, rfl, rfl⟩, fun z => absurd rfl z⟩, ?_⟩
    intro t u _ _ _ c hc
    cases hc
  | succ n ih => intro hn; exact rt_wf_s (ih (by omega)) (h n (by omega))
theorem rt_LV_le {L : Nat → rt_Rc} {e f : Nat} (h : rt_LV L e) (hf : f ≤ e) : rt_LV L f := fun n hn => h n (by omega)
/-- validity looks at the log below n alone -/
theorem rt_Vd_cg {L L' : Nat → rt_Rc} {n : Nat} {a : rt_AS} {x : rt_Rc} (hw : rt_WF L n a) (hL : ∀ j, j < n → L' j = L j) (v : rt_Vd L a x) : rt_Vd L' a x := by
  rcases v with v | v | v | v
  · obtain ⟨hk, ht, hr, hp, hlen, hl, hb, hac, hnu, hcf⟩ := v
    refine Or.inl ⟨hk, ht, hr, hp, hlen, hl, hb, hac, hnu, fun u hu hne d hd => ?_⟩
    rw [hL d (rt_Cn_mem (hw.1 u hu).1 d hd).1]
    exact hcf u hu hne d hd
  · obtain ⟨ht, c, cs, hch, v⟩ := v
    have := (rt_Cn_mem (hw.1 _ ht).1 c (by rw [hch]; exact List.mem_cons_self)).1
    refine Or.inr (Or.inl ⟨ht, c, cs, hch, ?_⟩)
    rw [hL c this]
    exact v
  · exact Or.inr (Or.inr (Or.inl v))
  · exact Or.inr (Or.inr (Or.inr v))
theorem rt_LV_ap {L : Nat → rt_Rc} {e : Nat} {x : rt_Rc} (h : rt_LV L e) (v : rt_Vd L (rt_A L e) x) : rt_LV (rt_u L e x) (e + 1) := by
  intro n hn
  have hcg : ∀ m, m ≤ e → ∀ j, j < m → rt_u L e x j = L j := fun m hm j hj => rt_uo (by omega)
  rw [rt_A_cg (hcg n (by omega))]
  by_cases e1 : n = e
  · subst e1
    rw [rt_us]
    exact rt_Vd_cg (rt_wf h n (Nat.le_refl _)) (hcg n (Nat.le_refl _)) v
  · rw [rt_uo e1]
    exact rt_Vd_cg (rt_wf h n (by omega)) (hcg n (by omega)) (h n (by omega))
theorem rt_A_ap {L : Nat → rt_Rc} {e : Nat} {x : rt_Rc} : rt_A (rt_u L e x) (e + 1) = rt_ap e x (rt_A L e) := by
  show rt_ap e (rt_u L e x e) (rt_A (rt_u L e x) e) = _
  rw [rt_us, rt_A_cg (fun j hj => rt_uo (by omega))]
theorem rt_A_lo {L : Nat → rt_Rc} {e n : Nat} {x : rt_Rc} (h : n ≤ e) : rt_A (rt_u L e x) n = rt_A L n := rt_A_cg (fun j hj => rt_uo (by omega))
/-- the first records of live transactions lie at s or beyond, if they did at c -/
theorem rt_fi_s {L : Nat → rt_Rc} {n t : Nat} : rt_fi (rt_A L (n + 1)) t = rt_fi (rt_A L n) t ∨ rt_fi (rt_A L (n + 1)) t = 0 ∨ (rt_fi (rt_A L (n + 1)) t = n + 1) := by
  show rt_fi (rt_ap n (L n) (rt_A L n)) t = _ ∨ rt_fi (rt_ap n (L n) (rt_A L n)) t = _ ∨ rt_fi (rt_ap n (L n) (rt_A L n)) t = _
  unfold rt_ap
  split
  · by_cases e : t = rt_rs (L n)
    · subst e
      rw [show rt_fi (rt_apC n (L n) (rt_A L n)) (rt_rs (L n)) = if rt_fi (rt_A L n) (rt_rs (L n)) = 0 then n + 1 else rt_fi (rt_A L n) (rt_rs (L n)) from rt_us]
      split <;> simp
    · exact Or.inl (rt_uo e)
  · split
    · exact Or.inl rfl
    · split
      · exact Or.inl rfl
      · by_cases e : t = rt_rs (L n)
        · subst e
          exact Or.inr (Or.inl rt_us)
        · exact Or.inl (rt_uo e)
theorem rt_fi_lo {L : Nat → rt_Rc} {s c : Nat} (hsc : s ≤ c) (h : ∀ t, t < 4 → rt_fi (rt_A L c) t ≠ 0 → s < rt_fi (rt_A L c) t) : ∀ n, c ≤ n → ∀ t, t < 4 → rt_fi (rt_A L n) t ≠ 0 → s < rt_fi (rt_A L n) t := by
  intro n hn
  obtain ⟨d, rfl⟩ : ∃ d, n = c + d := ⟨n - c, by omega⟩
  clear hn
  induction d with
  | zero => exact h
  | succ d ih =>
    intro t ht hf
    rcases rt_fi_s (L := L) (n := c + d) (t := t) with e | e | e
    · have e' : rt_fi (rt_A L (c + (d + 1))) t = rt_fi (rt_A L (c + d)) t := e
      rw [e'] at hf ⊢
      exact ih t ht hf
    · exact absurd e hf
    · have e' : rt_fi (rt_A L (c + (d + 1))) t = c + d + 1 := e
      rw [e']; omega
/-! pages: the record x changes a row of page p -/
def rt_tc (x : rt_Rc) (p : Nat) : Prop := rt_rk x ≤ 4 ∧ rt_rr x / 4 = p
/-- no record from m on, below n, changes page p -/
def rt_Qt (L : Nat → rt_Rc) (p m n : Nat) : Prop := ∀ j, m ≤ j → j < n → ¬ rt_tc (L j) p
theorem rt_Qt_mo {L : Nat → rt_Rc} {p m n m' n' : Nat} (h : rt_Qt L p m n) (h1 : m ≤ m') (h2 : n' ≤ n) : rt_Qt L p m' n' := fun j a b => h j (by omega) (by omega)
theorem rt_Qt_cg {L L' : Nat → rt_Rc} {p m n : Nat} (h : rt_Qt L p m n) (hL : ∀ j, j < n → L' j = L j) : rt_Qt L' p m n := fun j a b => by rw [hL j b]; exact h j a b
theorem rt_row_o {n : Nat} {x : rt_Rc} {a : rt_AS} {p j : Nat} (h : ¬ rt_tc x p) (hj : j / 4 = p) : rt_row (rt_ap n x a) j = rt_row a j := by
  unfold rt_tc at h
  have key : rt_rk x ≤ 4 → rt_rw x (rt_row a) j = rt_row a j := by
    intro hk
    have hne : j ≠ rt_rr x := fun z => h ⟨hk, by rw [← z]; exact hj⟩
    unfold rt_rw
    split
    · exact if_neg hne
    · exact if_neg hne
  unfold rt_ap
  split
  · exact key (by omega)
  · split
    · exact key (by omega)
    · split <;> rfl
theorem rt_Qt_row {L : Nat → rt_Rc} {p m n : Nat} (h : rt_Qt L p m n) (hm : m ≤ n) {j : Nat} (hj : j / 4 = p) : rt_row (rt_A L n) j = rt_row (rt_A L m) j := by
  obtain ⟨d, rfl⟩ : ∃ d, n = m + d := ⟨n - m, by omega⟩
  clear hm
  induction d with
  | zero => rfl
  | succ d ih =>
    rw [← ih (rt_Qt_mo h (Nat.le_refl _) (by omega))]
    exact rt_row_o (h (m + d) (by omega) (by omega)) hj
/-- a record at n tells the row that it changes -/
theorem rt_row_t {n : Nat} {x : rt_Rc} {a : rt_AS} (h : rt_rk x ≤ 4) : rt_row (rt_ap n x a) = rt_rw x (rt_row a) := by
  unfold rt_ap
  split
  · rfl
  · rfl
end
section
/-! ## undoing what is open: the core of a state -/
def rt_u1 (L : Nat → rt_Rc) (row : Nat → Int32) (c : Nat) : Nat → Int32 :=
  if rt_rk (L c) = 1 then upd row (rt_rr (L c)) (rt_rb (L c)) else upd row (rt_rr (L c)) (row (rt_rr (L c)) - rt_rv (L c))
def rt_ul (L : Nat → rt_Rc) (row : Nat → Int32) (cs : List Nat) : Nat → Int32 := cs.foldl (rt_u1 L) row
def rt_st (L : Nat → rt_Rc) (a : rt_AS) (row : Nat → Int32) (t : Nat) : Nat → Int32 := if rt_pr a t = true then row else rt_ul L row (rt_ch a t)
def rt_co (L : Nat → rt_Rc) (a : rt_AS) : Nat → Int32 := rt_st L a (rt_st L a (rt_st L a (rt_st L a (rt_row a) 0) 1) 2) 3
theorem rt_i_sc (a b c : Int32) : a - b - c = a - c - b := by grind
theorem rt_i_as (a b : Int32) : a + b - b = a := by grind
theorem rt_i_an (a b : Int32) : a + (-b) = a - b := by grind
theorem rt_u1_cm {L : Nat → rt_Rc} {row : Nat → Int32} {c d : Nat} (h : rt_rr (L c) = rt_rr (L d) → rt_rk (L c) = 2 ∧ rt_rk (L d) = 2) : rt_u1 L (rt_u1 L row c) d = rt_u1 L (rt_u1 L row d) c := by
  by_cases e : rt_rr (L c) = rt_rr (L d)
  · obtain ⟨h1, h2⟩ := h e
    funext j
    unfold rt_u1
    rw [if_neg (by omega), if_neg (by omega), if_neg (by omega), if_neg (by omega), e]
    by_cases ej : j = rt_rr (L d)
    · subst ej
      rw [pk_us, pk_us, pk_us, pk_us]
      exact rt_i_sc _ _ _
    · rw [pk_un ej, pk_un ej, pk_un ej, pk_un ej]
  · have e' : rt_rr (L d) ≠ rt_rr (L c) := fun z => e z.symm
    have key : ∀ (x y : Int32), upd (upd row (rt_rr (L c)) x) (rt_rr (L d)) y = upd (upd row (rt_rr (L d)) y) (rt_rr (L c)) x := by
      intro x y
      funext j
      by_cases e1 : j = rt_rr (L c)
      · subst e1; rw [pk_us, pk_un e, pk_us]
      · by_cases e2 : j = rt_rr (L d)
        · subst e2; rw [pk_us, pk_un e1, pk_us]
        · rw [pk_un e2, pk_un e1, pk_un e1, pk_un e2]
    unfold rt_u1
    by_cases k1 : rt_rk (L c) = 1 <;> by_cases k2 : rt_rk (L d) = 1
    · rw [if_pos k1, if_pos k2, if_pos k2, if_pos k1]; exact key _ _
    · rw [if_pos k1, if_neg k2, if_neg k2, if_pos k1, pk_un e']; exact key _ _
    · rw [if_neg k1, if_pos k2, if_pos k2, if_neg k1, pk_un e]; exact key _ _
    · rw [if_neg k1, if_neg k2, if_neg k2, if_neg k1, pk_un e', pk_un e]; exact key _ _
theorem rt_ul_cm {L : Nat → rt_Rc} {c : Nat} : ∀ {cs : List Nat} {row : Nat → Int32}, (∀ d, d ∈ cs → rt_rr (L c) = rt_rr (L d) → rt_rk (L c) = 2 ∧ rt_rk (L d) = 2) → rt_ul L (rt_u1 L row c) cs = rt_u1 L (rt_ul L row cs) c := by
  intro cs
  induction cs with
  | nil => intro row _; rfl
  | cons d ds ih =>
    intro row h
    show rt_ul L (rt_u1 L (rt_u1 L row c) d) ds = rt_u1 L (rt_ul L (rt_u1 L row d) ds) c
    rw [rt_u1_cm (h d List.mem_cons_self)]
    exact ih (fun d' hd' => h d' (List.mem_cons_of_mem _ hd'))
theorem rt_ul_cg {L L' : Nat → rt_Rc} : ∀ {cs : List Nat} {row : Nat → Int32}, (∀ d, d ∈ cs → L' d = L d) → rt_ul L' row cs = rt_ul L row cs := by
  intro cs
  induction cs with
  | nil => intro row _; rfl
  | cons d ds ih =>
    intro row h
    show rt_ul L' (rt_u1 L' row d) ds = rt_ul L (rt_u1 L row d) ds
    rw [show rt_u1 L' row d = rt_u1 L row d from by unfold rt_u1; rw [h d List.mem_cons_self]]
    exact ih (fun d' hd' => h d' (List.mem_cons_of_mem _ hd'))
theorem rt_st_cg {L L' : Nat → rt_Rc} {a : rt_AS} {row : Nat → Int32} {t : Nat} (h : ∀ d, d ∈ rt_ch a t → L' d = L d) : rt_st L' a row t = rt_st L a row t := by
  unfold rt_st; rw [rt_ul_cg h]
theorem rt_co_cg {L L' : Nat → rt_Rc} {a : rt_AS} (h : ∀ t, t < 4 → ∀ d, d ∈ rt_ch a t → L' d = L d) : rt_co L' a = rt_co L a := by
  unfold rt_co
  rw [rt_st_cg (h 0 (by omega)), rt_st_cg (h 1 (by omega)), rt_st_cg (h 2 (by omega)), rt_st_cg (h 3 (by omega))]
/-- the latest change of slot t taken away first -/
theorem rt_pop {L : Nat → rt_Rc} {a b : rt_AS} {t c : Nat} {cs : List Nat} (hC : rt_Cf L a) (ht : t < 4) (hp : rt_pr a t = false) (hch : rt_ch a t = c :: cs) (hb : rt_ch b t = cs)
    (ho : ∀ u, u ≠ t → rt_ch b u = rt_ch a u) (hpr : ∀ u, rt_pr b u = rt_pr a u) (hrow : rt_row b = rt_u1 L (rt_row a) c) : rt_co L b = rt_co L a := by
  have s1 : ∀ row u, u ≠ t → rt_st L b row u = rt_st L a row u := by
    intro row u hu
    unfold rt_st
    rw [ho u hu, hpr u]
  have s2 : ∀ row, rt_st L b (rt_u1 L row c) t = rt_st L a row t := by
    intro row
    unfold rt_st
    rw [hpr t, hp, hb, hch]
    rfl
  have s3 : ∀ row u, u < 4 → u ≠ t → rt_st L b (rt_u1 L row c) u = rt_u1 L (rt_st L a row u) c := by
    intro row u hu hne
    rw [s1 _ u hne]
    unfold rt_st
    split
    · rfl
    · exact rt_ul_cm (fun d hd e => hC t u ht hu (fun z => hne z.symm) c (by rw [hch]; exact List.mem_cons_self) d hd e)
  unfold rt_co
  rw [hrow]
  have h4 : t = 0 ∨ t = 1 ∨ t = 2 ∨ t = 3 := by omega
  rcases h4 with rfl | rfl | rfl | rfl
  · rw [s2, s1 _ 1 (by decide), s1 _ 2 (by decide), s1 _ 3 (by decide)]
  · rw [s3 _ 0 (by decide) (by decide), s2, s1 _ 2 (by decide), s1 _ 3 (by decide)]
  · rw [s3 _ 0 (by decide) (by decide), s3 _ 1 (by decide) (by decide), s2, s1 _ 3 (by decide)]
  · rw [s3 _ 0 (by decide) (by decide), s3 _ 1 (by decide) (by decide), s3 _ 2 (by decide) (by decide), s2]
/-- alike for a crash: the same core, the same prepared transactions -/
def rt_CQ (L : Nat → rt_Rc) (a b : rt_AS) : Prop :=
  rt_co L a = rt_co L b ∧ ∀ t, t < 4 → rt_pr a t = rt_pr b t ∧ (rt_pr a t = true → rt_ch a t = rt_ch b t ∧ rt_nu a t = rt_nu b t)
theorem rt_CQ_r {L : Nat → rt_Rc} {a : rt_AS} : rt_CQ L a a := ⟨rfl, fun _ _ => ⟨rfl, fun _ => ⟨rfl, rfl⟩⟩⟩
theorem rt_CQ_t {L : Nat → rt_Rc} {a b c : rt_AS} (h : rt_CQ L a b) (k : rt_CQ L b c) : rt_CQ L a c :=
  ⟨h.1.trans k.1, fun t ht => ⟨(h.2 t ht).1.trans (k.2 t ht).1, fun z =>
    ⟨((h.2 t ht).2 z).1.trans ((k.2 t ht).2 ((h.2 t ht).1.symm.trans z)).1, ((h.2 t ht).2 z).2.trans ((k.2 t ht).2 ((h.2 t ht).1.symm.trans z)).2⟩⟩⟩
theorem rt_rw_U {L : Nat → rt_Rc} {x : rt_Rc} {row : Nat → Int32} {c : Nat} (hk : rt_rk x = (if rt_rk (L c) = 1 then 3 else 4)) (hr : rt_rr x = rt_rr (L c))
    (hv : rt_rv x = (if rt_rk (L c) = 1 then rt_rb (L c) else - rt_rv (L c))) : rt_rw x row = rt_u1 L row c := by
  unfold rt_rw rt_u1
  by_cases h : rt_rk (L c) = 1
  · rw [if_pos h] at hk hv
    rw [if_pos h, if_pos (Or.inr hk), hr, hv]
  · rw [if_neg h] at hk hv
    rw [if_neg h, if_neg (by omega), hr, hv, rt_i_an]
theorem rt_cq_C {L : Nat → rt_Rc} {n : Nat} {a : rt_AS} {x : rt_Rc} (h : rt_WF L (n + 1) (rt_apC n x a)) (hL : L n = x) (v : rt_VC L a x) : rt_CQ L a (rt_apC n x a) := by
  obtain ⟨hk, ht, hr, hp, hlen, hl, hb, hac, hnu, hcf⟩ := v
  have ecx : rt_ch (rt_apC n x a) (rt_rs x) = n :: rt_ch a (rt_rs x) := rt_us
  refine ⟨?_, fun u hu => ⟨rfl, fun z => ?_⟩⟩
  · refine rt_pop (a := rt_apC n x a) (b := a) (t := rt_rs x) (c := n) (cs := rt_ch a (rt_rs x)) h.2 ht hp ecx rfl (fun u hu => (rt_uo hu).symm) (fun _ => rfl) ?_
    show rt_row a = rt_u1 L (rt_rw x (rt_row a)) n
    funext j
    unfold rt_u1 rt_rw
    rw [hL]
    rcases hk with hk | hk
    · rw [if_pos hk, if_pos (Or.inl hk), hb]
      by_cases ej : j = rt_rr x
      · subst ej; rw [pk_us]
      · rw [pk_un ej, pk_un ej]
    · rw [if_neg (by omega), if_neg (by omega), pk_us, rt_i_as]
      by_cases ej : j = rt_rr x
      · subst ej; rw [pk_us]
      · rw [pk_un ej, pk_un ej]
  · have e : u ≠ rt_rs x := fun e => by subst e; rw [hp] at z; cases z
    exact ⟨(rt_uo e).symm, (rt_uo e).symm⟩
theorem rt_cq_U {L : Nat → rt_Rc} {n : Nat} {a : rt_AS} {x : rt_Rc} (h : rt_WF L n a) (v : rt_VU L a x) (hp : rt_pr a (rt_rs x) = false) : rt_CQ L a (rt_apU x a) := by
  obtain ⟨ht, c, cs, hch, hk, hr, hl, hv⟩ := v
  refine ⟨?_, fun u hu => ⟨rfl, fun z => ?_⟩⟩
  · refine (rt_pop (b := rt_apU x a) (t := rt_rs x) (c := c) (cs := cs) h.2 ht hp hch ?_ (fun u hu => rt_uo hu) (fun _ => rfl) (rt_rw_U hk hr hv)).symm
    show rt_u (rt_ch a) (rt_rs x) (rt_ch a (rt_rs x)).tail (rt_rs x) = cs
    rw [rt_us, hch]; rfl
  · have e : u ≠ rt_rs x := fun e => by subst e; rw [hp] at z; cases z
    exact ⟨(rt_uo e).symm, rfl⟩
theorem rt_cq_L {L : Nat → rt_Rc} {a : rt_AS} {x : rt_Rc} (ht : rt_rs x < 4) (hc : rt_ch a (rt_rs x) = []) (hp : rt_pr a (rt_rs x) = false) : rt_CQ L a (rt_apL x a) := by
  have ech : ∀ u, rt_ch (rt_apL x a) u = rt_ch a u := by
    intro u
    by_cases e : u = rt_rs x
    · subst e; rw [hc]; exact rt_us
    · exact rt_uo e
  have epr : ∀ u, rt_pr (rt_apL x a) u = rt_pr a u := by
    intro u
    by_cases e : u = rt_rs x
    · subst e; rw [hp]; exact rt_us
    · exact rt_uo e
  have est : ∀ row u, rt_st L (rt_apL x a) row u = rt_st L a row u := by
    intro row u; unfold rt_st; rw [ech, epr]
  refine ⟨?_, fun u hu => ⟨(epr u).symm, fun z => ⟨(ech u).symm, ?_⟩⟩⟩
  · unfold rt_co; rw [est, est, est, est]; rfl
  · have e : u ≠ rt_rs x := fun e => by subst e; rw [hp] at z; cases z
    exact (rt_uo e).symm
def rt_CE (L : Nat → rt_Rc) (f e : Nat) : Prop := ∀ n, f ≤ n → n ≤ e → rt_CQ L (rt_A L n) (rt_A L e)
theorem rt_CE_le {L : Nat → rt_Rc} {f f' e : Nat} (h : rt_CE L f e) (hf : f ≤ f') : rt_CE L f' e := fun n a b => h n (by omega) b
theorem rt_CE_r {L : Nat → rt_Rc} {e : Nat} : rt_CE L e e := fun n a b => by
  have : n = e := by omega
  subst this; exact rt_CQ_r
theorem rt_co_lo {L : Nat → rt_Rc} {e n : Nat} {x : rt_Rc} (h : rt_LV L e) (hn : n ≤ e) : rt_co (rt_u L e x) (rt_A L n) = rt_co L (rt_A L n) :=
  rt_co_cg (fun t ht d hd => rt_uo (by have := (rt_Cn_mem ((rt_wf h n hn).1 t ht).1 d hd).1; omega))
theorem rt_CE_ap {L : Nat → rt_Rc} {f e : Nat} {x : rt_Rc} (hL : rt_LV L e) (h : rt_CE L f e) (hs : rt_CQ (rt_u L e x) (rt_A L e) (rt_ap e x (rt_A L e))) : rt_CE (rt_u L e x) f (e + 1) := by
  intro n h1 h2
  by_cases hn : n = e + 1
  · subst hn; exact rt_CQ_r
  · rw [rt_A_ap, rt_A_lo (by omega)]
    refine rt_CQ_t ?_ hs
    have k := h n h1 (by omega)
    refine ⟨?_, k.2⟩
    rw [rt_co_lo hL (by omega), rt_co_lo hL (Nat.le_refl _)]
    exact k.1
/-- a change by an unprepared transaction, an undoing for one, its end: the core stays -/
theorem rt_CE_C {L : Nat → rt_Rc} {f e : Nat} {x : rt_Rc} (hL : rt_LV L e) (h : rt_CE L f e) (v : rt_VC L (rt_A L e) x) : rt_CE (rt_u L e x) f (e + 1) := by
  refine rt_CE_ap hL h ?_
  rw [rt_ap_C v.1]
  have hw := rt_wf (rt_LV_ap hL (Or.inl v)) (e + 1) (Nat.le_refl _)
  rw [rt_A_ap, rt_ap_C v.1] at hw
  have v' : rt_VC (rt_u L e x) (rt_A L e) x := by
    obtain ⟨hk, ht, hr, hp, hlen, hl, hb, hac, hnu, hcf⟩ := v
    refine ⟨hk, ht, hr, hp, hlen, hl, hb, hac, hnu, fun u hu hne d hd => ?_⟩
    rw [rt_uo (by have := (rt_Cn_mem ((rt_wf hL e (Nat.le_refl _)).1 u hu).1 d hd).1; omega)]
    exact hcf u hu hne d hd
  exact rt_cq_C hw rt_us v'
theorem rt_VU_up {L : Nat → rt_Rc} {e : Nat} {x : rt_Rc} (hL : rt_LV L e) (v : rt_VU L (rt_A L e) x) : rt_VU (rt_u L e x) (rt_A L e) x := by
  obtain ⟨ht, c, cs, hch, v⟩ := v
  have := (rt_Cn_mem ((rt_wf hL e (Nat.le_refl _)).1 _ ht).1 c (by rw [hch]; exact List.mem_cons_self)).1
  refine ⟨ht, c, cs, hch, ?_⟩
  rw [rt_uo (by omega)]
  exact v
theorem rt_WF_up {L : Nat → rt_Rc} {e : Nat} {x : rt_Rc} (hL : rt_LV L e) : rt_WF (rt_u L e x) e (rt_A L e) := by
  have h := rt_wf hL e (Nat.le_refl _)
  have k : ∀ j, j < e → rt_u L e x j = L j := fun j hj => rt_uo (by omega)
  refine ⟨fun t ht => ⟨rt_Cn_cg k (h.1 t ht).1, (h.1 t ht).2⟩, fun t u ht hu htu c hc d hd => ?_⟩
  rw [k c (rt_Cn_mem (h.1 t ht).1 c hc).1, k d (rt_Cn_mem (h.1 u hu).1 d hd).1]
  exact h.2 t u ht hu htu c hc d hd
theorem rt_CE_U {L : Nat → rt_Rc} {f e : Nat} {x : rt_Rc} (hL : rt_LV L e) (h : rt_CE L f e) (v : rt_VU L (rt_A L e) x) (hp : rt_pr (rt_A L e) (rt_rs x) = false) : rt_CE (rt_u L e x) f (e + 1) := by
  refine rt_CE_ap hL h ?_
  rw [rt_ap_U (rt_VU_k v)]
  exact rt_cq_U (rt_WF_up hL) (rt_VU_up hL v) hp
theorem rt_CE_L {L : Nat → rt_Rc} {f e : Nat} {x : rt_Rc} (hL : rt_LV L e) (h : rt_CE L f e) (v : rt_VL (rt_A L e) x) (hc : rt_ch (rt_A L e) (rt_rs x) = []) (hp : rt_pr (rt_A L e) (rt_rs x) = false) : rt_CE (rt_u L e x) f (e + 1) := by
  refine rt_CE_ap hL h ?_
  rw [rt_ap_L v.1]
  exact rt_cq_L v.2.1 hc hp
/-! ## the reference's entries of a chain; the locks that a chain asks for -/
def rt_RE (L : Nat → rt_Rc) (t : Nat) (w p q : Nat → Int32) : List Nat → Prop
  | [] => True
  | c :: cs => (w (10 * t + cs.length) = (if rt_rk (L c) = 1 then 1 else 0) ∧ p (10 * t + cs.length) = nI (rt_rr (L c)) ∧ q (10 * t + cs.length) = (if rt_rk (L c) = 1 then rt_rb (L c) else rt_rv (L c))) ∧ rt_RE L t w p q cs
theorem rt_RE_cg {L L' : Nat → rt_Rc} {t : Nat} {w p q w' p' q' : Nat → Int32} : ∀ {cs : List Nat}, rt_RE L t w p q cs → (∀ c, c ∈ cs → L' c = L c) → (∀ j, j < cs.length → w' (10 * t + j) = w (10 * t + j) ∧ p' (10 * t + j) = p (10 * t + j) ∧ q' (10 * t + j) = q (10 * t + j)) → rt_RE L' t w' p' q' cs := by
  intro cs
  induction cs with
  | nil => intro _ _ _; trivial
  | cons c cs ih =>
    intro h hL hw
    obtain ⟨e1, e2, e3⟩ := hw cs.length (by rw [List.length_cons]; omega)
    refine ⟨?_, ih h.2 (fun d hd => hL d (List.mem_cons_of_mem _ hd)) (fun j hj => hw j (by rw [List.length_cons]; omega))⟩
    rw [e1, e2, e3, hL c List.mem_cons_self]
    exact h.1
def rt_ak (L : Nat → rt_Rc) (r : Nat) : List Nat → Nat
  | [] => 0
  | c :: cs => if rt_rr (L c) = r then max (if rt_rk (L c) = 1 then 3 else 2) (rt_ak L r cs) else rt_ak L r cs
theorem rt_ak_cg {L L' : Nat → rt_Rc} {r : Nat} : ∀ {cs : List Nat}, (∀ c, c ∈ cs → L' c = L c) → rt_ak L' r cs = rt_ak L r cs := by
  intro cs
  induction cs with
  | nil => intro _; rfl
  | cons c cs ih =>
    intro h
    unfold rt_ak
    rw [h c List.mem_cons_self, ih (fun d hd => h d (List.mem_cons_of_mem _ hd))]
theorem rt_ak_023 {L : Nat → rt_Rc} {r : Nat} : ∀ (cs : List Nat), rt_ak L r cs = 0 ∨ rt_ak L r cs = 2 ∨ rt_ak L r cs = 3 := by
  intro cs
  induction cs with
  | nil => exact Or.inl rfl
  | cons c cs ih =>
    unfold rt_ak
    split
    · split <;> omega
    · exact ih
theorem rt_ak_mem {L : Nat → rt_Rc} : ∀ {cs : List Nat} {c : Nat}, c ∈ cs → rt_ak L (rt_rr (L c)) cs ≥ (if rt_rk (L c) = 1 then 3 else 2) := by
  intro cs
  induction cs with
  | nil => intro c hc; cases hc
  | cons d ds ih =>
    intro c hc
    unfold rt_ak
    cases hc with
    | head => rw [if_pos rfl]; omega
    | tail _ hm =>
      have := ih hm
      split <;> omega
end
section
/-! ## numbers: a place in the log or NO -/
def rt_e : Nat → Int32
  | 0 => -1
  | n + 1 => nI n
theorem rt_e_t {n : Nat} (h : n < 2 ^ 31) : (rt_e n).toInt = (n : Int) - 1 := by
  cases n with
  | zero => decide
  | succ n => show (nI n).toInt = _; rw [nI_toInt (by omega)]; omega
theorem rt_e_eq {a b : Nat} (ha : a < 2 ^ 31) (hb : b < 2 ^ 31) : rt_e a = rt_e b ↔ a = b := by
  rw [← Int32.toInt_inj, rt_e_t ha, rt_e_t hb]; omega
theorem rt_e_le {a b : Nat} (ha : a < 2 ^ 31) (hb : b < 2 ^ 31) : rt_e a ≤ rt_e b ↔ a ≤ b := by
  rw [Int32.le_iff_toInt_le, rt_e_t ha, rt_e_t hb]; omega
theorem rt_e_lt {a b : Nat} (ha : a < 2 ^ 31) (hb : b < 2 ^ 31) : rt_e a < rt_e b ↔ a < b := by
  rw [Int32.lt_iff_toInt_lt, rt_e_t ha, rt_e_t hb]; omega
theorem rt_e_1 (n : Nat) : rt_e n + 1 = nI n := by
  cases n with
  | zero => decide
  | succ n => exact nI_1 n
theorem rt_ble {x y : Int32} {A B : Prop} (a b : Nat) (hx : x = rt_e a) (hy : y = rt_e b) (ha : a < 2 ^ 31) (hb : b < 2 ^ 31) (f : a ≤ b → A) (g : b < a → B) : (x ≤ y → A) ∧ (¬ x ≤ y → B) := by
  subst hx hy
  rw [rt_e_le ha hb]
  exact ⟨f, fun z => g (by omega)⟩
theorem rt_blt {x y : Int32} {A B : Prop} (a b : Nat) (hx : x = rt_e a) (hy : y = rt_e b) (ha : a < 2 ^ 31) (hb : b < 2 ^ 31) (f : a < b → A) (g : b ≤ a → B) : (x < y → A) ∧ (¬ x < y → B) := by
  subst hx hy
  rw [rt_e_lt ha hb]
  exact ⟨f, fun z => g (by omega)⟩
theorem rt_beq {x y : Int32} {A B : Prop} (a b : Nat) (hx : x = rt_e a) (hy : y = rt_e b) (ha : a < 2 ^ 31) (hb : b < 2 ^ 31) (f : a = b → A) (g : a ≠ b → B) : (x = y → A) ∧ (¬ x = y → B) := by
  subst hx hy
  rw [rt_e_eq ha hb]
  exact ⟨f, g⟩
theorem rt_i8 : ∀ k, k < 16 → (nI k).toInt8.toInt32 = nI k := by decide
theorem rt_nb {k : Nat} (h : k < 16) : vp_nar .byte (nI k) = nI k := by rw [vp_nar_byte]; exact rt_i8 k h
theorem rt_nb8 {k : Nat} (h : k < 16) : vp_nar .byte (nI k).toInt8.toInt32 = nI k := by rw [rt_i8 k h]; exact rt_nb h
theorem rt_nb0 : vp_nar .byte 0 = 0 := rt_nb (k := 0) (by decide)
theorem rt_nb1 : vp_nar .byte 1 = 1 := rt_nb (k := 1) (by decide)
theorem rt_nb2 : vp_nar .byte 2 = 2 := rt_nb (k := 2) (by decide)
theorem rt_nb3 : vp_nar .byte 3 = 3 := rt_nb (k := 3) (by decide)
theorem rt_nbm : vp_nar .byte (-1) = -1 := by rw [vp_nar_byte]; decide
theorem rt_4 (b i : Nat) : 4 * nI b + nI i = nI (4 * b + i) := by rw [show (4 : Int32) = nI 4 from rfl, pk_mul, nI_add]
theorem rt_12 (b i : Nat) : 12 * nI b + nI i = nI (12 * b + i) := by rw [show (12 : Int32) = nI 12 from rfl, pk_mul, nI_add]
theorem rt_12' (b i : Nat) : nI b * 12 + nI i = nI (12 * b + i) := by rw [show (12 : Int32) = nI 12 from rfl, pk_mul, nI_add, Nat.mul_comm]
theorem rt_10' (b i : Nat) : nI b * 10 + nI i = nI (10 * b + i) := by rw [show (10 : Int32) = nI 10 from rfl, pk_mul, nI_add, Nat.mul_comm]
theorem rt_sh {r : Nat} (h : r < 2 ^ 31) : nI r >>> ((2 : Int32) &&& 31) = nI (r / 4) := pk_shrN h _ 2 (by decide)
theorem rt_a3 {r : Nat} (h : r < 2 ^ 31) : nI r &&& 3 = nI (r % 4) := pk_andN (by omega) 2 (by decide)
theorem rt_a255 {r : Nat} (h : r < 2 ^ 31) : nI r &&& 255 = nI (r % 256) := pk_andN (by omega) 8 (by decide)
/-! ## copies of four cells; a row of locks put to zero -/
def rt_cp (dst src : Nat → Int32) (p b i : Nat) : Nat → Int32 := fun j => if 4 * p + i ≤ j ∧ j < 4 * p + 4 then src (4 * b + (j - 4 * p)) else dst j
theorem rt_cp_4 {dst src : Nat → Int32} {p b : Nat} : rt_cp dst src p b 4 = dst := by
  funext j; exact if_neg (by omega)
theorem rt_cp_s {dst src : Nat → Int32} {p b i : Nat} (hi : i < 4) : rt_cp (upd dst (4 * p + i) (src (4 * b + i))) src p b (i + 1) = rt_cp dst src p b i := by
  funext j
  unfold rt_cp
  by_cases e : j = 4 * p + i
  · subst e
    rw [if_neg (by omega), if_pos (by omega), pk_us, Nat.add_sub_cancel_left]
  · rw [pk_un e]
    by_cases h : 4 * p + (i + 1) ≤ j ∧ j < 4 * p + 4
    · rw [if_pos h, if_pos (by omega)]
    · rw [if_neg h, if_neg (by omega)]
theorem rt_cp_in {dst src : Nat → Int32} {p b k : Nat} (hk : k < 4) : rt_cp dst src p b 0 (4 * p + k) = src (4 * b + k) := by
  unfold rt_cp
  rw [if_pos (by omega), Nat.add_sub_cancel_left]
theorem rt_cp_out {dst src : Nat → Int32} {p b q k : Nat} (hk : k < 4) (hq : q ≠ p) : rt_cp dst src p b 0 (4 * q + k) = dst (4 * q + k) := if_neg (by omega)
def rt_zr (lk : Nat → Int32) (t i : Nat) : Nat → Int32 := fun j => if 12 * t + i ≤ j ∧ j < 12 * t + 12 then 0 else lk j
theorem rt_zr_12 {lk : Nat → Int32} {t : Nat} : rt_zr lk t 12 = lk := by
  funext j; exact if_neg (by omega)
theorem rt_zr_s {lk : Nat → Int32} {t i : Nat} (hi : i < 12) : rt_zr (upd lk (12 * t + i) 0) t (i + 1) = rt_zr lk t i := by
  funext j
  unfold rt_zr
  by_cases e : j = 12 * t + i
  · subst e
    rw [if_neg (by omega), if_pos (by omega), pk_us]
  · rw [pk_un e]
    by_cases h : 12 * t + (i + 1) ≤ j ∧ j < 12 * t + 12
    · rw [if_pos h, if_pos (by omega)]
    · rw [if_neg h, if_neg (by omega)]
theorem rt_zr_in {lk : Nat → Int32} {t k : Nat} (hk : k < 12) : rt_zr lk t 0 (12 * t + k) = 0 := if_pos (by omega)
theorem rt_zr_out {lk : Nat → Int32} {t u k : Nat} (hk : k < 12) (hu : u ≠ t) : rt_zr lk t 0 (12 * u + k) = lk (12 * u + k) := if_neg (by omega)
/-! ## buffers and disk -/
def rt_cu (pg ls dl : Nat → Nat) (p : Nat) : Nat := if pg 0 = p + 1 then ls 0 else if pg 1 = p + 1 then ls 1 else dl p
def rt_PB (L : Nat → rt_Rc) (s m : Nat) (pg ls si dl : Nat → Nat) (held : Nat → Int32) (b : Nat) : Prop :=
  pg b ≤ 3 ∧ (pg b = 0 → si b = 0) ∧ ∀ p, pg b = p + 1 → ls b ≤ m ∧ (∀ k, k < 4 → held (4 * b + k) = rt_row (rt_A L (ls b)) (4 * p + k)) ∧
    (si b = 0 → ls b = dl p) ∧ (si b ≠ 0 → dl p < si b ∧ si b ≤ ls b ∧ s < si b ∧ rt_Qt L p (dl p) (si b - 1))
def rt_PG (L : Nat → rt_Rc) (s m f : Nat) (pg ls si dl : Nat → Nat) (disk held : Nat → Int32) : Prop :=
  f ≤ m ∧ (pg 0 = pg 1 → pg 0 = 0) ∧ (∀ p, p < 3 → dl p ≤ f ∧ ∀ k, k < 4 → disk (4 * p + k) = rt_row (rt_A L (dl p)) (4 * p + k)) ∧ (∀ b, b < 2 → rt_PB L s m pg ls si dl held b)
def rt_PC (L : Nat → rt_Rc) (pg ls dl : Nat → Nat) (n : Nat) : Prop := ∀ p, p < 3 → rt_Qt L p (rt_cu pg ls dl p) n
/-- the checkpoint's pages -/
def rt_CK (L : Nat → rt_Rc) (s c : Nat) (dl cp : Nat → Nat) : Prop :=
  ∀ p, p < 3 → (cp p = 0 → rt_Qt L p (dl p) c) ∧ (cp p ≠ 0 → s < cp p ∧ cp p ≤ c ∧ rt_Qt L p (dl p) (cp p - 1))
def rt_BX (L : Nat → rt_Rc) (s m f c n : Nat) (cp pg ls si dl : Nat → Nat) (a_disk a_diskLsn a_page a_lsn a_since a_held : Nat → Int32) : Prop :=
  ((∀ p, p < 3 → a_diskLsn p = rt_e (dl p)) ∧ (∀ b, b < 2 → a_page b = rt_e (pg b) ∧ a_lsn b = rt_e (ls b) ∧ a_since b = rt_e (si b))) ∧
  rt_PG L s m f pg ls si dl a_disk a_held ∧ rt_PC L pg ls dl n ∧ rt_CK L s c dl cp
theorem rt_cu_b {pg ls dl : Nat → Nat} {b p : Nat} (hb : b < 2) (h : pg b = p + 1) (hd : pg 0 = pg 1 → pg 0 = 0) : rt_cu pg ls dl p = ls b := by
  unfold rt_cu
  have h2 : b = 0 ∨ b = 1 := by omega
  rcases h2 with rfl | rfl
  · rw [if_pos h]
  · by_cases z : pg 0 = p + 1
    · exact absurd (hd (z.trans h.symm)) (by omega)
    · rw [if_neg z, if_pos h]
theorem rt_cu_le {L : Nat → rt_Rc} {s m f : Nat} {pg ls si dl : Nat → Nat} {disk held : Nat → Int32} (h : rt_PG L s m f pg ls si dl disk held) {p : Nat} (hp : p < 3) : rt_cu pg ls dl p ≤ m := by
  obtain ⟨h1, h2, h3, h4⟩ := h
  have := (h3 p hp).1
  unfold rt_cu
  split
  · next z => exact ((h4 0 (by omega)).2.2 p z).1
  · split
    · next z => exact ((h4 1 (by omega)).2.2 p z).1
    · omega
theorem rt_dl_ls {L : Nat → rt_Rc} {s m : Nat} {pg ls si dl : Nat → Nat} {held : Nat → Int32} {b p : Nat} (h : rt_PB L s m pg ls si dl held b) (hp : pg b = p + 1) : dl p ≤ ls b := by
  obtain ⟨_, _, h3⟩ := h
  obtain ⟨_, _, g1, g2⟩ := h3 p hp
  by_cases z : si b = 0
  · have := g1 z; omega
  · have := g2 z; omega
theorem rt_PG_wb {L : Nat → rt_Rc} {s m f f' b p : Nat} {pg ls si dl : Nat → Nat} {disk held : Nat → Int32} (h : rt_PG L s m f pg ls si dl disk held) (hb : b < 2) (hp : pg b = p + 1)
    (hf : f ≤ f') (hl : ls b ≤ f') (hm : f' ≤ m) : rt_PG L s m f' pg ls (rt_u si b 0) (rt_u dl p (ls b)) (rt_cp disk held p b 0) held := by
  obtain ⟨h1, h2, h3, h4⟩ := h
  obtain ⟨k1, k2, k3⟩ := h4 b hb
  obtain ⟨g1, g2, g3, g4⟩ := k3 p hp
  refine ⟨hm, h2, fun q hq => ?_, fun b' hb' => ?_⟩
  · by_cases e : q = p
    · subst e
      rw [rt_us]
      refine ⟨hl, fun k hk => ?_⟩
      rw [rt_cp_in hk]
      exact g2 k hk
    · rw [rt_uo e]
      refine ⟨by have := (h3 q hq).1; omega, fun k hk => ?_⟩
      rw [rt_cp_out hk e]
      exact (h3 q hq).2 k hk
  · obtain ⟨k1', k2', k3'⟩ := h4 b' hb'
    by_cases e : b' = b
    · subst e
      refine ⟨k1, fun _ => rt_us, fun p' hp' => ?_⟩
      have e2 : p' = p := by omega
      subst e2
      exact ⟨g1, g2, fun _ => rt_us.symm, fun z => absurd rt_us z⟩
    · refine ⟨k1', fun z => by rw [rt_uo e]; exact k2' z, fun p' hp' => ?_⟩
      have e2 : p' ≠ p := by
        intro z
        subst z
        have hbb : (b = 0 ∧ b' = 1) ∨ (b = 1 ∧ b' = 0) := by omega
        rcases hbb with ⟨rfl, rfl⟩ | ⟨rfl, rfl⟩
        · have := h2 (hp.trans hp'.symm); omega
        · have := h2 (hp'.trans hp.symm); omega
      rw [rt_uo e, rt_uo e2]
      exact k3' p' hp'
theorem rt_cu_wb {pg ls dl : Nat → Nat} {b p : Nat} {x : Nat} (hb : b < 2) (hp : pg b = p + 1) (q : Nat) : rt_cu pg ls (rt_u dl p x) q = rt_cu pg ls dl q := by
  unfold rt_cu
  by_cases e : q = p
  · subst e
    have h2 : b = 0 ∨ b = 1 := by omega
    rcases h2 with rfl | rfl
    · rw [if_pos hp, if_pos hp]
    · rw [if_pos hp, if_pos hp]
  · rw [rt_uo e]
theorem rt_CK_dl {L : Nat → rt_Rc} {s c : Nat} {dl dl' cp : Nat → Nat} (h : rt_CK L s c dl cp) (hd : ∀ p, p < 3 → dl p ≤ dl' p) : rt_CK L s c dl' cp :=
  fun p hp => ⟨fun z => rt_Qt_mo ((h p hp).1 z) (hd p hp) (Nat.le_refl _), fun z => ⟨((h p hp).2 z).1, ((h p hp).2 z).2.1, rt_Qt_mo ((h p hp).2 z).2.2 (hd p hp) (Nat.le_refl _)⟩⟩
theorem rt_PG_ld {L : Nat → rt_Rc} {s m f b p : Nat} {pg ls si dl : Nat → Nat} {disk held : Nat → Int32} (h : rt_PG L s m f pg ls si dl disk held) (hb : b < 2) (hp : p < 3)
    (ho : ∀ b', b' < 2 → b' ≠ b → pg b' ≠ p + 1) : rt_PG L s m f (rt_u pg b (p + 1)) (rt_u ls b (dl p)) (rt_u si b 0) dl disk (rt_cp held disk b p 0) := by
  obtain ⟨h1, h2, h3, h4⟩ := h
  refine ⟨h1, ?_, h3, fun b' hb' => ?_⟩
  · have hbb : b = 0 ∨ b = 1 := by omega
    rcases hbb with rfl | rfl
    · rw [rt_us, rt_uo (by decide)]
      intro z; exact absurd z.symm (ho 1 (by decide) (by decide))
    · rw [rt_us, rt_uo (by decide)]
      intro z; exact absurd z (ho 0 (by decide) (by decide))
  · obtain ⟨k1', k2', k3'⟩ := h4 b' hb'
    unfold rt_PB
    by_cases e : b' = b
    · subst e
      rw [rt_us, rt_us, rt_us]
      refine ⟨by omega, fun _ => rfl, fun p' hp' => ?_⟩
      have e2 : p' = p := by omega
      subst e2
      refine ⟨by have := (h3 p' hp).1; omega, fun k hk => ?_, fun _ => rfl, fun z => absurd rfl z⟩
      rw [rt_cp_in hk]
      exact (h3 p' hp).2 k hk
    · rw [rt_uo e, rt_uo e, rt_uo e]
      refine ⟨k1', k2', fun p' hp' => ?_⟩
      obtain ⟨g1, g2, g3, g4⟩ := k3' p' hp'
      refine ⟨g1, fun k hk => ?_, g3, g4⟩
      rw [rt_cp_out hk e]
      exact g2 k hk
theorem rt_cu_ld {L : Nat → rt_Rc} {s m f b p : Nat} {pg ls si dl : Nat → Nat} {disk held : Nat → Int32} (h : rt_PG L s m f pg ls si dl disk held) (hb : b < 2)
    (ho : ∀ b', b' < 2 → pg b' ≠ p + 1) (hs : si b = 0) (q : Nat) : rt_cu (rt_u pg b (p + 1)) (rt_u ls b (dl p)) dl q = rt_cu pg ls dl q := by
  obtain ⟨h1, h2, h3, h4⟩ := h
  have hq := (h4 b hb).2.2 q
  have o0 := ho 0 (by decide); have o1 := ho 1 (by decide)
  unfold rt_cu
  have hbb : b = 0 ∨ b = 1 := by omega
  rcases hbb with rfl | rfl
  · rw [rt_us, rt_us, rt_uo (show (1 : Nat) ≠ 0 by decide), rt_uo (show (1 : Nat) ≠ 0 by decide)]
    by_cases e : p = q
    · subst e
      rw [if_pos rfl, if_neg o0, if_neg o1]
    · rw [if_neg (by omega)]
      by_cases z : pg 0 = q + 1
      · have e1 := (hq z).2.2.1 hs
        have e2 : pg 1 ≠ q + 1 := fun z1 => by have := h2 (z.trans z1.symm); omega
        rw [if_neg e2, if_pos z, e1]
      · rw [if_neg z]
  · rw [rt_us, rt_us, rt_uo (show (0 : Nat) ≠ 1 by decide), rt_uo (show (0 : Nat) ≠ 1 by decide)]
    by_cases e : p = q
    · subst e
      rw [if_neg o0, if_pos rfl, if_neg o0, if_neg o1]
    · by_cases z0 : pg 0 = q + 1
      · rw [if_pos z0, if_pos z0]
      · rw [if_neg z0, if_neg (by omega), if_neg z0]
        by_cases z : pg 1 = q + 1
        · rw [if_pos z]; exact ((hq z).2.2.1 hs).symm
        · rw [if_neg z]
theorem rt_PG_pf {L : Nat → rt_Rc} {s m m' f b p k n : Nat} {pg ls si dl : Nat → Nat} {disk held : Nat → Int32} (h : rt_PG L s m f pg ls si dl disk held) (hb : b < 2) (hp : pg b = p + 1)
    (hm : m ≤ m') (hn : n < m') (hs : s ≤ n) (hk : rt_rk (L n) ≤ 4) (hr : rt_rr (L n) = 4 * p + k) (hk4 : k < 4) (hl : ls b ≤ n) (hq : rt_Qt L p (ls b) n) :
    rt_PG L s m' f pg (rt_u ls b (n + 1)) (rt_u si b (if si b = 0 then n + 1 else si b)) dl disk (upd held (4 * b + k) (rt_rw (L n) (rt_row (rt_A L n)) (4 * p + k))) := by
  obtain ⟨h1, h2, h3, h4⟩ := h
  obtain ⟨k1, k2, k3⟩ := h4 b hb
  obtain ⟨g1, g2, g3, g4⟩ := k3 p hp
  have hA : rt_row (rt_A L (n + 1)) = rt_rw (L n) (rt_row (rt_A L n)) := rt_row_t hk
  refine ⟨by omega, h2, h3, fun b' hb' => ?_⟩
  obtain ⟨k1', k2', k3'⟩ := h4 b' hb'
  unfold rt_PB
  by_cases e : b' = b
  · subst e
    rw [rt_us, rt_us]
    refine ⟨k1, fun z => by omega, fun p' hp' => ?_⟩
    have e2 : p' = p := by omega
    subst e2
    refine ⟨by omega, fun j hj => ?_, fun z => ?_, fun z => ?_⟩
    · rw [hA]
      by_cases ej : j = k
      · subst ej; rw [pk_us]
      · rw [pk_un (by omega), g2 j hj, ← rt_Qt_row hq hl (show (4 * p' + j) / 4 = p' by omega)]
        unfold rt_rw
        split
        · rw [pk_un (by omega)]
        · rw [pk_un (by omega)]
    · split at z <;> omega
    · by_cases z0 : si b' = 0
      · rw [if_pos z0]
        have := g3 z0
        exact ⟨by omega, by omega, by omega, by rw [← this]; exact hq⟩
      · rw [if_neg z0]
        obtain ⟨y1, y2, y3, y4⟩ := g4 z0
        exact ⟨y1, by omega, y3, y4⟩
  · rw [rt_uo e, rt_uo e]
    refine ⟨k1', k2', fun p' hp' => ?_⟩
    obtain ⟨y1, y2, y3, y4⟩ := k3' p' hp'
    refine ⟨by omega, fun j hj => ?_, y3, y4⟩
    rw [pk_un (by omega)]
    exact y2 j hj
theorem rt_PC_pf {L : Nat → rt_Rc} {b p n : Nat} {pg ls dl : Nat → Nat} (h : rt_PC L pg ls dl n) (hb : b < 2) (hp : pg b = p + 1) (hd : pg 0 = pg 1 → pg 0 = 0)
    (hr : rt_rr (L n) / 4 = p) : rt_PC L pg (rt_u ls b (n + 1)) dl (n + 1) := by
  intro q hq
  by_cases e : q = p
  · subst e
    rw [rt_cu_b hb hp hd, rt_us]
    intro j a c; omega
  · have ecu : rt_cu pg (rt_u ls b (n + 1)) dl q = rt_cu pg ls dl q := by
      unfold rt_cu
      have h2 : b = 0 ∨ b = 1 := by omega
      rcases h2 with rfl | rfl
      · rw [if_neg (show ¬ pg 0 = q + 1 by omega), if_neg (show ¬ pg 0 = q + 1 by omega), rt_uo (by decide)]
      · rw [if_neg (show ¬ pg 1 = q + 1 by omega), if_neg (show ¬ pg 1 = q + 1 by omega), rt_uo (by decide)]
    rw [ecu]
    intro j a c
    by_cases z : j = n
    · subst z
      intro ⟨_, w⟩
      omega
    · exact h q hq j a (by omega)
/-- a page that the record at n doesn't change, or changes no more -/
theorem rt_PC_sk {L : Nat → rt_Rc} {n : Nat} {pg ls dl : Nat → Nat} (h : rt_PC L pg ls dl n) (hr : ∀ p, p < 3 → rt_tc (L n) p → n < rt_cu pg ls dl p) : rt_PC L pg ls dl (n + 1) := by
  intro q hq j a c
  by_cases z : j = n
  · subst z
    intro w
    have := hr q hq w
    omega
  · exact h q hq j a (by omega)
end
section
/-! ## the component's walks: leaving, losing, buffers -/
theorem rt_leave37 {post : SX → Prop} {f_logStart f_logEnd f_forced f_checkLsn f_latest f_up f_broken f_fuse f_accepted f_found : Int32} {a_disk a_diskLsn a_logKind a_logSlot a_logRecord a_logValue a_logBefore a_logBack a_logNumber a_checkPage a_checkState a_checkUndo a_checkFirst a_checkNumber a_page a_lsn a_since a_held a_state a_undo a_first a_number a_effect a_lacking : Nat → Int32} {t : Nat} (ht : t < 4) : ∀ (d i : Nat) (lk : Nat → Int32), i + d = 12 → post (f_logStart, f_logEnd, f_forced, f_checkLsn, f_latest, f_up, f_broken, f_fuse, f_accepted, f_found, a_disk, a_diskLsn, a_logKind, a_logSlot, a_logRecord, a_logValue, a_logBefore, a_logBack, a_logNumber, a_checkPage, a_checkState, a_checkUndo, a_checkFirst, a_checkNumber, a_page, a_lsn, a_since, a_held, a_state, a_undo, a_first, a_number, a_effect, rt_zr lk t i, a_lacking) → wX_leave_37 post (nI t) f_logStart f_logEnd f_forced f_checkLsn f_latest f_up f_broken f_fuse f_accepted f_found (d + 1) (nI i) a_disk a_diskLsn a_logKind a_logSlot a_logRecord a_logValue a_logBefore a_logBack a_logNumber a_checkPage a_checkState a_checkUndo a_checkFirst a_checkNumber a_page a_lsn a_since a_held a_state a_undo a_first a_number a_effect lk a_lacking := by
  intro d
  induction d with
  | zero =>
    intro i lk hi H
    have e : i = 12 := by omega
    subst e
    rw [rt_zr_12] at H
    exact br_t (nI_le (a := 12) (b := 12) (by omega) (by omega)) H
  | succ d ih =>
    intro i lk hi H
    refine br_f (nI_ge (b := 12) (by omega) (by omega)) ⟨?_, nm_r (e' := upd lk (12 * t + i) 0) ?_ (nm_r (nI_1 i) (ih (i + 1) _ (by omega) ?_))⟩
    · rw [rt_12]; exact vp_in_nI (by omega) (by omega)
    · rw [rt_12, nI_clamp (by omega), rt_nb0]
    · rw [rt_zr_s (by omega)]; exact H
theorem rt_leave {post : SX → Prop} {f_logStart f_logEnd f_forced f_checkLsn f_latest f_up f_broken f_fuse f_accepted f_found : Int32} {a_disk a_diskLsn a_logKind a_logSlot a_logRecord a_logValue a_logBefore a_logBack a_logNumber a_checkPage a_checkState a_checkUndo a_checkFirst a_checkNumber a_page a_lsn a_since a_held a_state a_undo a_first a_number a_effect a_locks a_lacking : Nat → Int32} {t : Nat} (ht : t < 4)
    (H : post (f_logStart, f_logEnd, f_forced, f_checkLsn, f_latest, f_up, f_broken, f_fuse, f_accepted, f_found, a_disk, a_diskLsn, a_logKind, a_logSlot, a_logRecord, a_logValue, a_logBefore, a_logBack, a_logNumber, a_checkPage, a_checkState, a_checkUndo, a_checkFirst, a_checkNumber, a_page, a_lsn, a_since, a_held, upd a_state t 0, upd a_undo t (-1), upd a_first t (-1), upd a_number t 0, upd a_effect t 0, rt_zr a_locks t 0, a_lacking)) : wpX_leave post (f_logStart, f_logEnd, f_forced, f_checkLsn, f_latest, f_up, f_broken, f_fuse, f_accepted, f_found, a_disk, a_diskLsn, a_logKind, a_logSlot, a_logRecord, a_logValue, a_logBefore, a_logBack, a_logNumber, a_checkPage, a_checkState, a_checkUndo, a_checkFirst, a_checkNumber, a_page, a_lsn, a_since, a_held, a_state, a_undo, a_first, a_number, a_effect, a_locks, a_lacking) (nI t) := by
  have hi : vp_in (nI t) 4 := vp_in_nI ht (by omega)
  have hc : (nI t).toNatClampNeg = t := nI_clamp (by omega)
  unfold wpX_leave
  dsimp only
  rw [hc, rt_nb0]
  exact ⟨hi, nm_e ⟨hi, nm_e ⟨hi, nm_e ⟨hi, nm_e ⟨hi, nm_e ⟨13, rt_leave37 ht 12 0 _ (by omega) H⟩⟩⟩⟩⟩⟩
/-- after a loss: no page, no transaction -/
theorem rt_lose37 {post : SX → Prop} : ∀ (d i : Nat) {f_logStart f_logEnd f_forced f_checkLsn f_latest f_up f_broken f_fuse f_accepted f_found : Int32} {a_disk a_diskLsn a_logKind a_logSlot a_logRecord a_logValue a_logBefore a_logBack a_logNumber a_checkPage a_checkState a_checkUndo a_checkFirst a_checkNumber a_page a_lsn a_since a_held a_state a_undo a_first a_number a_effect a_locks a_lacking : Nat → Int32}, i + d = 4 →
    (∀ a_state' a_undo' a_first' a_number' a_effect' a_locks', (∀ t, t < 4 → (i ≤ t → a_state' t = 0 ∧ a_undo' t = -1 ∧ a_first' t = -1 ∧ a_number' t = 0 ∧ a_effect' t = 0 ∧ ∀ r, r < 12 → a_locks' (12 * t + r) = 0) ∧ (t < i → a_state' t = a_state t ∧ a_undo' t = a_undo t ∧ a_first' t = a_first t ∧ a_number' t = a_number t ∧ a_effect' t = a_effect t ∧ ∀ r, r < 12 → a_locks' (12 * t + r) = a_locks (12 * t + r))) →
      post (f_logStart, f_logEnd, f_forced, f_checkLsn, f_latest, f_up, f_broken, f_fuse, f_accepted, f_found, a_disk, a_diskLsn, a_logKind, a_logSlot, a_logRecord, a_logValue, a_logBefore, a_logBack, a_logNumber, a_checkPage, a_checkState, a_checkUndo, a_checkFirst, a_checkNumber, a_page, a_lsn, a_since, a_held, a_state', a_undo', a_first', a_number', a_effect', a_locks', a_lacking)) → wX_lose_37 post (d + 1) (nI i) f_logStart f_logEnd f_forced f_checkLsn f_latest f_up f_broken f_fuse f_accepted f_found a_disk a_diskLsn a_logKind a_logSlot a_logRecord a_logValue a_logBefore a_logBack a_logNumber a_checkPage a_checkState a_checkUndo a_checkFirst a_checkNumber a_page a_lsn a_since a_held a_state a_undo a_first a_number a_effect a_locks a_lacking := by
  intro d
  induction d with
  | zero =>
    intro i
    intros
    rename_i hi H
    have e : i = 4 := by omega
    subst e
    exact br_t (nI_le (a := 4) (b := 4) (by omega) (by omega)) (H _ _ _ _ _ _ (fun t ht => ⟨fun z => by omega, fun _ => ⟨rfl, rfl, rfl, rfl, rfl, fun _ _ => rfl⟩⟩))
  | succ d ih =>
    intro i
    intros
    rename_i hi H
    refine br_f (nI_ge (b := 4) (by omega) (by omega)) (rt_leave (by omega) ?_)
    refine nm_r (nI_1 i) (ih (i + 1) (by omega) ?_)
    intro s1 s2 s3 s4 s5 s6 hs
    refine H _ _ _ _ _ _ (fun t ht => ⟨fun z => ?_, fun z => ?_⟩)
    · by_cases e : t = i
      · subst e
        obtain ⟨q1, q2, q3, q4, q5, q6⟩ := (hs t ht).2 (by omega)
        rw [q1, q2, q3, q4, q5, pk_us, pk_us, pk_us, pk_us, pk_us]
        exact ⟨rfl, rfl, rfl, rfl, rfl, fun r hr => by rw [q6 r hr, rt_zr_in hr]⟩
      · exact (hs t ht).1 (by omega)
    · obtain ⟨q1, q2, q3, q4, q5, q6⟩ := (hs t ht).2 (by omega)
      have e : t ≠ i := by omega
      rw [q1, q2, q3, q4, q5, pk_un e, pk_un e, pk_un e, pk_un e, pk_un e]
      exact ⟨rfl, rfl, rfl, rfl, rfl, fun r hr => by rw [q6 r hr, rt_zr_out hr e]⟩
theorem rt_lose {post : SX → Prop} {f_logStart f_logEnd f_forced f_checkLsn f_latest f_up f_broken f_fuse f_accepted f_found : Int32} {a_disk a_diskLsn a_logKind a_logSlot a_logRecord a_logValue a_logBefore a_logBack a_logNumber a_checkPage a_checkState a_checkUndo a_checkFirst a_checkNumber a_page a_lsn a_since a_held a_state a_undo a_first a_number a_effect a_locks a_lacking : Nat → Int32}
    (H : ∀ a_page' a_since' a_state' a_undo' a_first' a_number' a_effect' a_locks', (∀ b, b < 2 → a_page' b = -1 ∧ a_since' b = -1) → (∀ t, t < 4 → a_state' t = 0 ∧ a_undo' t = -1 ∧ a_first' t = -1 ∧ a_number' t = 0 ∧ a_effect' t = 0 ∧ ∀ r, r < 12 → a_locks' (12 * t + r) = 0) →
      post (f_logStart, f_forced, f_forced, f_checkLsn, f_latest, f_up, f_broken, f_fuse, f_accepted, f_found, a_disk, a_diskLsn, a_logKind, a_logSlot, a_logRecord, a_logValue, a_logBefore, a_logBack, a_logNumber, a_checkPage, a_checkState, a_checkUndo, a_checkFirst, a_checkNumber, a_page', a_lsn, a_since', a_held, a_state', a_undo', a_first', a_number', a_effect', a_locks', a_lacking)) : wpX_lose post (f_logStart, f_logEnd, f_forced, f_checkLsn, f_latest, f_up, f_broken, f_fuse, f_accepted, f_found, a_disk, a_diskLsn, a_logKind, a_logSlot, a_logRecord, a_logValue, a_logBefore, a_logBack, a_logNumber, a_checkPage, a_checkState, a_checkUndo, a_checkFirst, a_checkNumber, a_page, a_lsn, a_since, a_held, a_state, a_undo, a_first, a_number, a_effect, a_locks, a_lacking) := by
  have h0 : vp_in (0 : Int32) 2 := vp_in_nI (n := 0) (by omega) (by omega)
  have h1 : vp_in (nI 1) 2 := vp_in_nI (n := 1) (by omega) (by omega)
  refine ⟨3, br_f (nI_ge (a := 0) (b := 2) (by omega) (by omega)) ⟨h0, nm_r (e' := upd a_page 0 (-1)) (by rw [rt_nbm]; rfl) ⟨h0, nm_r (e' := upd a_since 0 (-1)) rfl (nm_r (nI_1 0) ?_)⟩⟩⟩
  refine br_f (nI_ge (a := 1) (b := 2) (by omega) (by omega)) ⟨h1, nm_r (e' := upd (upd a_page 0 (-1)) 1 (-1)) (by rw [rt_nbm]; rfl) ⟨h1, nm_r (e' := upd (upd a_since 0 (-1)) 1 (-1)) rfl (nm_r (nI_1 1) ?_)⟩⟩
  refine br_t (nI_le (a := 2) (b := 2) (by omega) (by omega)) ⟨5, rt_lose37 4 0 (by omega) ?_⟩
  intro s1 s2 s3 s4 s5 s6 hs
  refine H _ _ _ _ _ _ _ _ (fun b hb => ?_) (fun t ht => (hs t ht).1 (by omega))
  have hbb : b = 0 ∨ b = 1 := by omega
  rcases hbb with rfl | rfl
  · exact ⟨rfl, rfl⟩
  · exact ⟨rfl, rfl⟩
theorem rt_wb45 {post : SX → Prop} {f_logStart f_logEnd f_forced f_checkLsn f_latest f_up f_broken f_fuse f_accepted f_found : Int32} {a_diskLsn a_logKind a_logSlot a_logRecord a_logValue a_logBefore a_logBack a_logNumber a_checkPage a_checkState a_checkUndo a_checkFirst a_checkNumber a_page a_lsn a_since a_held a_state a_undo a_first a_number a_effect a_locks a_lacking : Nat → Int32} {b p : Nat} (hb : b < 2) (hp : p < 3) : ∀ (d i : Nat) (dk : Nat → Int32), i + d = 4 →
    post (f_logStart, f_logEnd, f_forced, f_checkLsn, f_latest, f_up, f_broken, f_fuse, f_accepted, f_found, rt_cp dk a_held p b i, upd a_diskLsn p (a_lsn b), a_logKind, a_logSlot, a_logRecord, a_logValue, a_logBefore, a_logBack, a_logNumber, a_checkPage, a_checkState, a_checkUndo, a_checkFirst, a_checkNumber, a_page, a_lsn, upd a_since b (-1), a_held, a_state, a_undo, a_first, a_number, a_effect, a_locks, a_lacking) → wX_writeBack_45 post (nI b) (nI p) f_logStart f_logEnd f_forced f_checkLsn f_latest f_up f_broken f_fuse f_accepted f_found (d + 1) (nI i) dk a_diskLsn a_logKind a_logSlot a_logRecord a_logValue a_logBefore a_logBack a_logNumber a_checkPage a_checkState a_checkUndo a_checkFirst a_checkNumber a_page a_lsn a_since a_held a_state a_undo a_first a_number a_effect a_locks a_lacking := by
  have hib : vp_in (nI b) 2 := vp_in_nI hb (by omega)
  have hip : vp_in (nI p) 3 := vp_in_nI hp (by omega)
  have hcb : (nI b).toNatClampNeg = b := nI_clamp (by omega)
  have hcp : (nI p).toNatClampNeg = p := nI_clamp (by omega)
  intro d
  induction d with
  | zero =>
    intro i dk hi H
    have e : i = 4 := by omega
    subst e
    rw [rt_cp_4] at H
    exact br_t (nI_le (a := 4) (b := 4) (by omega) (by omega)) ⟨hib, hip, nm_r (e' := upd a_diskLsn p (a_lsn b)) (by rw [hcb, hcp]) ⟨hib, nm_r (e' := upd a_since b (-1)) (by rw [hcb]) H⟩⟩
  | succ d ih =>
    intro i dk hi H
    refine br_f (nI_ge (b := 4) (by omega) (by omega)) ⟨?_, ?_, nm_r (e' := upd dk (4 * p + i) (a_held (4 * b + i))) ?_ (nm_r (nI_1 i) (ih (i + 1) _ (by omega) ?_))⟩
    · rw [rt_4]; exact vp_in_nI (by omega) (by omega)
    · rw [rt_4]; exact vp_in_nI (by omega) (by omega)
    · rw [rt_4, rt_4, nI_clamp (by omega), nI_clamp (by omega)]
    · rw [rt_cp_s (by omega)]; exact H
theorem rt_wb {post : SX → Prop} {f_logStart f_logEnd f_checkLsn f_latest f_up f_broken f_fuse f_accepted f_found : Int32} {a_disk a_diskLsn a_logKind a_logSlot a_logRecord a_logValue a_logBefore a_logBack a_logNumber a_checkPage a_checkState a_checkUndo a_checkFirst a_checkNumber a_page a_lsn a_since a_held a_state a_undo a_first a_number a_effect a_locks a_lacking : Nat → Int32} {L : Nat → rt_Rc} {s m f c n b : Nat} {cp pg ls si dl : Nat → Nat} (hb : b < 2) (hm : m < 1073741824)
    (h : rt_BX L s m f c n cp pg ls si dl a_disk a_diskLsn a_page a_lsn a_since a_held)
    (H : ∀ f' si' dl' a_disk' a_diskLsn' a_since', f ≤ f' → rt_BX L s m f' c n cp pg ls si' dl' a_disk' a_diskLsn' a_page a_lsn a_since' a_held → si' b = 0 → (∀ b', b' ≠ b → si' b' = si b') → (∀ p, p < 3 → rt_cu pg ls dl' p = rt_cu pg ls dl p) →
      post (f_logStart, f_logEnd, nI f', f_checkLsn, f_latest, f_up, f_broken, f_fuse, f_accepted, f_found, a_disk', a_diskLsn', a_logKind, a_logSlot, a_logRecord, a_logValue, a_logBefore, a_logBack, a_logNumber, a_checkPage, a_checkState, a_checkUndo, a_checkFirst, a_checkNumber, a_page, a_lsn, a_since', a_held, a_state, a_undo, a_first, a_number, a_effect, a_locks, a_lacking)) : wpX_writeBack post (f_logStart, f_logEnd, (nI f), f_checkLsn, f_latest, f_up, f_broken, f_fuse, f_accepted, f_found, a_disk, a_diskLsn, a_logKind, a_logSlot, a_logRecord, a_logValue, a_logBefore, a_logBack, a_logNumber, a_checkPage, a_checkState, a_checkUndo, a_checkFirst, a_checkNumber, a_page, a_lsn, a_since, a_held, a_state, a_undo, a_first, a_number, a_effect, a_locks, a_lacking) (nI b) := by
  have h' := h
  obtain ⟨⟨E1, E2⟩, hP, hC, hK⟩ := h
  obtain ⟨e1, e2, e3⟩ := E2 b hb
  have hPb := hP.2.2.2 b hb
  have hfm := hP.1
  have hi : vp_in (nI b) 2 := vp_in_nI hb (by omega)
  have hc : (nI b).toNatClampNeg = b := nI_clamp (by omega)
  by_cases hs : si b = 0
  · unfold wpX_writeBack
    dsimp only
    rw [hc]
    refine ⟨hi, br_t (by rw [e3, hs]; rfl) ?_⟩
    exact H f si dl _ _ _ (Nat.le_refl _) h' hs (fun _ _ => rfl) (fun _ _ => rfl)
  · obtain ⟨p, hp⟩ : ∃ p, pg b = p + 1 := by
      cases hz : pg b with
      | zero => exact absurd (hPb.2.1 hz) hs
      | succ p => exact ⟨p, rfl⟩
    obtain ⟨g1, g2, g3, g4⟩ := hPb.2.2 p hp
    obtain ⟨y1, y2, y3, y4⟩ := g4 hs
    have hp3 : p < 3 := by have := hPb.1; omega
    have key : ∀ f', f ≤ f' → ls b ≤ f' → f' ≤ m → post (f_logStart, f_logEnd, nI f', f_checkLsn, f_latest, f_up, f_broken, f_fuse, f_accepted, f_found, rt_cp a_disk a_held p b 0, upd a_diskLsn p (a_lsn b), a_logKind, a_logSlot, a_logRecord, a_logValue, a_logBefore, a_logBack, a_logNumber, a_checkPage, a_checkState, a_checkUndo, a_checkFirst, a_checkNumber, a_page, a_lsn, upd a_since b (-1), a_held, a_state, a_undo, a_first, a_number, a_effect, a_locks, a_lacking) := by
      intro f' hf hl hm'
      refine H f' (rt_u si b 0) (rt_u dl p (ls b)) _ _ _ hf ⟨⟨fun q hq => ?_, fun b' hb' => ?_⟩, rt_PG_wb hP hb hp hf hl hm', fun q hq => ?_, rt_CK_dl hK fun q hq => ?_⟩ rt_us (fun b' hb' => rt_uo hb') (fun q _ => rt_cu_wb hb hp q)
      · by_cases e : q = p
        · subst e; rw [pk_us, rt_us, e2]
        · rw [pk_un e, rt_uo e]; exact E1 q hq
      · obtain ⟨z1, z2, z3⟩ := E2 b' hb'
        refine ⟨z1, z2, ?_⟩
        by_cases e : b' = b
        · subst e; rw [pk_us, rt_us]; rfl
        · rw [pk_un e, rt_uo e]; exact z3
      · rw [rt_cu_wb hb hp q]; exact hC q hq
      · by_cases e : q = p
        · subst e; rw [rt_us]; exact rt_dl_ls hPb hp
        · rw [rt_uo e]; exact Nat.le_refl _
    have ep : a_page b = nI p := by rw [e1, hp]; rfl
    unfold wpX_writeBack
    dsimp only
    rw [hc]
    refine ⟨hi, br_f (by rw [e3]; intro z; exact hs ((rt_e_eq (b := 0) (by omega) (by omega)).mp z)) ⟨hi, ?_⟩⟩
    refine rt_blt (ls b) (f + 1) e2 rfl (by omega) (by omega) (fun z => ?_) (fun z => ?_)
    · refine ⟨hi, nm_r ep ⟨5, rt_wb45 hb hp3 4 0 _ (by omega) (key f (Nat.le_refl _) (by omega) hfm)⟩⟩
    · refine ⟨hi, nm_r (e' := nI (ls b)) (by rw [e2, rt_e_1]) ⟨hi, nm_r ep ⟨5, rt_wb45 hb hp3 4 0 _ (by omega) (key (ls b) (by omega) (Nat.le_refl _) g1)⟩⟩⟩
theorem rt_ft70 {post : Int32 → SX → Prop} {f_logStart f_logEnd f_forced f_checkLsn f_latest f_up f_broken f_fuse f_accepted f_found : Int32} {a_disk a_diskLsn a_logKind a_logSlot a_logRecord a_logValue a_logBefore a_logBack a_logNumber a_checkPage a_checkState a_checkUndo a_checkFirst a_checkNumber a_page a_lsn a_since a_state a_undo a_first a_number a_effect a_locks a_lacking : Nat → Int32} {b p : Nat} (hb : b < 2) (hp : p < 3) : ∀ (d i : Nat) (dk : Nat → Int32), i + d = 4 →
    wX_fetch_101 post (nI p) f_logStart f_logEnd f_forced f_checkLsn f_latest f_up f_broken f_fuse f_accepted f_found a_disk a_diskLsn a_logKind a_logSlot a_logRecord a_logValue a_logBefore a_logBack a_logNumber a_checkPage a_checkState a_checkUndo a_checkFirst a_checkNumber a_page a_lsn a_since (rt_cp dk a_disk b p i) a_state a_undo a_first a_number a_effect a_locks a_lacking → wX_fetch_70 post (nI p) (nI b) f_logStart f_logEnd f_forced f_checkLsn f_latest f_up f_broken f_fuse f_accepted f_found (d + 1) (nI i) a_disk a_diskLsn a_logKind a_logSlot a_logRecord a_logValue a_logBefore a_logBack a_logNumber a_checkPage a_checkState a_checkUndo a_checkFirst a_checkNumber a_page a_lsn a_since dk a_state a_undo a_first a_number a_effect a_locks a_lacking := by
  intro d
  induction d with
  | zero =>
    intro i dk hi H
    have e : i = 4 := by omega
    subst e
    rw [rt_cp_4] at H
    exact br_t (nI_le (a := 4) (b := 4) (by omega) (by omega)) H
  | succ d ih =>
    intro i dk hi H
    refine br_f (nI_ge (b := 4) (by omega) (by omega)) ⟨?_, ?_, nm_r (e' := upd dk (4 * b + i) (a_disk (4 * p + i))) ?_ (nm_r (nI_1 i) (ih (i + 1) _ (by omega) ?_))⟩
    · rw [rt_4]; exact vp_in_nI (by omega) (by omega)
    · rw [rt_4]; exact vp_in_nI (by omega) (by omega)
    · rw [rt_4, rt_4, nI_clamp (by omega), nI_clamp (by omega)]
    · rw [rt_cp_s (by omega)]; exact H
theorem rt_ft101 {post : Int32 → SX → Prop} {f_logStart f_logEnd f_forced f_checkLsn f_latest f_up f_broken f_fuse f_accepted f_found : Int32} {a_disk a_diskLsn a_logKind a_logSlot a_logRecord a_logValue a_logBefore a_logBack a_logNumber a_checkPage a_checkState a_checkUndo a_checkFirst a_checkNumber a_page a_lsn a_since a_held a_state a_undo a_first a_number a_effect a_locks a_lacking : Nat → Int32} {p b : Nat} {pg : Nat → Nat} (hb : b < 2) (hpg : ∀ b, b < 2 → a_page b = rt_e (pg b)) (hle : ∀ b, b < 2 → pg b ≤ 3) (hp : p < 3) (h : pg b = p + 1) (hd : pg 0 = pg 1 → pg 0 = 0)
    (H : post (nI b) (f_logStart, f_logEnd, f_forced, f_checkLsn, nI b, f_up, f_broken, f_fuse, f_accepted, f_found, a_disk, a_diskLsn, a_logKind, a_logSlot, a_logRecord, a_logValue, a_logBefore, a_logBack, a_logNumber, a_checkPage, a_checkState, a_checkUndo, a_checkFirst, a_checkNumber, a_page, a_lsn, a_since, a_held, a_state, a_undo, a_first, a_number, a_effect, a_locks, a_lacking)) : wX_fetch_101 post (nI p) f_logStart f_logEnd f_forced f_checkLsn f_latest f_up f_broken f_fuse f_accepted f_found a_disk a_diskLsn a_logKind a_logSlot a_logRecord a_logValue a_logBefore a_logBack a_logNumber a_checkPage a_checkState a_checkUndo a_checkFirst a_checkNumber a_page a_lsn a_since a_held a_state a_undo a_first a_number a_effect a_locks a_lacking := by
  have hbb : b = 0 ∨ b = 1 := by omega
  have l0 := hle 0 (by omega)
  rcases hbb with rfl | rfl
  · exact br_t (by rw [hpg 0 (by omega), h]; rfl) H
  · refine br_f (fun z => ?_) H
    rw [hpg 0 (by omega)] at z
    have z2 := (rt_e_eq (a := pg 0) (b := p + 1) (by omega) (by omega)).mp z
    have := hd (z2.trans h.symm)
    omega
theorem rt_ft41 {post : Int32 → SX → Prop} {f_logStart f_logEnd f_forced f_checkLsn f_latest f_up f_broken f_fuse f_accepted f_found : Int32} {a_disk a_diskLsn a_logKind a_logSlot a_logRecord a_logValue a_logBefore a_logBack a_logNumber a_checkPage a_checkState a_checkUndo a_checkFirst a_checkNumber a_page a_lsn a_since a_held a_state a_undo a_first a_number a_effect a_locks a_lacking : Nat → Int32} {L : Nat → rt_Rc} {s m f c n b p : Nat} {cp pg ls si dl : Nat → Nat} (hb : b < 2) (hp : p < 3) (hm : m < 1073741824)
    (h : rt_BX L s m f c n cp pg ls si dl a_disk a_diskLsn a_page a_lsn a_since a_held) (hs : si b = 0) (ho : ∀ b', b' < 2 → pg b' ≠ p + 1)
    (H : ∀ pg' ls' si' a_page' a_lsn' a_since' a_held', rt_BX L s m f c n cp pg' ls' si' dl a_disk a_diskLsn a_page' a_lsn' a_since' a_held' → pg' b = p + 1 → (∀ q, q < 3 → rt_cu pg' ls' dl q = rt_cu pg ls dl q) →
      post (nI b) (f_logStart, f_logEnd, f_forced, f_checkLsn, nI b, f_up, f_broken, f_fuse, f_accepted, f_found, a_disk, a_diskLsn, a_logKind, a_logSlot, a_logRecord, a_logValue, a_logBefore, a_logBack, a_logNumber, a_checkPage, a_checkState, a_checkUndo, a_checkFirst, a_checkNumber, a_page', a_lsn', a_since', a_held', a_state, a_undo, a_first, a_number, a_effect, a_locks, a_lacking)) : wX_fetch_41 post (nI p) (nI b) f_logStart f_logEnd f_forced f_checkLsn f_latest f_up f_broken f_fuse f_accepted f_found a_disk a_diskLsn a_logKind a_logSlot a_logRecord a_logValue a_logBefore a_logBack a_logNumber a_checkPage a_checkState a_checkUndo a_checkFirst a_checkNumber a_page a_lsn a_since a_held a_state a_undo a_first a_number a_effect a_locks a_lacking := by
  obtain ⟨⟨E1, E2⟩, hP, hC, hK⟩ := h
  have hib : vp_in (nI b) 2 := vp_in_nI hb (by omega)
  have hip : vp_in (nI p) 3 := vp_in_nI hp (by omega)
  have hcb : (nI b).toNatClampNeg = b := nI_clamp (by omega)
  have hcp : (nI p).toNatClampNeg = p := nI_clamp (by omega)
  have hP' := rt_PG_ld hP hb hp (fun b' hb' _ => ho b' hb')
  have hcu : ∀ q, q < 3 → rt_cu (rt_u pg b (p + 1)) (rt_u ls b (dl p)) dl q = rt_cu pg ls dl q := fun q _ => rt_cu_ld hP hb ho hs q
  have hpg' : ∀ b', b' < 2 → upd a_page b (nI p) b' = rt_e (rt_u pg b (p + 1) b') := by
    intro b' hb'
    by_cases e : b' = b
    · subst e; rw [pk_us, rt_us]; rfl
    · rw [pk_un e, rt_uo e]; exact (E2 b' hb').1
  refine ⟨hib, nm_r (e' := upd a_page b (nI p)) (by rw [hcb, rt_nb8 (by omega)]) ⟨hip, hib, nm_r (e' := upd a_lsn b (a_diskLsn p)) (by rw [hcb, hcp]) ⟨hib, nm_r (e' := upd a_since b (-1)) (by rw [hcb]) ⟨5, rt_ft70 hb hp 4 0 _ (by omega) ?_⟩⟩⟩⟩
  refine rt_ft101 (pg := rt_u pg b (p + 1)) hb hpg' (fun b' hb' => (hP'.2.2.2 b' hb').1) hp rt_us hP'.2.1 ?_
  refine H (rt_u pg b (p + 1)) (rt_u ls b (dl p)) (rt_u si b 0) _ _ _ _ ⟨⟨E1, fun b' hb' => ⟨hpg' b' hb', ?_, ?_⟩⟩, hP', fun q hq => ?_, hK⟩ rt_us hcu
  · by_cases e : b' = b
    · subst e; rw [pk_us, rt_us]; exact E1 p hp
    · rw [pk_un e, rt_uo e]; exact (E2 b' hb').2.1
  · by_cases e : b' = b
    · subst e; rw [pk_us, rt_us]; rfl
    · rw [pk_un e, rt_uo e]; exact (E2 b' hb').2.2
  · rw [hcu q hq]; exact hC q hq
theorem rt_ft {post : Int32 → SX → Prop} {f_logStart f_logEnd f_checkLsn f_up f_broken f_fuse f_accepted f_found : Int32} {a_disk a_diskLsn a_logKind a_logSlot a_logRecord a_logValue a_logBefore a_logBack a_logNumber a_checkPage a_checkState a_checkUndo a_checkFirst a_checkNumber a_page a_lsn a_since a_held a_state a_undo a_first a_number a_effect a_locks a_lacking : Nat → Int32} {L : Nat → rt_Rc} {s m f c n la p : Nat} {cp pg ls si dl : Nat → Nat} (hla : la < 2) (hp : p < 3) (hm : m < 1073741824)
    (h : rt_BX L s m f c n cp pg ls si dl a_disk a_diskLsn a_page a_lsn a_since a_held)
    (H : ∀ b f' pg' ls' si' dl' a_disk' a_diskLsn' a_page' a_lsn' a_since' a_held', b < 2 → f ≤ f' → rt_BX L s m f' c n cp pg' ls' si' dl' a_disk' a_diskLsn' a_page' a_lsn' a_since' a_held' → pg' b = p + 1 → (∀ q, q < 3 → rt_cu pg' ls' dl' q = rt_cu pg ls dl q) →
      post (nI b) (f_logStart, f_logEnd, nI f', f_checkLsn, nI b, f_up, f_broken, f_fuse, f_accepted, f_found, a_disk', a_diskLsn', a_logKind, a_logSlot, a_logRecord, a_logValue, a_logBefore, a_logBack, a_logNumber, a_checkPage, a_checkState, a_checkUndo, a_checkFirst, a_checkNumber, a_page', a_lsn', a_since', a_held', a_state, a_undo, a_first, a_number, a_effect, a_locks, a_lacking)) : wpX_fetch post (f_logStart, f_logEnd, (nI f), f_checkLsn, (nI la), f_up, f_broken, f_fuse, f_accepted, f_found, a_disk, a_diskLsn, a_logKind, a_logSlot, a_logRecord, a_logValue, a_logBefore, a_logBack, a_logNumber, a_checkPage, a_checkState, a_checkUndo, a_checkFirst, a_checkNumber, a_page, a_lsn, a_since, a_held, a_state, a_undo, a_first, a_number, a_effect, a_locks, a_lacking) (nI p) := by
  have h' := h
  obtain ⟨⟨E1, E2⟩, hP, hC, hK⟩ := h
  have hpg : ∀ b, b < 2 → a_page b = rt_e (pg b) := fun b hb => (E2 b hb).1
  have hle : ∀ b, b < 2 → pg b ≤ 3 := fun b hb => (hP.2.2.2 b hb).1
  have l0 := hle 0 (by omega); have l1 := hle 1 (by omega)
  unfold wpX_fetch
  dsimp only
  refine rt_beq (pg 0) (p + 1) (hpg 0 (by omega)) rfl (by omega) (by omega) (fun z0 => ?_) (fun z0 => ?_)
  · exact rt_ft101 (b := 0) (by omega) hpg hle hp z0 hP.2.1 (H 0 f pg ls si dl _ _ _ _ _ _ (by omega) (Nat.le_refl _) h' z0 (fun _ _ => rfl))
  · refine rt_beq (pg 1) (p + 1) (hpg 1 (by omega)) rfl (by omega) (by omega) (fun z1 => ?_) (fun z1 => ?_)
    · exact rt_ft101 (b := 1) (by omega) hpg hle hp z1 hP.2.1 (H 1 f pg ls si dl _ _ _ _ _ _ (by omega) (Nat.le_refl _) h' z1 (fun _ _ => rfl))
    · have ho : ∀ b', b' < 2 → pg b' ≠ p + 1 := by
        intro b' hb'
        have hbb : b' = 0 ∨ b' = 1 := by omega
        rcases hbb with rfl | rfl
        · exact z0
        · exact z1
      obtain ⟨b, hb, hbe⟩ : ∃ b, b < 2 ∧ (1 : Int32) - nI la = nI b := ⟨1 - la, by omega, by rw [show (1 : Int32) = nI 1 from rfl, pk_sub (by omega)]⟩
      have hib : vp_in (nI b) 2 := vp_in_nI hb (by omega)
      have hcb : (nI b).toNatClampNeg = b := nI_clamp (by omega)
      have lb := hle b hb
      refine nm_r hbe ?_
      rw [hcb]
      refine ⟨hib, ?_⟩
      refine rt_blt (pg b) 1 (hpg b hb) rfl (by omega) (by omega) (fun zb => ?_) (fun zb => ?_)
      · refine rt_ft41 hb hp hm h' ((hP.2.2.2 b hb).2.1 (by omega)) ho ?_
        intro pg' ls' si' d1 d2 d3 d4 hB hpb hcu
        exact H b f pg' ls' si' dl _ _ _ _ _ _ hb (Nat.le_refl _) hB hpb hcu
      · refine rt_wb hb hm h' ?_
        intro f' si' dl' d1 d2 d3 hf hB hs0 hso hcu
        refine rt_ft41 hb hp hm hB hs0 ho ?_
        intro pg' ls' si'' d4 d5 d6 d7 hB' hpb hcu'
        exact H b f' pg' ls' si'' dl' _ _ _ _ _ _ hb hf hB' hpb (fun q hq => (hcu' q hq).trans (hcu q hq))
/-- what a buffer holds of a page that is up to date -/
theorem rt_hv {L : Nat → rt_Rc} {s m f c n b p k : Nat} {cp pg ls si dl : Nat → Nat} {a_disk a_diskLsn a_page a_lsn a_since a_held : Nat → Int32} (h : rt_BX L s m f c n cp pg ls si dl a_disk a_diskLsn a_page a_lsn a_since a_held) (hb : b < 2) (hp : pg b = p + 1) (hk : k < 4) (hn : ls b ≤ n) : a_held (4 * b + k) = rt_row (rt_A L n) (4 * p + k) := by
  obtain ⟨_, hP, hC, _⟩ := h
  have hPb := hP.2.2.2 b hb
  obtain ⟨g1, g2, g3, g4⟩ := hPb.2.2 p hp
  rw [g2 k hk]
  have hq := hC p (by have := hPb.1; omega)
  rw [rt_cu_b hb hp hP.2.1] at hq
  exact (rt_Qt_row hq hn (by omega)).symm
theorem rt_valueOf {post : Int32 → SX → Prop} {f_logStart f_logEnd f_checkLsn f_up f_broken f_fuse f_accepted f_found : Int32} {a_disk a_diskLsn a_logKind a_logSlot a_logRecord a_logValue a_logBefore a_logBack a_logNumber a_checkPage a_checkState a_checkUndo a_checkFirst a_checkNumber a_page a_lsn a_since a_held a_state a_undo a_first a_number a_effect a_locks a_lacking : Nat → Int32} {L : Nat → rt_Rc} {s m f c la r : Nat} {cp pg ls si dl : Nat → Nat} (hla : la < 2) (hr : r < 12) (hm : m < 1073741824)
    (h : rt_BX L s m f c m cp pg ls si dl a_disk a_diskLsn a_page a_lsn a_since a_held)
    (H : ∀ b f' pg' ls' si' dl' a_disk' a_diskLsn' a_page' a_lsn' a_since' a_held', b < 2 → f ≤ f' → rt_BX L s m f' c m cp pg' ls' si' dl' a_disk' a_diskLsn' a_page' a_lsn' a_since' a_held' →
      post (rt_row (rt_A L m) r) (f_logStart, f_logEnd, nI f', f_checkLsn, nI b, f_up, f_broken, f_fuse, f_accepted, f_found, a_disk', a_diskLsn', a_logKind, a_logSlot, a_logRecord, a_logValue, a_logBefore, a_logBack, a_logNumber, a_checkPage, a_checkState, a_checkUndo, a_checkFirst, a_checkNumber, a_page', a_lsn', a_since', a_held', a_state, a_undo, a_first, a_number, a_effect, a_locks, a_lacking)) : wpX_valueOf post (f_logStart, f_logEnd, (nI f), f_checkLsn, (nI la), f_up, f_broken, f_fuse, f_accepted, f_found, a_disk, a_diskLsn, a_logKind, a_logSlot, a_logRecord, a_logValue, a_logBefore, a_logBack, a_logNumber, a_checkPage, a_checkState, a_checkUndo, a_checkFirst, a_checkNumber, a_page, a_lsn, a_since, a_held, a_state, a_undo, a_first, a_number, a_effect, a_locks, a_lacking) (nI r) := by
  unfold wpX_valueOf
  dsimp only
  rw [rt_sh (by omega), rt_a3 (by omega)]
  refine rt_ft hla (show r / 4 < 3 by omega) hm h ?_
  intro b f' pg' ls' si' dl' d1 d2 d3 d4 d5 d6 hb hf hB hpb hcu
  have hPb := hB.2.1.2.2.2 b hb
  have hv := rt_hv hB hb hpb (show r % 4 < 4 by omega) (hPb.2.2 _ hpb).1
  rw [show 4 * (r / 4) + r % 4 = r by omega] at hv
  dsimp only
  rw [rt_4, nI_clamp (by omega), hv]
  exact ⟨vp_in_nI (by omega) (by omega), H b f' pg' ls' si' dl' _ _ _ _ _ _ hb hf hB⟩
theorem rt_cu_mo {pg ls dl : Nat → Nat} {b x q : Nat} (h : ls b ≤ x) : rt_cu pg ls dl q ≤ rt_cu pg (rt_u ls b x) dl q := by
  have key : ∀ c, ls c ≤ rt_u ls b x c := by
    intro c
    by_cases e : c = b
    · subst e; rw [rt_us]; exact h
    · rw [rt_uo e]; exact Nat.le_refl _
  unfold rt_cu
  split
  · exact key 0
  · split
    · exact key 1
    · exact Nat.le_refl _
theorem rt_pf98 {post : SX → Prop} {f_logStart f_logEnd f_checkLsn f_latest f_up f_broken f_fuse f_accepted f_found : Int32} {a_disk a_diskLsn a_logKind a_logSlot a_logRecord a_logValue a_logBefore a_logBack a_logNumber a_checkPage a_checkState a_checkUndo a_checkFirst a_checkNumber a_page a_lsn a_since a_held a_state a_undo a_first a_number a_effect a_locks a_lacking : Nat → Int32} {L : Nat → rt_Rc} {s m m' f c n b p k : Nat} {cp pg ls si dl : Nat → Nat} {a_old : Nat → Int32} (hb : b < 2) (hm' : m' < 1073741824)
    (h : rt_BX L s m f c n cp pg ls si dl a_disk a_diskLsn a_page a_lsn a_since a_old) (hp : pg b = p + 1)
    (hm : m ≤ m') (hn : n < m') (hs : s ≤ n) (hk : rt_rk (L n) ≤ 4) (hr : rt_rr (L n) = 4 * p + k) (hk4 : k < 4) (hl : ls b ≤ n)
    (hh : a_held = upd a_old (4 * b + k) (rt_rw (L n) (rt_row (rt_A L n)) (4 * p + k)))
    (H : ∀ ls' si' a_lsn' a_since', rt_BX L s m' f c (n + 1) cp pg ls' si' dl a_disk a_diskLsn a_page a_lsn' a_since' a_held → (∀ q, q < 3 → rt_cu pg ls dl q ≤ rt_cu pg ls' dl q) → post (f_logStart, f_logEnd, (nI f), f_checkLsn, f_latest, f_up, f_broken, f_fuse, f_accepted, f_found, a_disk, a_diskLsn, a_logKind, a_logSlot, a_logRecord, a_logValue, a_logBefore, a_logBack, a_logNumber, a_checkPage, a_checkState, a_checkUndo, a_checkFirst, a_checkNumber, a_page, a_lsn', a_since', a_held, a_state, a_undo, a_first, a_number, a_effect, a_locks, a_lacking)) : wX_perform_98 post (nI n) (nI b) f_logStart f_logEnd (nI f) f_checkLsn f_latest f_up f_broken f_fuse f_accepted f_found a_disk a_diskLsn a_logKind a_logSlot a_logRecord a_logValue a_logBefore a_logBack a_logNumber a_checkPage a_checkState a_checkUndo a_checkFirst a_checkNumber a_page a_lsn a_since a_held a_state a_undo a_first a_number a_effect a_locks a_lacking := by
  obtain ⟨⟨E1, E2⟩, hP, hC, hK⟩ := h
  have hib : vp_in (nI b) 2 := vp_in_nI hb (by omega)
  have hcb : (nI b).toNatClampNeg = b := nI_clamp (by omega)
  have hPb := hP.2.2.2 b hb
  have hq := hC p (by have := hPb.1; omega)
  rw [rt_cu_b hb hp hP.2.1] at hq
  have hP' := rt_PG_pf hP hb hp hm hn hs hk hr hk4 hl hq
  have hC' := rt_PC_pf hC hb hp hP.2.1 (by omega : rt_rr (L n) / 4 = p)
  obtain ⟨e1, e2, e3⟩ := E2 b hb
  have hsi : si b ≤ ls b := by
    by_cases z : si b = 0
    · omega
    · exact (((hPb.2.2 p hp).2.2.2) z).2.1
  unfold wX_perform_98
  rw [hcb]
  refine ⟨hib, nm_e ⟨hib, ?_⟩⟩
  refine rt_beq (si b) 0 e3 rfl (by omega) (by omega) (fun z => ?_) (fun z => ?_)
  · refine ⟨hib, nm_e ?_⟩
    refine H (rt_u ls b (n + 1)) (rt_u si b (if si b = 0 then n + 1 else si b)) _ _ ⟨⟨E1, fun b' hb' => ?_⟩, by rw [hh]; exact hP', hC', hK⟩ (fun q _ => rt_cu_mo (by omega))
    obtain ⟨y1, y2, y3⟩ := E2 b' hb'
    by_cases e : b' = b
    · subst e; rw [pk_us, pk_us, rt_us, rt_us, if_pos z]; exact ⟨y1, rfl, rfl⟩
    · rw [pk_un e, pk_un e, rt_uo e, rt_uo e]; exact ⟨y1, y2, y3⟩
  · refine H (rt_u ls b (n + 1)) (rt_u si b (if si b = 0 then n + 1 else si b)) _ _ ⟨⟨E1, fun b' hb' => ?_⟩, by rw [hh]; exact hP', hC', hK⟩ (fun q _ => rt_cu_mo (by omega))
    obtain ⟨y1, y2, y3⟩ := E2 b' hb'
    by_cases e : b' = b
    · subst e; rw [pk_us, rt_us, rt_us, if_neg z]; exact ⟨y1, rfl, y3⟩
    · rw [pk_un e, rt_uo e, rt_uo e]; exact ⟨y1, y2, y3⟩
theorem rt_perform {post : SX → Prop} {f_logStart f_logEnd f_checkLsn f_up f_broken f_fuse f_accepted f_found : Int32} {a_disk a_diskLsn a_logKind a_logSlot a_logRecord a_logValue a_logBefore a_logBack a_logNumber a_checkPage a_checkState a_checkUndo a_checkFirst a_checkNumber a_page a_lsn a_since a_held a_state a_undo a_first a_number a_effect a_locks a_lacking : Nat → Int32} {L : Nat → rt_Rc} {s m m' f c n la : Nat} {cp pg ls si dl : Nat → Nat} (hla : la < 2) (hm' : m' < 1073741824)
    (h : rt_BX L s m f c n cp pg ls si dl a_disk a_diskLsn a_page a_lsn a_since a_held)
    (hm : m ≤ m') (hn : n < m') (hs : s ≤ n) (hk : rt_rk (L n) = 1 ∨ rt_rk (L n) = 2 ∨ rt_rk (L n) = 3 ∨ rt_rk (L n) = 4) (hr : rt_rr (L n) < 12) (hcu : rt_cu pg ls dl (rt_rr (L n) / 4) ≤ n)
    (e1 : a_logKind (n % 256) = nI (rt_rk (L n))) (e2 : a_logRecord (n % 256) = nI (rt_rr (L n))) (e3 : a_logValue (n % 256) = rt_rv (L n))
    (H : ∀ b f' pg' ls' si' dl' a_disk' a_diskLsn' a_page' a_lsn' a_since' a_held', b < 2 → f ≤ f' → rt_BX L s m' f' c (n + 1) cp pg' ls' si' dl' a_disk' a_diskLsn' a_page' a_lsn' a_since' a_held' → (∀ q, q < 3 → rt_cu pg ls dl q ≤ rt_cu pg' ls' dl' q) →
      post (f_logStart, f_logEnd, nI f', f_checkLsn, nI b, f_up, f_broken, f_fuse, f_accepted, f_found, a_disk', a_diskLsn', a_logKind, a_logSlot, a_logRecord, a_logValue, a_logBefore, a_logBack, a_logNumber, a_checkPage, a_checkState, a_checkUndo, a_checkFirst, a_checkNumber, a_page', a_lsn', a_since', a_held', a_state, a_undo, a_first, a_number, a_effect, a_locks, a_lacking)) : wpX_perform post (f_logStart, f_logEnd, (nI f), f_checkLsn, (nI la), f_up, f_broken, f_fuse, f_accepted, f_found, a_disk, a_diskLsn, a_logKind, a_logSlot, a_logRecord, a_logValue, a_logBefore, a_logBack, a_logNumber, a_checkPage, a_checkState, a_checkUndo, a_checkFirst, a_checkNumber, a_page, a_lsn, a_since, a_held, a_state, a_undo, a_first, a_number, a_effect, a_locks, a_lacking) (nI n) := by
  have hi : vp_in (nI (n % 256)) 256 := vp_in_nI (by omega) (by omega)
  have hci : (nI (n % 256)).toNatClampNeg = n % 256 := nI_clamp (by omega)
  unfold wpX_perform
  dsimp only
  rw [rt_a255 (by omega)]
  refine nm_e ?_
  rw [hci]
  refine ⟨hi, nm_r e2 ?_⟩
  rw [rt_sh (by omega)]
  refine rt_ft hla (show rt_rr (L n) / 4 < 3 by omega) (by omega) h ?_
  intro b f' pg' ls' si' dl' d1 d2 d3 d4 d5 d6 hb hf hB hpb hcu'
  have hPb := hB.2.1.2.2.2 b hb
  have hls : ls' b ≤ n := by
    have := hcu' (rt_rr (L n) / 4) (by omega)
    rw [rt_cu_b hb hpb hB.2.1.2.1] at this
    omega
  have hv := rt_hv hB hb hpb (show rt_rr (L n) % 4 < 4 by omega) hls
  rw [show 4 * (rt_rr (L n) / 4) + rt_rr (L n) % 4 = rt_rr (L n) by omega] at hv
  have hin : vp_in (nI (4 * b + rt_rr (L n) % 4)) 8 := vp_in_nI (by omega) (by omega)
  have hcn : (nI (4 * b + rt_rr (L n) % 4)).toNatClampNeg = 4 * b + rt_rr (L n) % 4 := nI_clamp (by omega)
  have fin : ∀ z0 : Int32, (z0 = 0 ∧ (rt_rk (L n) = 2 ∨ rt_rk (L n) = 4)) ∨ (z0 = 1 ∧ (rt_rk (L n) = 1 ∨ rt_rk (L n) = 3)) → wX_perform_47 post (nI n) (nI (n % 256)) (nI (rt_rr (L n))) (nI b) z0 f_logStart f_logEnd (nI f') f_checkLsn (nI b) f_up f_broken f_fuse f_accepted f_found d1 d2 a_logKind a_logSlot a_logRecord a_logValue a_logBefore a_logBack a_logNumber a_checkPage a_checkState a_checkUndo a_checkFirst a_checkNumber d3 d4 d5 d6 a_state a_undo a_first a_number a_effect a_locks a_lacking := by
    intro z0 hz
    unfold wX_perform_47
    rw [rt_a3 (by omega), rt_4, hcn, hci]
    rcases hz with ⟨rfl, hz⟩ | ⟨rfl, hz⟩
    · refine br_t rfl ⟨hin, hi, hin, nm_e ?_⟩
      refine rt_pf98 hb hm' hB hpb hm hn hs (by omega) (show rt_rr (L n) = 4 * (rt_rr (L n) / 4) + rt_rr (L n) % 4 by omega) (by omega) hls ?_ ?_
      · rw [show 4 * (rt_rr (L n) / 4) + rt_rr (L n) % 4 = rt_rr (L n) by omega]
        unfold rt_rw
        rw [if_neg (by omega), pk_us, hv, e3]
      · intro ls'' si'' d7 d8 hB' hmo
        exact H b f' pg' ls'' si'' dl' _ _ _ _ _ _ hb hf hB' (fun q hq => by rw [← hcu' q hq]; exact hmo q hq)
    · refine br_f (by decide) ⟨hi, hin, nm_e ?_⟩
      refine rt_pf98 hb hm' hB hpb hm hn hs (by omega) (show rt_rr (L n) = 4 * (rt_rr (L n) / 4) + rt_rr (L n) % 4 by omega) (by omega) hls ?_ ?_
      · rw [show 4 * (rt_rr (L n) / 4) + rt_rr (L n) % 4 = rt_rr (L n) by omega]
        unfold rt_rw
        rw [if_pos (by omega), pk_us, e3]
      · intro ls'' si'' d7 d8 hB' hmo
        exact H b f' pg' ls'' si'' dl' _ _ _ _ _ _ hb hf hB' (fun q hq => by rw [← hcu' q hq]; exact hmo q hq)
  dsimp only
  refine ⟨hi, ?_⟩
  rw [e1]
  refine pk_eq (rt_rk (L n)) 1 (fun z => fin 1 (Or.inr ⟨rfl, by omega⟩)) (fun z => ⟨hi, ?_⟩)
  exact pk_eq (rt_rk (L n)) 3 (fun z => fin 1 (Or.inr ⟨rfl, by omega⟩)) (fun z' => fin 0 (Or.inl ⟨rfl, by omega⟩))
end
section
/-! ## checkpoints and the log -/
def rt_TX (a : rt_AS) (st un fi nu : Nat → Int32) : Prop :=
  ∀ t, t < 4 → un t = rt_e (rt_hd (rt_ch a t)) ∧ fi t = rt_e (rt_fi a t) ∧ nu t = nI (rt_nu a t) ∧ (rt_fi a t ≠ 0 → st t = if rt_pr a t = true then 2 else 1) ∧ (rt_fi a t = 0 → st t = 0 ∨ st t = 1)
theorem rt_TX_nar {a : rt_AS} {st un fi nu : Nat → Int32} (h : rt_TX a st un fi nu) {t : Nat} (ht : t < 4) : vp_nar .byte (st t) = st t := by
  obtain ⟨_, _, _, h1, h2⟩ := h t ht
  by_cases z : rt_fi a t = 0
  · rcases h2 z with e | e
    · rw [e]; exact rt_nb0
    · rw [e]; exact rt_nb1
  · rw [h1 z]
    split
    · exact rt_nb2
    · exact rt_nb1
theorem rt_TX_cg {a : rt_AS} {st un fi nu st' un' fi' nu' : Nat → Int32} (h : rt_TX a st un fi nu) (e : ∀ t, t < 4 → st' t = st t ∧ un' t = un t ∧ fi' t = fi t ∧ nu' t = nu t) : rt_TX a st' un' fi' nu' := by
  intro t ht
  obtain ⟨e1, e2, e3, e4⟩ := e t ht
  rw [e1, e2, e3, e4]
  exact h t ht
theorem rt_ck121 {post : SX → Prop} {f_logEnd f_forced f_checkLsn f_latest f_up f_broken f_fuse f_accepted f_found : Int32} {a_disk a_diskLsn a_logKind a_logSlot a_logRecord a_logValue a_logBefore a_logBack a_logNumber a_checkPage a_page a_lsn a_since a_held a_state a_undo a_first a_number a_effect a_locks a_lacking : Nat → Int32} {a : rt_AS} (hT : rt_TX a a_state a_undo a_first a_number) (hfi : ∀ t, t < 4 → rt_fi a t < 1073741824) : ∀ (d i w : Nat) (k1 k2 k3 k4 : Nat → Int32), i + d = 4 → w < 1073741824 →
    (∀ w' k1' k2' k3' k4', w' ≤ w → (∀ t, t < 4 → i ≤ t → rt_fi a t ≠ 0 → w' < rt_fi a t) → (w' = w ∨ ∃ t, t < 4 ∧ rt_fi a t ≠ 0 ∧ rt_fi a t = w' + 1) →
      (∀ t, t < 4 → (i ≤ t → k1' t = a_state t ∧ k2' t = a_undo t ∧ k3' t = a_first t ∧ k4' t = a_number t) ∧ (t < i → k1' t = k1 t ∧ k2' t = k2 t ∧ k3' t = k3 t ∧ k4' t = k4 t)) →
      post (nI w', f_logEnd, f_forced, f_checkLsn, f_latest, f_up, f_broken, f_fuse, f_accepted, f_found, a_disk, a_diskLsn, a_logKind, a_logSlot, a_logRecord, a_logValue, a_logBefore, a_logBack, a_logNumber, a_checkPage, k1', k2', k3', k4', a_page, a_lsn, a_since, a_held, a_state, a_undo, a_first, a_number, a_effect, a_locks, a_lacking)) →
    wX_check_121 post f_logEnd f_forced f_checkLsn f_latest f_up f_broken f_fuse f_accepted f_found (d + 1) (nI i) (nI w) a_disk a_diskLsn a_logKind a_logSlot a_logRecord a_logValue a_logBefore a_logBack a_logNumber a_checkPage k1 k2 k3 k4 a_page a_lsn a_since a_held a_state a_undo a_first a_number a_effect a_locks a_lacking := by
  intro d
  induction d with
  | zero =>
    intro i w k1 k2 k3 k4 hi hw H
    have e : i = 4 := by omega
    subst e
    exact br_t (nI_le (a := 4) (b := 4) (by omega) (by omega)) (H w _ _ _ _ (Nat.le_refl _) (fun t ht z => by omega) (Or.inl rfl) (fun t ht => ⟨fun z => by omega, fun _ => ⟨rfl, rfl, rfl, rfl⟩⟩))
  | succ d ih =>
    intro i w k1 k2 k3 k4 hi hw H
    have hi4 : i < 4 := by omega
    have hin : vp_in (nI i) 4 := vp_in_nI hi4 (by omega)
    have hc : (nI i).toNatClampNeg = i := nI_clamp (by omega)
    obtain ⟨t1, t2, t3, t4, t5⟩ := hT i hi4
    have hfii := hfi i hi4
    rw [wX_check_121]
    dsimp only
    rw [hc, rt_TX_nar hT hi4]
    have fin : ∀ w1, w1 ≤ w → (rt_fi a i ≠ 0 → w1 < rt_fi a i) → (w1 = w ∨ (rt_fi a i ≠ 0 ∧ rt_fi a i = w1 + 1)) → wX_check_121 post f_logEnd f_forced f_checkLsn f_latest f_up f_broken f_fuse f_accepted f_found (d + 1) (nI (i + 1)) (nI w1) a_disk a_diskLsn a_logKind a_logSlot a_logRecord a_logValue a_logBefore a_logBack a_logNumber a_checkPage (upd k1 i (a_state i)) (upd k2 i (a_undo i)) (upd k3 i (a_first i)) (upd k4 i (a_number i)) a_page a_lsn a_since a_held a_state a_undo a_first a_number a_effect a_locks a_lacking := by
      intro w1 hw1 hw2 hw3
      refine ih (i + 1) w1 _ _ _ _ (by omega) (by omega) ?_
      intro w' k1' k2' k3' k4' q1 q2 q3 q4
      refine H w' k1' k2' k3' k4' (by omega) (fun t ht hit hft => ?_) ?_ (fun t ht => ⟨fun hit => ?_, fun hit => ?_⟩)
      · by_cases e : t = i
        · subst e; have := hw2 hft; omega
        · exact q2 t ht (by omega) hft
      · rcases q3 with q3 | q3
        · rcases hw3 with hw3 | hw3
          · exact Or.inl (by omega)
          · exact Or.inr ⟨i, hi4, hw3.1, by omega⟩
        · exact Or.inr q3
      · by_cases e : t = i
        · subst e
          obtain ⟨y1, y2, y3, y4⟩ := (q4 t ht).2 (by omega)
          rw [y1, y2, y3, y4, pk_us, pk_us, pk_us, pk_us]
          exact ⟨rfl, rfl, rfl, rfl⟩
        · exact (q4 t ht).1 (by omega)
      · obtain ⟨y1, y2, y3, y4⟩ := (q4 t ht).2 (by omega)
        have e : t ≠ i := by omega
        rw [y1, y2, y3, y4, pk_un e, pk_un e, pk_un e, pk_un e]
        exact ⟨rfl, rfl, rfl, rfl⟩
    refine br_f (nI_ge (b := 4) (by omega) (by omega)) ⟨hin, hin, nm_e ⟨hin, hin, nm_e ⟨hin, hin, nm_e ⟨hin, hin, nm_e ⟨hin, ?_⟩⟩⟩⟩⟩
    refine rt_beq (rt_fi a i) 0 t2 rfl (by omega) (by omega) (fun z => nm_r (nI_1 i) (fin w (Nat.le_refl _) (fun z' => absurd z z') (Or.inl rfl))) (fun z => ⟨hin, ?_⟩)
    refine rt_ble (w + 1) (rt_fi a i) rfl t2 (by omega) (by omega) (fun z' => nm_r (nI_1 i) (fin w (Nat.le_refl _) (fun _ => by omega) (Or.inl rfl))) (fun z' => ⟨hin, ?_⟩)
    obtain ⟨g, hg⟩ : ∃ g, rt_fi a i = g + 1 := ⟨rt_fi a i - 1, by omega⟩
    exact nm_r (e' := nI g) (by rw [t2, hg]; rfl) (nm_r (nI_1 i) (fin g (by omega) (fun _ => by omega) (Or.inr ⟨z, hg⟩)))
theorem rt_ck46 {post : SX → Prop} {f_logEnd f_forced f_checkLsn f_latest f_up f_broken f_fuse f_accepted f_found : Int32} {a_disk a_diskLsn a_logKind a_logSlot a_logRecord a_logValue a_logBefore a_logBack a_logNumber a_checkState a_checkUndo a_checkFirst a_checkNumber a_page a_lsn a_since a_held a_state a_undo a_first a_number a_effect a_locks a_lacking : Nat → Int32} {b w n : Nat} {pg si : Nat → Nat} (hb : b < 2) (hw : w < 1073741824) (hpg : a_page b = rt_e (pg b)) (hsi : a_since b = rt_e (si b)) (hp3 : pg b ≤ 3) (hp0 : pg b = 0 → si b = 0) (hs : si b < 1073741824) (ck : Nat → Int32)
    (H : ∀ w' ck', w' ≤ w → (si b ≠ 0 → w' < si b) → (w' = w ∨ (si b ≠ 0 ∧ si b = w' + 1)) → (∀ p, p < 3 → ck' p = if pg b = p + 1 ∧ si b ≠ 0 then rt_e (si b) else ck p) → wX_check_46 post f_logEnd f_forced f_checkLsn f_latest f_up f_broken f_fuse f_accepted f_found n (nI (b + 1)) (nI w') a_disk a_diskLsn a_logKind a_logSlot a_logRecord a_logValue a_logBefore a_logBack a_logNumber ck' a_checkState a_checkUndo a_checkFirst a_checkNumber a_page a_lsn a_since a_held a_state a_undo a_first a_number a_effect a_locks a_lacking) :
    wX_check_46 post f_logEnd f_forced f_checkLsn f_latest f_up f_broken f_fuse f_accepted f_found (n + 1) (nI b) (nI w) a_disk a_diskLsn a_logKind a_logSlot a_logRecord a_logValue a_logBefore a_logBack a_logNumber ck a_checkState a_checkUndo a_checkFirst a_checkNumber a_page a_lsn a_since a_held a_state a_undo a_first a_number a_effect a_locks a_lacking := by
  have hin : vp_in (nI b) 2 := vp_in_nI hb (by omega)
  have hc : (nI b).toNatClampNeg = b := nI_clamp (by omega)
  rw [wX_check_46]
  dsimp only
  rw [hc]
  refine br_f (nI_ge (b := 2) (by omega) (by omega)) ⟨hin, ?_⟩
  have skip : si b = 0 → wX_check_46 post f_logEnd f_forced f_checkLsn f_latest f_up f_broken f_fuse f_accepted f_found n (nI (b + 1)) (nI w) a_disk a_diskLsn a_logKind a_logSlot a_logRecord a_logValue a_logBefore a_logBack a_logNumber ck a_checkState a_checkUndo a_checkFirst a_checkNumber a_page a_lsn a_since a_held a_state a_undo a_first a_number a_effect a_locks a_lacking := fun z => H w ck (Nat.le_refl _) (fun z' => absurd z z') (Or.inl rfl) (fun p hp => by rw [if_neg (fun y => y.2 z)])
  refine rt_blt (pg b) 1 hpg rfl (by omega) (by omega) (fun z => nm_r (nI_1 b) (skip (hp0 (by omega)))) (fun z => ⟨hin, ?_⟩)
  refine rt_beq (si b) 0 hsi rfl (by omega) (by omega) (fun z => nm_r (nI_1 b) (skip z)) (fun zs => ?_)
  obtain ⟨p, hp⟩ : ∃ p, pg b = p + 1 := ⟨pg b - 1, by omega⟩
  have ep : a_page b = nI p := by rw [hpg, hp]; rfl
  have hcp : (nI p).toNatClampNeg = p := nI_clamp (by omega)
  rw [ep, hcp]
  have hck : ∀ q, q < 3 → upd ck p (a_since b) q = if pg b = q + 1 ∧ si b ≠ 0 then rt_e (si b) else ck q := by
    intro q hq
    by_cases e : q = p
    · subst e; rw [pk_us, if_pos ⟨hp, zs⟩, hsi]
    · rw [pk_un e, if_neg (by omega)]
  refine ⟨hin, hin, vp_in_nI (by omega) (by omega), nm_e ⟨hin, ?_⟩⟩
  refine rt_ble (w + 1) (si b) rfl hsi (by omega) (by omega) (fun z' => nm_r (nI_1 b) (H w _ (Nat.le_refl _) (fun _ => by omega) (Or.inl rfl) hck)) (fun z' => ⟨hin, ?_⟩)
  obtain ⟨g, hg⟩ : ∃ g, si b = g + 1 := ⟨si b - 1, by omega⟩
  exact nm_r (e' := nI g) (by rw [hsi, hg]; rfl) (nm_r (nI_1 b) (H g _ (by omega) (fun _ => by omega) (Or.inr ⟨zs, hg⟩) hck))
theorem rt_ck26 {post : SX → Prop} {f_logStart f_logEnd f_forced f_checkLsn f_latest f_up f_broken f_fuse f_accepted f_found : Int32} {a_disk a_diskLsn a_logKind a_logSlot a_logRecord a_logValue a_logBefore a_logBack a_logNumber a_checkPage a_checkState a_checkUndo a_checkFirst a_checkNumber a_page a_lsn a_since a_held a_state a_undo a_first a_number a_effect a_locks a_lacking : Nat → Int32} (H : ∀ ck, (∀ p, p < 3 → ck p = -1) → wX_check_46 post f_logEnd f_forced f_checkLsn f_latest f_up f_broken f_fuse f_accepted f_found 3 (nI 0) f_logStart a_disk a_diskLsn a_logKind a_logSlot a_logRecord a_logValue a_logBefore a_logBack a_logNumber ck a_checkState a_checkUndo a_checkFirst a_checkNumber a_page a_lsn a_since a_held a_state a_undo a_first a_number a_effect a_locks a_lacking) : ∃ n, wX_check_26 post f_logStart f_logEnd f_forced f_checkLsn f_latest f_up f_broken f_fuse f_accepted f_found n 0 a_disk a_diskLsn a_logKind a_logSlot a_logRecord a_logValue a_logBefore a_logBack a_logNumber a_checkPage a_checkState a_checkUndo a_checkFirst a_checkNumber a_page a_lsn a_since a_held a_state a_undo a_first a_number a_effect a_locks a_lacking := by
  have hin : ∀ p, p < 3 → vp_in (nI p) 3 := fun p hp => vp_in_nI hp (by omega)
  refine ⟨4, ?_⟩
  refine br_f (nI_ge (a := 0) (b := 3) (by omega) (by omega)) ⟨hin 0 (by omega), nm_r (e' := upd a_checkPage 0 (-1)) rfl (nm_r (nI_1 0) ?_)⟩
  refine br_f (nI_ge (a := 1) (b := 3) (by omega) (by omega)) ⟨hin 1 (by omega), nm_r (e' := upd (upd a_checkPage 0 (-1)) 1 (-1)) rfl (nm_r (nI_1 1) ?_)⟩
  refine br_f (nI_ge (a := 2) (b := 3) (by omega) (by omega)) ⟨hin 2 (by omega), nm_r (e' := upd (upd (upd a_checkPage 0 (-1)) 1 (-1)) 2 (-1)) rfl (nm_r (nI_1 2) ?_)⟩
  refine br_t (nI_le (a := 3) (b := 3) (by omega) (by omega)) ⟨3, H _ ?_⟩
  intro p hp
  have h3 : p = 0 ∨ p = 1 ∨ p = 2 := by omega
  rcases h3 with rfl | rfl | rfl <;> rfl
theorem rt_check {post : SX → Prop} {f_latest f_up f_broken f_fuse f_accepted f_found : Int32} {a_disk a_diskLsn a_logKind a_logSlot a_logRecord a_logValue a_logBefore a_logBack a_logNumber a_checkPage a_checkState a_checkUndo a_checkFirst a_checkNumber a_page a_lsn a_since a_held a_state a_undo a_first a_number a_effect a_locks a_lacking : Nat → Int32} {L : Nat → rt_Rc} {s e f c : Nat} {cp pg ls si dl : Nat → Nat} (he : e < 1073741824) (hse : s ≤ e)
    (h : rt_BX L s e f c e cp pg ls si dl a_disk a_diskLsn a_page a_lsn a_since a_held) (hT : rt_TX (rt_A L e) a_state a_undo a_first a_number)
    (hfi : ∀ t, t < 4 → rt_fi (rt_A L e) t ≤ e) (hfl : ∀ t, t < 4 → rt_fi (rt_A L e) t ≠ 0 → s < rt_fi (rt_A L e) t)
    (H : ∀ s' cp' k0 k1 k2 k3 k4, s ≤ s' → s' ≤ e → rt_BX L s' e e e e cp' pg ls si dl a_disk a_diskLsn a_page a_lsn a_since a_held → (∀ p, p < 3 → k0 p = rt_e (cp' p)) → rt_TX (rt_A L e) k1 k2 k3 k4 →
      (∀ t, t < 4 → rt_fi (rt_A L e) t ≠ 0 → s' < rt_fi (rt_A L e) t) → (s' = e ∨ (∃ b, b < 2 ∧ si b ≠ 0) ∨ (∃ t, t < 4 ∧ rt_fi (rt_A L e) t ≠ 0 ∧ rt_fi (rt_A L e) t = s' + 1)) →
      post (nI s', (nI e), nI e, nI e, f_latest, f_up, f_broken, f_fuse, f_accepted, f_found, a_disk, a_diskLsn, a_logKind, a_logSlot, a_logRecord, a_logValue, a_logBefore, a_logBack, a_logNumber, k0, k1, k2, k3, k4, a_page, a_lsn, a_since, a_held, a_state, a_undo, a_first, a_number, a_effect, a_locks, a_lacking)) : wpX_check post ((nI s), (nI e), (nI f), (nI c), f_latest, f_up, f_broken, f_fuse, f_accepted, f_found, a_disk, a_diskLsn, a_logKind, a_logSlot, a_logRecord, a_logValue, a_logBefore, a_logBack, a_logNumber, a_checkPage, a_checkState, a_checkUndo, a_checkFirst, a_checkNumber, a_page, a_lsn, a_since, a_held, a_state, a_undo, a_first, a_number, a_effect, a_locks, a_lacking) := by
  obtain ⟨⟨E1, E2⟩, hP, hC, hK⟩ := h
  obtain ⟨h1, h2, h3, h4⟩ := hP
  obtain ⟨x0, y0, z0⟩ := h4 0 (by omega)
  obtain ⟨x1, y1, z1⟩ := h4 1 (by omega)
  have hsi : ∀ b, b < 2 → si b ≤ e ∧ (si b ≠ 0 → s < si b) := by
    intro b hb
    by_cases z : si b = 0
    · exact ⟨by omega, fun z' => absurd z z'⟩
    · obtain ⟨xb, yb, zb⟩ := h4 b hb
      obtain ⟨p, hp⟩ : ∃ p, pg b = p + 1 := by
        cases hz : pg b with
        | zero => exact absurd (yb hz) z
        | succ p => exact ⟨p, rfl⟩
      obtain ⟨g1, g2, g3, g4⟩ := zb p hp
      have := g4 z
      exact ⟨by omega, fun _ => by omega⟩
  have s0 := hsi 0 (by omega); have s1 := hsi 1 (by omega)
  refine rt_ck26 ?_
  intro ck hck
  refine rt_ck46 (b := 0) (w := e) (pg := pg) (si := si) (by omega) he (E2 0 (by omega)).1 (E2 0 (by omega)).2.2 x0 y0 (by omega) ck ?_
  intro w1 ck1 a1 a2 a3 a4
  refine rt_ck46 (b := 1) (w := w1) (pg := pg) (si := si) (by omega) (by omega) (E2 1 (by omega)).1 (E2 1 (by omega)).2.2 x1 y1 (by omega) ck1 ?_
  intro w2 ck2 b1 b2 b3 b4
  refine br_t (nI_le (a := 2) (b := 2) (by omega) (by omega)) ⟨5, rt_ck121 hT (fun t ht => by have := hfi t ht; omega) 4 0 w2 _ _ _ _ (by omega) (by omega) ?_⟩
  intro w3 k1 k2 k3 k4 c1 c2 c3 c4
  have hcp : ∀ p, p < 3 → ck2 p = rt_e (if pg 0 = p + 1 then si 0 else if pg 1 = p + 1 then si 1 else 0) := by
    intro p hp
    rw [b4 p hp, a4 p hp, hck p hp]
    by_cases q0 : pg 0 = p + 1
    · have q1 : ¬ pg 1 = p + 1 := fun q1 => by have := h2 (q0.trans q1.symm); omega
      rw [if_neg (fun y => q1 y.1), if_pos q0]
      by_cases r0 : si 0 = 0
      · rw [if_neg (fun y => y.2 r0), r0]; rfl
      · rw [if_pos ⟨q0, r0⟩]
    · rw [if_neg q0]
      by_cases q1 : pg 1 = p + 1
      · rw [if_pos q1]
        by_cases r1 : si 1 = 0
        · rw [if_neg (fun y => y.2 r1), if_neg (fun y => q0 y.1), r1]; rfl
        · rw [if_pos ⟨q1, r1⟩]
      · rw [if_neg (fun y => q1 y.1), if_neg q1, if_neg (fun y => q0 y.1)]; rfl
  have hss : s ≤ w3 := by
    rcases c3 with c3 | ⟨t, ht, c3, c4⟩
    · rcases b3 with b3 | b3
      · rcases a3 with a3 | a3
        · omega
        · have := s0.2 a3.1; omega
      · have := s1.2 b3.1; omega
    · have := hfl t ht c3; omega
  have hb : ∀ b, b < 2 → si b ≠ 0 → w3 < si b := by
    intro b hb z
    have hbb : b = 0 ∨ b = 1 := by omega
    rcases hbb with rfl | rfl
    · have := a2 z; omega
    · have := b2 z; omega
  have hcur : ∀ b p, b < 2 → pg b = p + 1 → rt_cu pg ls dl p = ls b := fun b p hb hp => rt_cu_b hb hp h2
  refine H w3 (fun p => if pg 0 = p + 1 then si 0 else if pg 1 = p + 1 then si 1 else 0) ck2 k1 k2 k3 k4 hss (by omega) ⟨⟨E1, E2⟩, ⟨Nat.le_refl _, h2, fun p hp => ⟨by have := (h3 p hp).1; omega, (h3 p hp).2⟩, fun b hb' => ?_⟩, hC, fun p hp => ?_⟩ hcp (rt_TX_cg hT (fun t ht => (c4 t ht).1 (by omega))) (fun t ht => c2 t ht (by omega)) ?_
  · obtain ⟨xb, yb, zb⟩ := h4 b hb'
    refine ⟨xb, yb, fun p hp => ?_⟩
    obtain ⟨g1, g2, g3, g4⟩ := zb p hp
    exact ⟨g1, g2, g3, fun z => ⟨(g4 z).1, (g4 z).2.1, hb b hb' z, (g4 z).2.2.2⟩⟩
  · have hq := hC p hp
    have key : ∀ b, b < 2 → pg b = p + 1 → (si b = 0 → rt_Qt L p (dl p) e) ∧ (si b ≠ 0 → w3 < si b ∧ si b ≤ e ∧ rt_Qt L p (dl p) (si b - 1)) := by
      intro b hb' hp'
      obtain ⟨xb, yb, zb⟩ := h4 b hb'
      obtain ⟨g1, g2, g3, g4⟩ := zb p hp'
      rw [hcur b p hb' hp'] at hq
      exact ⟨fun z => by rw [← g3 z]; exact hq, fun z => ⟨hb b hb' z, by have := (g4 z).2.1; omega, (g4 z).2.2.2⟩⟩
    dsimp only
    by_cases q0 : pg 0 = p + 1
    · rw [if_pos q0]; exact key 0 (by omega) q0
    · rw [if_neg q0]
      by_cases q1 : pg 1 = p + 1
      · rw [if_pos q1]; exact key 1 (by omega) q1
      · rw [if_neg q1]
        refine ⟨fun _ => ?_, fun z => absurd rfl z⟩
        have : rt_cu pg ls dl p = dl p := by unfold rt_cu; rw [if_neg q0, if_neg q1]
        rw [this] at hq
        exact hq
  · rcases c3 with c3 | c3
    · rcases b3 with b3 | b3
      · rcases a3 with a3 | a3
        · exact Or.inl (by omega)
        · exact Or.inr (Or.inl ⟨0, by omega, a3.1⟩)
      · exact Or.inr (Or.inl ⟨1, by omega, b3.1⟩)
    · exact Or.inr (Or.inr c3)
theorem rt_clean {post : SX → Prop} {f_latest f_up f_broken f_fuse f_accepted f_found : Int32} {a_disk a_diskLsn a_logKind a_logSlot a_logRecord a_logValue a_logBefore a_logBack a_logNumber a_checkPage a_checkState a_checkUndo a_checkFirst a_checkNumber a_page a_lsn a_since a_held a_state a_undo a_first a_number a_effect a_locks a_lacking : Nat → Int32} {L : Nat → rt_Rc} {s e f c : Nat} {cp pg ls si dl : Nat → Nat} (he : e < 1073741824) (hse : s ≤ e)
    (h : rt_BX L s e f c e cp pg ls si dl a_disk a_diskLsn a_page a_lsn a_since a_held) (hT : rt_TX (rt_A L e) a_state a_undo a_first a_number)
    (hfi : ∀ t, t < 4 → rt_fi (rt_A L e) t ≤ e) (hfl : ∀ t, t < 4 → rt_fi (rt_A L e) t ≠ 0 → s < rt_fi (rt_A L e) t)
    (H : ∀ s' cp' si' dl' a_disk' a_diskLsn' a_since' k0 k1 k2 k3 k4, s ≤ s' → s' ≤ e → rt_BX L s' e e e e cp' pg ls si' dl' a_disk' a_diskLsn' a_page a_lsn a_since' a_held → (∀ p, p < 3 → k0 p = rt_e (cp' p)) → rt_TX (rt_A L e) k1 k2 k3 k4 →
      (∀ t, t < 4 → rt_fi (rt_A L e) t ≠ 0 → s' < rt_fi (rt_A L e) t) → (s' = e ∨ (∃ t, t < 4 ∧ rt_fi (rt_A L e) t ≠ 0 ∧ rt_fi (rt_A L e) t = s' + 1)) →
      post (nI s', (nI e), nI e, nI e, f_latest, f_up, f_broken, f_fuse, f_accepted, f_found, a_disk', a_diskLsn', a_logKind, a_logSlot, a_logRecord, a_logValue, a_logBefore, a_logBack, a_logNumber, k0, k1, k2, k3, k4, a_page, a_lsn, a_since', a_held, a_state, a_undo, a_first, a_number, a_effect, a_locks, a_lacking)) : wpX_clean post ((nI s), (nI e), (nI f), (nI c), f_latest, f_up, f_broken, f_fuse, f_accepted, f_found, a_disk, a_diskLsn, a_logKind, a_logSlot, a_logRecord, a_logValue, a_logBefore, a_logBack, a_logNumber, a_checkPage, a_checkState, a_checkUndo, a_checkFirst, a_checkNumber, a_page, a_lsn, a_since, a_held, a_state, a_undo, a_first, a_number, a_effect, a_locks, a_lacking) := by
  unfold wpX_clean
  refine rt_wb (b := 0) (by omega) he h ?_
  intro f1 si1 dl1 d1 d2 d3 hf1 hB1 hs1 ho1 hcu1
  refine rt_wb (b := 1) (by omega) he hB1 ?_
  intro f2 si2 dl2 d4 d5 d6 hf2 hB2 hs2 ho2 hcu2
  refine rt_check he hse hB2 hT hfi hfl ?_
  intro s' cp' k0 k1 k2 k3 k4 q1 q2 q3 q4 q5 q6 q7
  refine H s' cp' si2 dl2 _ _ _ k0 k1 k2 k3 k4 q1 q2 q3 q4 q5 q6 ?_
  rcases q7 with q7 | ⟨b, hb, q7⟩ | q7
  · exact Or.inl q7
  · have hbb : b = 0 ∨ b = 1 := by omega
    rcases hbb with rfl | rfl
    · exact absurd ((ho2 0 (by decide)).trans hs1) q7
    · exact absurd hs2 q7
  · exact Or.inr q7
/-- the ring holds the log from s on, below e -/
def rt_RG (L : Nat → rt_Rc) (s e : Nat) (k sl r v b l n : Nat → Int32) : Prop :=
  ∀ j, s ≤ j → j < e → k (j % 256) = nI (rt_rk (L j)) ∧ sl (j % 256) = nI (rt_rs (L j)) ∧ r (j % 256) = nI (rt_rr (L j)) ∧ v (j % 256) = rt_rv (L j) ∧ b (j % 256) = rt_rb (L j) ∧ l (j % 256) = rt_e (rt_rl (L j)) ∧ n (j % 256) = nI (rt_rn (L j))
theorem rt_RG_mo {L : Nat → rt_Rc} {s s' e e' : Nat} {k sl r v b l n : Nat → Int32} (h : rt_RG L s e k sl r v b l n) (h1 : s ≤ s') (h2 : e' ≤ e) : rt_RG L s' e' k sl r v b l n := fun j a b => h j (by omega) (by omega)
theorem rt_RG_ap {L : Nat → rt_Rc} {s e : Nat} {k sl r v b l n : Nat → Int32} {x : rt_Rc} (h : rt_RG L s e k sl r v b l n) (he : e < s + 256) :
    rt_RG (rt_u L e x) s (e + 1) (upd k (e % 256) (nI (rt_rk x))) (upd sl (e % 256) (nI (rt_rs x))) (upd r (e % 256) (nI (rt_rr x))) (upd v (e % 256) (rt_rv x)) (upd b (e % 256) (rt_rb x)) (upd l (e % 256) (rt_e (rt_rl x))) (upd n (e % 256) (nI (rt_rn x))) := by
  intro j h1 h2
  by_cases z : j = e
  · subst z
    rw [rt_us, pk_us, pk_us, pk_us, pk_us, pk_us, pk_us, pk_us]
    exact ⟨rfl, rfl, rfl, rfl, rfl, rfl, rfl⟩
  · have z' : j % 256 ≠ e % 256 := by omega
    rw [rt_uo z, pk_un z', pk_un z', pk_un z', pk_un z', pk_un z', pk_un z', pk_un z']
    exact h j h1 (by omega)
theorem rt_BX_cg {L L' : Nat → rt_Rc} {s m f c n e : Nat} {cp pg ls si dl : Nat → Nat} {a_disk a_diskLsn a_page a_lsn a_since a_held : Nat → Int32} (h : rt_BX L s m f c n cp pg ls si dl a_disk a_diskLsn a_page a_lsn a_since a_held) (hL : ∀ j, j < e → L' j = L j) (hm : m ≤ e) (hc : c ≤ e) (hn : n ≤ e) : rt_BX L' s m f c n cp pg ls si dl a_disk a_diskLsn a_page a_lsn a_since a_held := by
  obtain ⟨hE, ⟨h1, h2, h3, h4⟩, hC, hK⟩ := h
  have cgA : ∀ n, n ≤ e → rt_A L' n = rt_A L n := fun n hn => rt_A_cg (fun j hj => hL j (by omega))
  have cgQ : ∀ {p m n}, n ≤ e → rt_Qt L p m n → rt_Qt L' p m n := fun hn h => rt_Qt_cg h (fun j hj => hL j (by omega))
  refine ⟨hE, ⟨h1, h2, fun p hp => ?_, fun b hb => ?_⟩, fun p hp => cgQ hn (hC p hp), fun p hp => ⟨fun z => cgQ hc ((hK p hp).1 z), fun z => ⟨((hK p hp).2 z).1, ((hK p hp).2 z).2.1, cgQ (by have := ((hK p hp).2 z).2.1; omega) ((hK p hp).2 z).2.2⟩⟩⟩
  · rw [cgA _ (by have := (h3 p hp).1; omega)]; exact h3 p hp
  · obtain ⟨xb, yb, zb⟩ := h4 b hb
    refine ⟨xb, yb, fun p hp => ?_⟩
    obtain ⟨g1, g2, g3, g4⟩ := zb p hp
    refine ⟨g1, ?_, g3, fun z => ⟨(g4 z).1, (g4 z).2.1, (g4 z).2.2.1, cgQ (by have := (g4 z).2.1; omega) (g4 z).2.2.2⟩⟩
    rw [cgA _ (by omega)]; exact g2
/-- the system part: pages, checkpoint, log -/
def rt_SY (L : Nat → rt_Rc) (s e m f c q n : Nat) (a_disk a_diskLsn a_logKind a_logSlot a_logRecord a_logValue a_logBefore a_logBack a_logNumber a_checkPage a_checkState a_checkUndo a_checkFirst a_checkNumber a_page a_lsn a_since a_held : Nat → Int32) : Prop :=
  ∃ cp pg ls si dl : Nat → Nat, rt_BX L s m f c n cp pg ls si dl a_disk a_diskLsn a_page a_lsn a_since a_held ∧ (∀ p, p < 3 → a_checkPage p = rt_e (cp p)) ∧ rt_TX (rt_A L c) a_checkState a_checkUndo a_checkFirst a_checkNumber ∧
    (∀ t, t < 4 → rt_fi (rt_A L c) t ≠ 0 → s < rt_fi (rt_A L c) t) ∧ rt_RG L s e a_logKind a_logSlot a_logRecord a_logValue a_logBefore a_logBack a_logNumber ∧ rt_LV L e ∧
    (s ≤ c ∧ c ≤ f ∧ m ≤ e ∧ e ≤ s + 200 ∧ e < 1073741824 ∧ rt_ac (rt_A L e) ≤ q ∧ q < 1073741824)
theorem rt_win {L : Nat → rt_Rc} {e t : Nat} (h : rt_LV L e) (ht : t < 4) (hf : rt_fi (rt_A L e) t ≠ 0) : rt_fi (rt_A L e) t ≤ e ∧ e ≤ rt_fi (rt_A L e) t + 159 := by
  obtain ⟨f1, f2, f3, f4, f5⟩ := ((rt_wf h e (Nat.le_refl _)).1 t ht).2.2.2 hf
  exact ⟨f1, by omega⟩
theorem rt_ac_ap {L : Nat → rt_Rc} {e q : Nat} {x : rt_Rc} (h : rt_ac (rt_A L e) ≤ q) (hx : rt_rn x ≤ q) : rt_ac (rt_A (rt_u L e x) (e + 1)) ≤ q := by
  rw [rt_A_ap]
  unfold rt_ap
  split
  · exact hx
  · split
    · exact h
    · split <;> exact h
theorem rt_log19 {post : Int32 → SX → Prop} {f_logStart f_forced f_checkLsn f_latest f_up f_broken f_fuse f_accepted f_found : Int32} {a_disk a_diskLsn a_logKind a_logSlot a_logRecord a_logValue a_logBefore a_logBack a_logNumber a_checkPage a_checkState a_checkUndo a_checkFirst a_checkNumber a_page a_lsn a_since a_held a_state a_undo a_first a_number a_effect a_locks a_lacking : Nat → Int32} {L : Nat → rt_Rc} {s e : Nat} {x : rt_Rc} (he : e < 1073741824) (hes : e < s + 256) (hk : rt_rk x < 16) (hs : rt_rs x < 16) (hr : rt_rr x < 16) (hq : f_accepted = nI (rt_rn x))
    (h : rt_RG L s e a_logKind a_logSlot a_logRecord a_logValue a_logBefore a_logBack a_logNumber)
    (H : ∀ a_logKind' a_logSlot' a_logRecord' a_logValue' a_logBefore' a_logBack' a_logNumber', rt_RG (rt_u L e x) s (e + 1) a_logKind' a_logSlot' a_logRecord' a_logValue' a_logBefore' a_logBack' a_logNumber' →
      post (nI e) (f_logStart, nI (e + 1), f_forced, f_checkLsn, f_latest, f_up, f_broken, f_fuse, f_accepted, f_found, a_disk, a_diskLsn, a_logKind', a_logSlot', a_logRecord', a_logValue', a_logBefore', a_logBack', a_logNumber', a_checkPage, a_checkState, a_checkUndo, a_checkFirst, a_checkNumber, a_page, a_lsn, a_since, a_held, a_state, a_undo, a_first, a_number, a_effect, a_locks, a_lacking)) :
    wX_log_19 post (nI (rt_rk x)) (nI (rt_rs x)) (nI (rt_rr x)) (rt_rv x) (rt_rb x) (rt_e (rt_rl x)) f_logStart (nI e) f_forced f_checkLsn f_latest f_up f_broken f_fuse f_accepted f_found a_disk a_diskLsn a_logKind a_logSlot a_logRecord a_logValue a_logBefore a_logBack a_logNumber a_checkPage a_checkState a_checkUndo a_checkFirst a_checkNumber a_page a_lsn a_since a_held a_state a_undo a_first a_number a_effect a_locks a_lacking := by
  have hi : vp_in (nI (e % 256)) 256 := vp_in_nI (by omega) (by omega)
  have hc : (nI (e % 256)).toNatClampNeg = e % 256 := nI_clamp (by omega)
  unfold wX_log_19
  rw [rt_a255 (by omega)]
  refine nm_e ?_
  rw [hc, rt_nb8 hk, rt_nb8 hs, rt_nb8 hr, hq]
  refine ⟨hi, nm_e ⟨hi, nm_e ⟨hi, nm_e ⟨hi, nm_e ⟨hi, nm_e ⟨hi, nm_e ⟨hi, nm_e (nm_r (nI_1 e) ?_)⟩⟩⟩⟩⟩⟩⟩
  have := H _ _ _ _ _ _ _ (rt_RG_ap (x := x) h hes)
  rw [hq] at this
  exact this
theorem rt_log {post : Int32 → SX → Prop} {f_latest f_up f_broken f_fuse f_accepted f_found : Int32} {a_disk a_diskLsn a_logKind a_logSlot a_logRecord a_logValue a_logBefore a_logBack a_logNumber a_checkPage a_checkState a_checkUndo a_checkFirst a_checkNumber a_page a_lsn a_since a_held a_state a_undo a_first a_number a_effect a_locks a_lacking : Nat → Int32} {L : Nat → rt_Rc} {s e f c q : Nat} {x : rt_Rc} (hk : rt_rk x < 16) (hr : rt_rr x < 16) (hq : f_accepted = nI (rt_rn x)) (hq' : rt_rn x = q) (he : e + 1 < 1073741824)
    (h : rt_SY L s e e f c q e a_disk a_diskLsn a_logKind a_logSlot a_logRecord a_logValue a_logBefore a_logBack a_logNumber a_checkPage a_checkState a_checkUndo a_checkFirst a_checkNumber a_page a_lsn a_since a_held) (hT : rt_TX (rt_A L e) a_state a_undo a_first a_number) (hv : rt_Vd L (rt_A L e) x) (hs : rt_rs x < 4)
    (H : ∀ s' f' c' a_disk' a_diskLsn' a_logKind' a_logSlot' a_logRecord' a_logValue' a_logBefore' a_logBack' a_logNumber' a_checkPage' a_checkState' a_checkUndo' a_checkFirst' a_checkNumber' a_since', f ≤ f' →
      rt_SY (rt_u L e x) s' (e + 1) e f' c' q e a_disk' a_diskLsn' a_logKind' a_logSlot' a_logRecord' a_logValue' a_logBefore' a_logBack' a_logNumber' a_checkPage' a_checkState' a_checkUndo' a_checkFirst' a_checkNumber' a_page a_lsn a_since' a_held →
      post (nI e) (nI s', nI (e + 1), nI f', nI c', f_latest, f_up, f_broken, f_fuse, f_accepted, f_found, a_disk', a_diskLsn', a_logKind', a_logSlot', a_logRecord', a_logValue', a_logBefore', a_logBack', a_logNumber', a_checkPage', a_checkState', a_checkUndo', a_checkFirst', a_checkNumber', a_page, a_lsn, a_since', a_held, a_state, a_undo, a_first, a_number, a_effect, a_locks, a_lacking)) :
    wpX_log post ((nI s), (nI e), (nI f), (nI c), f_latest, f_up, f_broken, f_fuse, f_accepted, f_found, a_disk, a_diskLsn, a_logKind, a_logSlot, a_logRecord, a_logValue, a_logBefore, a_logBack, a_logNumber, a_checkPage, a_checkState, a_checkUndo, a_checkFirst, a_checkNumber, a_page, a_lsn, a_since, a_held, a_state, a_undo, a_first, a_number, a_effect, a_locks, a_lacking) (nI (rt_rk x)) (nI (rt_rs x)) (nI (rt_rr x)) (rt_rv x) (rt_rb x) (rt_e (rt_rl x)) := by
  obtain ⟨cp, pg, ls, si, dl, hB, hcp, hTc, hfc, hR, hL, z1, z2, z3, z4, z5, z6, z7⟩ := h
  have hfe := hB.2.1.1
  have cg : ∀ j, j < e → rt_u L e x j = L j := fun j hj => rt_uo (by omega)
  unfold wpX_log
  dsimp only
  refine pk_lt (x := nI e - nI s) (e - s) 200 (fun z => ?_) (fun z => ?_) (pk_sub (by omega))
  · refine rt_log19 (L := L) (s := s) (x := x) (by omega) (by omega) hk (by omega) hr hq hR ?_
    intro l1 l2 l3 l4 l5 l6 l7 hR'
    refine H s f c _ _ _ _ _ _ _ _ _ _ _ _ _ _ _ (Nat.le_refl _) ⟨cp, pg, ls, si, dl, rt_BX_cg hB cg (Nat.le_refl _) (by omega) (Nat.le_refl _), hcp, ?_, ?_, hR', rt_LV_ap hL hv, z1, z2, by omega, by omega, by omega, rt_ac_ap z6 (by omega), z7⟩
    · rw [rt_A_lo (by omega)]; exact hTc
    · rw [rt_A_lo (by omega)]; exact hfc
  · refine rt_clean (by omega) (by omega) hB hT (fun t ht => ?_) (rt_fi_lo z1 hfc e (by omega)) ?_
    · by_cases y : rt_fi (rt_A L e) t = 0
      · omega
      · exact (rt_win hL ht y).1
    · intro s' cp' si' dl' d1 d2 d3 k0 k1 k2 k3 k4 q1 q2 q3 q4 q5 q6 q7
      have hse : e ≤ s' + 160 := by
        rcases q7 with q7 | ⟨t, ht, q7, q8⟩
        · omega
        · have := (rt_win hL ht q7).2; omega
      refine rt_log19 (L := L) (s := s') (x := x) (by omega) (by omega) hk (by omega) hr hq (rt_RG_mo hR q1 (Nat.le_refl _)) ?_
      intro l1 l2 l3 l4 l5 l6 l7 hR'
      refine H s' e e _ _ _ _ _ _ _ _ _ _ _ _ _ _ _ hfe ⟨cp', pg, ls, si', dl', rt_BX_cg q3 cg (Nat.le_refl _) (Nat.le_refl _) (Nat.le_refl _), q4, ?_, ?_, hR', rt_LV_ap hL hv, q2, Nat.le_refl _, by omega, by omega, by omega, rt_ac_ap z6 (by omega), z7⟩
      · rw [rt_A_lo (Nat.le_refl _)]; exact q5
      · rw [rt_A_lo (Nat.le_refl _)]; exact q6
end
section
/-! ## a record carried out, a change undone -/
theorem rt_pfS {post : SX → Prop} {f_up f_broken f_fuse f_accepted f_found : Int32} {a_disk a_diskLsn a_logKind a_logSlot a_logRecord a_logValue a_logBefore a_logBack a_logNumber a_checkPage a_checkState a_checkUndo a_checkFirst a_checkNumber a_page a_lsn a_since a_held a_state a_undo a_first a_number a_effect a_locks a_lacking : Nat → Int32} {L : Nat → rt_Rc} {s e f c q la : Nat} (hla : la < 2) (h : rt_SY L s (e + 1) e f c q e a_disk a_diskLsn a_logKind a_logSlot a_logRecord a_logValue a_logBefore a_logBack a_logNumber a_checkPage a_checkState a_checkUndo a_checkFirst a_checkNumber a_page a_lsn a_since a_held) (hk : rt_rk (L e) = 1 ∨ rt_rk (L e) = 2 ∨ rt_rk (L e) = 3 ∨ rt_rk (L e) = 4) (hr : rt_rr (L e) < 12)
    (H : ∀ b f' a_disk' a_diskLsn' a_page' a_lsn' a_since' a_held', b < 2 → f ≤ f' → rt_SY L s (e + 1) (e + 1) f' c q (e + 1) a_disk' a_diskLsn' a_logKind a_logSlot a_logRecord a_logValue a_logBefore a_logBack a_logNumber a_checkPage a_checkState a_checkUndo a_checkFirst a_checkNumber a_page' a_lsn' a_since' a_held' →
      post ((nI s), (nI (e + 1)), nI f', (nI c), nI b, f_up, f_broken, f_fuse, f_accepted, f_found, a_disk', a_diskLsn', a_logKind, a_logSlot, a_logRecord, a_logValue, a_logBefore, a_logBack, a_logNumber, a_checkPage, a_checkState, a_checkUndo, a_checkFirst, a_checkNumber, a_page', a_lsn', a_since', a_held', a_state, a_undo, a_first, a_number, a_effect, a_locks, a_lacking)) : wpX_perform post ((nI s), (nI (e + 1)), (nI f), (nI c), (nI la), f_up, f_broken, f_fuse, f_accepted, f_found, a_disk, a_diskLsn, a_logKind, a_logSlot, a_logRecord, a_logValue, a_logBefore, a_logBack, a_logNumber, a_checkPage, a_checkState, a_checkUndo, a_checkFirst, a_checkNumber, a_page, a_lsn, a_since, a_held, a_state, a_undo, a_first, a_number, a_effect, a_locks, a_lacking) (nI e) := by
  obtain ⟨cp, pg, ls, si, dl, hB, hcp, hTc, hfc, hR, hL, z1, z2, z3, z4, z5, z6, z7⟩ := h
  have hfe := hB.2.1.1
  obtain ⟨r1, r2, r3, r4, r5, r6, r7⟩ := hR e (by omega) (by omega)
  refine rt_perform (L := L) (m' := e + 1) hla z5 hB (by omega) (by omega) (by omega) hk hr (rt_cu_le hB.2.1 (by omega)) r1 r3 r4 ?_
  intro b f' pg' ls' si' dl' d1 d2 d3 d4 d5 d6 hb hf hB' _
  exact H b f' _ _ _ _ _ _ hb hf ⟨cp, pg', ls', si', dl', hB', hcp, hTc, hfc, hR, hL, z1, by omega, by omega, z4, z5, z6, z7⟩
theorem rt_TX_U {L : Nat → rt_Rc} {a : rt_AS} {x : rt_Rc} {st un fi nu : Nat → Int32} {d : Nat} {ds : List Nat} (h : rt_TX a st un fi nu) (hch : rt_ch a (rt_rs x) = d :: ds) : rt_TX (rt_apU x a) st (upd un (rt_rs x) (rt_e (rt_hd ds))) fi nu := by
  intro t ht
  obtain ⟨h1, h2, h3, h4, h5⟩ := h t ht
  refine ⟨?_, h2, h3, h4, h5⟩
  by_cases e : t = rt_rs x
  · subst e
    rw [pk_us, show rt_ch (rt_apU x a) (rt_rs x) = (rt_ch a (rt_rs x)).tail from rt_us, hch]
    rfl
  · rw [pk_un e, show rt_ch (rt_apU x a) t = rt_ch a t from rt_uo e]
    exact h1
theorem rt_undoOne {post : SX → Prop} {f_up f_broken f_fuse f_found : Int32} {a_disk a_diskLsn a_logKind a_logSlot a_logRecord a_logValue a_logBefore a_logBack a_logNumber a_checkPage a_checkState a_checkUndo a_checkFirst a_checkNumber a_page a_lsn a_since a_held a_state a_undo a_first a_number a_effect a_locks a_lacking : Nat → Int32} {L : Nat → rt_Rc} {s e f c q la t d : Nat} {ds : List Nat} (hla : la < 2) (h : rt_SY L s e e f c q e a_disk a_diskLsn a_logKind a_logSlot a_logRecord a_logValue a_logBefore a_logBack a_logNumber a_checkPage a_checkState a_checkUndo a_checkFirst a_checkNumber a_page a_lsn a_since a_held) (hT : rt_TX (rt_A L e) a_state a_undo a_first a_number) (ht : t < 4) (hch : rt_ch (rt_A L e) t = d :: ds) (he : e + 1 < 1073741824)
    (H : ∀ x s' f' c' b a_disk' a_diskLsn' a_logKind' a_logSlot' a_logRecord' a_logValue' a_logBefore' a_logBack' a_logNumber' a_checkPage' a_checkState' a_checkUndo' a_checkFirst' a_checkNumber' a_page' a_lsn' a_since' a_held', b < 2 → f ≤ f' → rt_VU L (rt_A L e) x → rt_rs x = t →
      rt_SY (rt_u L e x) s' (e + 1) (e + 1) f' c' q (e + 1) a_disk' a_diskLsn' a_logKind' a_logSlot' a_logRecord' a_logValue' a_logBefore' a_logBack' a_logNumber' a_checkPage' a_checkState' a_checkUndo' a_checkFirst' a_checkNumber' a_page' a_lsn' a_since' a_held' →
      rt_TX (rt_A (rt_u L e x) (e + 1)) a_state (upd a_undo t (rt_e (rt_hd ds))) a_first a_number →
      post (nI s', nI (e + 1), nI f', nI c', nI b, f_up, f_broken, f_fuse, (nI q), f_found, a_disk', a_diskLsn', a_logKind', a_logSlot', a_logRecord', a_logValue', a_logBefore', a_logBack', a_logNumber', a_checkPage', a_checkState', a_checkUndo', a_checkFirst', a_checkNumber', a_page', a_lsn', a_since', a_held', a_state, upd a_undo t (rt_e (rt_hd ds)), a_first, a_number, upd a_effect t (vp_nar .byte (a_effect t - 1).toInt8.toInt32), a_locks, a_lacking)) :
    wpX_undoOne post ((nI s), (nI e), (nI f), (nI c), (nI la), f_up, f_broken, f_fuse, (nI q), f_found, a_disk, a_diskLsn, a_logKind, a_logSlot, a_logRecord, a_logValue, a_logBefore, a_logBack, a_logNumber, a_checkPage, a_checkState, a_checkUndo, a_checkFirst, a_checkNumber, a_page, a_lsn, a_since, a_held, a_state, a_undo, a_first, a_number, a_effect, a_locks, a_lacking) (nI t) := by
  have h' := h
  obtain ⟨cp, pg, ls, si, dl, hB, hcp, hTc, hfc, hR, hL, z1, z2, z3, z4, z5, z6, z7⟩ := h
  have hfe := hB.2.1.1
  have hW := (rt_wf hL e (Nat.le_refl _)).1 t ht
  have hCn := hW.1
  rw [hch] at hCn
  obtain ⟨⟨c1, c2, c3, c4, c5, c6⟩, _⟩ := hCn
  have hf0 : rt_fi (rt_A L e) t ≠ 0 := fun z => by have := (hW.2.2.1 z).1; rw [hch] at this; cases this
  have hsd : s ≤ d := by have := rt_fi_lo z1 hfc e (by omega) t ht hf0; omega
  obtain ⟨r1, r2, r3, r4, r5, r6, r7⟩ := hR d hsd c1
  obtain ⟨t1, t2, t3, t4, t5⟩ := hT t ht
  have hi4 : vp_in (nI t) 4 := vp_in_nI ht (by omega)
  have hc4 : (nI t).toNatClampNeg = t := nI_clamp (by omega)
  have hi : vp_in (nI (d % 256)) 256 := vp_in_nI (by omega) (by omega)
  have hci : (nI (d % 256)).toNatClampNeg = d % 256 := nI_clamp (by omega)
  have key : ∀ x : rt_Rc, rt_rk x = (if rt_rk (L d) = 1 then 3 else 4) → rt_rs x = t → rt_rr x = rt_rr (L d) → rt_rv x = (if rt_rk (L d) = 1 then rt_rb (L d) else - rt_rv (L d)) → rt_rb x = 0 → rt_rl x = rt_hd ds → rt_rn x = q →
      wX_undoOne_75 post (nI t) (rt_rv x) (rt_e (rt_rl x)) (nI (rt_rr x)) (nI (rt_rk x)) (nI s) (nI e) (nI f) (nI c) (nI la) f_up f_broken f_fuse (nI q) f_found a_disk a_diskLsn a_logKind a_logSlot a_logRecord a_logValue a_logBefore a_logBack a_logNumber a_checkPage a_checkState a_checkUndo a_checkFirst a_checkNumber a_page a_lsn a_since a_held a_state a_undo a_first a_number a_effect a_locks a_lacking := by
    intro x x1 x2 x3 x4 x5 x6 x7
    have hk34 : rt_rk x = 3 ∨ rt_rk x = 4 := by rw [x1]; split <;> simp
    have hv : rt_VU L (rt_A L e) x := ⟨by omega, d, ds, by rw [x2]; exact hch, x1, x3, x6, x4⟩
    unfold wX_undoOne_75
    rw [hc4]
    have e0 : (0 : Int32) = rt_rb x := x5.symm
    rw [e0, ← x2]
    refine rt_log (x := x) (by omega) (by omega) (by rw [x7]) x7 he h' hT (Or.inr (Or.inl hv)) (by omega) ?_
    intro s' f' c' d1 d2 d3 d4 d5 d6 d7 d8 d9 d10 d11 d12 d13 d14 d15 hf hS
    dsimp only
    rw [x2]
    refine ⟨hi4, nm_e ⟨hi4, hi4, nm_e ?_⟩⟩
    refine rt_pfS hla hS (by rw [rt_us]; omega) (by rw [rt_us]; omega) ?_
    intro b f'' d16 d17 d18 d19 d20 d21 hb hf' hS'
    rw [x6]
    refine H x s' f'' c' b _ _ _ _ _ _ _ _ _ _ _ _ _ _ _ _ _ _ hb (by omega) hv x2 hS' ?_
    rw [rt_A_ap, rt_ap_U hk34, ← x2]
    exact rt_TX_U (L := L) hT (by rw [x2]; exact hch)
  have eun : a_undo t &&& 255 = nI (d % 256) := by rw [t1, hch]; exact rt_a255 (by omega)
  unfold wpX_undoOne
  dsimp only
  rw [hc4, eun]
  refine ⟨hi4, nm_e ⟨?_, ?_⟩⟩
  · exact hi
  rw [hci, r1]
  refine pk_eq (rt_rk (L d)) 1 (fun z => ?_) (fun z => ?_)
  · refine br_f (by decide) ⟨hi, ?_⟩
    unfold wX_undoOne_47
    rw [hci, r5, r6, r3, c6]
    refine ⟨hi, nm_e ⟨hi, nm_e ?_⟩⟩
    refine br_f (by decide) ?_
    exact key (3, t, rt_rr (L d), rt_rb (L d), 0, rt_hd ds, q) (by rw [if_pos z]; rfl) rfl rfl (by rw [if_pos z]; rfl) rfl rfl rfl
  · refine br_t rfl ⟨hi, ?_⟩
    unfold wX_undoOne_47
    rw [hci, r4, r6, r3, c6]
    refine ⟨hi, nm_e ⟨hi, nm_e ?_⟩⟩
    refine br_t rfl ?_
    exact key (4, t, rt_rr (L d), - rt_rv (L d), 0, rt_hd ds, q) (by rw [if_neg z]; rfl) rfl rfl (by rw [if_neg z]; rfl) rfl rfl rfl
end
section
/-! ## the reference's walks, and those that both sides take alike -/
theorem rt_m4 (x : Int32) : x &&& (-4) = 0 ↔ ∃ t, t < 4 ∧ x = nI t := by
  constructor
  · intro h
    obtain ⟨j, hj, e⟩ := pk_andE x (m := 3) 2 (by decide)
    refine ⟨j, hj, ?_⟩
    rw [← e]
    apply Int32.toBitVec_inj.mp
    have h1 : x.toBitVec &&& (-4 : Int32).toBitVec = 0#32 := by
      rw [← Int32.toBitVec_and, h]; rfl
    have h2 : x.toBitVec &&& ((3 : Int32).toBitVec ||| (-4 : Int32).toBitVec) = x.toBitVec := by
      rw [show (3 : Int32).toBitVec ||| (-4 : Int32).toBitVec = BitVec.allOnes 32 from by decide, BitVec.and_allOnes]
    rw [BitVec.and_or_distrib_left, h1, BitVec.or_zero] at h2
    rw [Int32.toBitVec_and]
    exact h2.symm
  · rintro ⟨t, ht, rfl⟩
    have h4 : t = 0 ∨ t = 1 ∨ t = 2 ∨ t = 3 := by omega
    rcases h4 with rfl | rfl | rfl | rfl <;> decide
theorem rt_m4n {x : Int32} (h : x < 0 ∨ nI 4 ≤ x) : ¬ x &&& (-4) = 0 := by
  intro z
  obtain ⟨t, ht, rfl⟩ := (rt_m4 x).mp z
  rcases h with h | h
  · exact nI_pos (by omega) h
  · exact nI_ge ht (by omega) h
theorem rt_m4t {t : Nat} (h : t < 4) : nI t &&& (-4) = 0 := (rt_m4 _).mpr ⟨t, h, rfl⟩
theorem rt_among {post : Int32 → Prop} {u : SY} {N : Nat} (hN : N < 2 ^ 31) (x : Int32) (h1 : (x < 0 ∨ nI N ≤ x) → post 0) (h2 : ∀ j, j < N → x = nI j → post 1) : wpY_among post u x (nI N) := by
  rcases pk_ix x hN with h | h | ⟨j, hj, rfl⟩
  · exact br_t h (h1 (Or.inl h))
  · refine br_f (fun z => ?_) (br_t h (h1 (Or.inr h)))
    have := Int32.lt_of_le_of_lt h z
    exact nI_pos hN this
  · exact br_f (nI_pos (by omega)) (br_f (nI_ge hj hN) (h2 j hj rfl))
/-- the lock that a use asks for -/
def rt_wt (has mode : Int32) : Int32 := if has = 0 ∨ has = mode then mode else 3
/-- no other transaction stands in the way -/
def rt_gr (lk : Nat → Int32) (t r : Nat) (w : Int32) : Prop := ∀ u, u < 4 → u ≠ t → lk (12 * u + r) = 0 ∨ (lk (12 * u + r) = w ∧ w ≠ 3)
theorem rt_xwanted {post : Int32 → Prop} {f_logStart f_logEnd f_forced f_checkLsn f_latest f_up f_broken f_fuse f_accepted f_found : Int32} {a_disk a_diskLsn a_logKind a_logSlot a_logRecord a_logValue a_logBefore a_logBack a_logNumber a_checkPage a_checkState a_checkUndo a_checkFirst a_checkNumber a_page a_lsn a_since a_held a_state a_undo a_first a_number a_effect a_locks a_lacking : Nat → Int32} {t r : Nat} {mode : Int32} (ht : t < 4) (hr : r < 12) (H : post (rt_wt (a_locks (12 * t + r)) mode)) : wpX_wanted post (f_logStart, f_logEnd, f_forced, f_checkLsn, f_latest, f_up, f_broken, f_fuse, f_accepted, f_found, a_disk, a_diskLsn, a_logKind, a_logSlot, a_logRecord, a_logValue, a_logBefore, a_logBack, a_logNumber, a_checkPage, a_checkState, a_checkUndo, a_checkFirst, a_checkNumber, a_page, a_lsn, a_since, a_held, a_state, a_undo, a_first, a_number, a_effect, a_locks, a_lacking) (nI t) (nI r) mode := by
  unfold wpX_wanted
  dsimp only
  rw [rt_12, nI_clamp (by omega)]
  refine ⟨vp_in_nI (by omega) (by omega), nm_e ?_⟩
  unfold rt_wt at H
  by_cases h0 : a_locks (12 * t + r) = 0
  · rw [if_pos (Or.inl h0)] at H; exact br_t h0 H
  · by_cases h1 : a_locks (12 * t + r) = mode
    · rw [if_pos (Or.inr h1)] at H; exact br_f h0 (br_t h1 H)
    · rw [if_neg (fun z => z.elim h0 h1)] at H; exact br_f h0 (br_f h1 H)
theorem rt_ywanted {post : Int32 → Prop} {f_numbered : Int64} {f_down f_seen : Int32} {b_row b_state b_count b_lock b_isWrite b_where b_what : Nat → Int32} {b_least : Nat → Int64} {t r : Nat} {mode : Int32} (ht : t < 4) (hr : r < 12) (H : post (rt_wt (b_lock (12 * t + r)) mode)) : wpY_wanted post (f_numbered, f_down, f_seen, b_row, b_state, b_count, b_least, b_lock, b_isWrite, b_where, b_what) (nI t) (nI r) mode := by
  unfold wpY_wanted
  dsimp only
  rw [rt_12', nI_clamp (by omega)]
  refine ⟨vp_in_nI (by omega) (by omega), nm_e ?_⟩
  unfold rt_wt at H
  by_cases h0 : b_lock (12 * t + r) = 0
  · rw [if_pos (Or.inl h0)] at H; exact br_t h0 H
  · by_cases h1 : b_lock (12 * t + r) = mode
    · rw [if_pos (Or.inr h1)] at H; exact br_f h0 (br_t h1 H)
    · rw [if_neg (fun z => z.elim h0 h1)] at H; exact br_f h0 (br_f h1 H)
theorem rt_xgranted {post : Int32 → Prop} {f_logStart f_logEnd f_forced f_checkLsn f_latest f_up f_broken f_fuse f_accepted f_found : Int32} {a_disk a_diskLsn a_logKind a_logSlot a_logRecord a_logValue a_logBefore a_logBack a_logNumber a_checkPage a_checkState a_checkUndo a_checkFirst a_checkNumber a_page a_lsn a_since a_held a_state a_undo a_first a_number a_effect a_locks a_lacking : Nat → Int32} {t r : Nat} {w : Int32} (ht : t < 4) (hr : r < 12) : ∀ (d i : Nat), i + d = 4 →
    ((∀ u, u < 4 → i ≤ u → u ≠ t → a_locks (12 * u + r) = 0 ∨ (a_locks (12 * u + r) = w ∧ w ≠ 3)) → post 1) →
    ((∃ u, u < 4 ∧ i ≤ u ∧ u ≠ t ∧ ¬ (a_locks (12 * u + r) = 0 ∨ (a_locks (12 * u + r) = w ∧ w ≠ 3))) → post 0) → wX_granted_3 post (nI t) (nI r) w f_logStart f_logEnd f_forced f_checkLsn f_latest f_up f_broken f_fuse f_accepted f_found a_disk a_diskLsn a_logKind a_logSlot a_logRecord a_logValue a_logBefore a_logBack a_logNumber a_checkPage a_checkState a_checkUndo a_checkFirst a_checkNumber a_page a_lsn a_since a_held a_state a_undo a_first a_number a_effect a_locks a_lacking (d + 1) (nI i) := by
  intro d
  induction d with
  | zero =>
    intro i hi h1 h0
    have e : i = 4 := by omega
    subst e
    exact br_t (nI_le (a := 4) (b := 4) (by omega) (by omega)) (h1 (fun u hu hiu => by omega))
  | succ d ih =>
    intro i hi h1 h0
    have nxt : (i = t ∨ (a_locks (12 * i + r) = 0 ∨ (a_locks (12 * i + r) = w ∧ w ≠ 3))) → wX_granted_3 post (nI t) (nI r) w f_logStart f_logEnd f_forced f_checkLsn f_latest f_up f_broken f_fuse f_accepted f_found a_disk a_diskLsn a_logKind a_logSlot a_logRecord a_logValue a_logBefore a_logBack a_logNumber a_checkPage a_checkState a_checkUndo a_checkFirst a_checkNumber a_page a_lsn a_since a_held a_state a_undo a_first a_number a_effect a_locks a_lacking (d + 1) (nI (i + 1)) := by
      intro hz
      refine ih (i + 1) (by omega) (fun k => h1 (fun u hu hiu hne => ?_)) (fun ⟨u, a, b, c, dd⟩ => h0 ⟨u, a, by omega, c, dd⟩)
      by_cases eu : u = i
      · subst eu
        rcases hz with hz | hz
        · exact absurd hz hne
        · exact hz
      · exact k u hu (by omega) hne
    refine br_f (nI_ge (b := 4) (by omega) (by omega)) ?_
    rw [rt_12, nI_clamp (by omega)]
    refine ⟨vp_in_nI (by omega) (by omega), nm_e ?_⟩
    refine pk_eq i t (fun z => nm_r (nI_1 i) (nxt (Or.inl z))) (fun z => ?_)
    by_cases q0 : a_locks (12 * i + r) = 0
    · exact br_t q0 (nm_r (nI_1 i) (nxt (Or.inr (Or.inl q0))))
    · refine br_f q0 ?_
      by_cases q1 : a_locks (12 * i + r) = w
      · refine br_t q1 ?_
        by_cases q2 : w = 3
        · exact br_t q2 (h0 ⟨i, by omega, Nat.le_refl _, z, fun y => y.elim q0 (fun y => y.2 q2)⟩)
        · exact br_f q2 (nm_r (nI_1 i) (nxt (Or.inr (Or.inr ⟨q1, q2⟩))))
      · exact br_f q1 (h0 ⟨i, by omega, Nat.le_refl _, z, fun y => y.elim q0 (fun y => q1 y.1)⟩)
theorem rt_ygranted {post : Int32 → Prop} {f_numbered : Int64} {f_down f_seen : Int32} {b_row b_state b_count b_lock b_isWrite b_where b_what : Nat → Int32} {b_least : Nat → Int64} {t r : Nat} {w : Int32} {lk : Nat → Int32} (ht : t < 4) (hr : r < 12)
    (hlk : ∀ u, u < 4 → (b_state u = 0 → lk (12 * u + r) = 0) ∧ (b_state u ≠ 0 → b_lock (12 * u + r) = lk (12 * u + r))) : ∀ (d i : Nat), i + d = 4 →
    ((∀ u, u < 4 → i ≤ u → u ≠ t → lk (12 * u + r) = 0 ∨ (lk (12 * u + r) = w ∧ w ≠ 3)) → post 1) →
    ((∃ u, u < 4 ∧ i ≤ u ∧ u ≠ t ∧ ¬ (lk (12 * u + r) = 0 ∨ (lk (12 * u + r) = w ∧ w ≠ 3))) → post 0) → wY_granted_3 post (nI t) (nI r) w f_numbered f_down f_seen b_row b_state b_count b_least b_lock b_isWrite b_where b_what (d + 1) (nI i) := by
  intro d
  induction d with
  | zero =>
    intro i hi h1 h0
    have e : i = 4 := by omega
    subst e
    exact br_t (nI_le (a := 4) (b := 4) (by omega) (by omega)) (h1 (fun u hu hiu => by omega))
  | succ d ih =>
    intro i hi h1 h0
    have hi4 : i < 4 := by omega
    have nxt : (i = t ∨ (lk (12 * i + r) = 0 ∨ (lk (12 * i + r) = w ∧ w ≠ 3))) → wY_granted_3 post (nI t) (nI r) w f_numbered f_down f_seen b_row b_state b_count b_least b_lock b_isWrite b_where b_what (d + 1) (nI (i + 1)) := by
      intro hz
      refine ih (i + 1) (by omega) (fun k => h1 (fun u hu hiu hne => ?_)) (fun ⟨u, a, b, c, dd⟩ => h0 ⟨u, a, by omega, c, dd⟩)
      by_cases eu : u = i
      · subst eu
        rcases hz with hz | hz
        · exact absurd hz hne
        · exact hz
      · exact k u hu (by omega) hne
    have z25 : (i = t ∨ lk (12 * i + r) = 0) → wY_granted_25 post (wY_granted_3 post (nI t) (nI r) w f_numbered f_down f_seen b_row b_state b_count b_least b_lock b_isWrite b_where b_what (d + 1)) (nI t) (nI r) w (nI i) f_numbered f_down f_seen b_row b_state b_count b_least b_lock b_isWrite b_where b_what :=
      fun y => br_t rfl (nm_r (nI_1 i) (nxt (y.elim Or.inl (fun y => Or.inr (Or.inl y)))))
    refine br_f (nI_ge (b := 4) (by omega) (by omega)) ?_
    refine pk_eq i t (fun z => z25 (Or.inl z)) (fun z => ?_)
    rw [nI_clamp (show i < 2 ^ 31 by omega)]
    refine ⟨vp_in_nI (by omega) (by omega), ?_⟩
    by_cases s0 : b_state i = 0
    · exact br_t s0 (z25 (Or.inr ((hlk i hi4).1 s0)))
    · refine br_f s0 ?_
      rw [rt_12', nI_clamp (by omega), (hlk i hi4).2 s0]
      refine ⟨vp_in_nI (by omega) (by omega), ?_⟩
      by_cases q0 : lk (12 * i + r) = 0
      · exact br_t q0 (nm_r (nI_1 i) (nxt (Or.inr (Or.inl q0))))
      · refine br_f q0 ?_
        by_cases q1 : lk (12 * i + r) = w
        · refine br_t q1 ?_
          by_cases q2 : w = 3
          · exact br_t q2 (h0 ⟨i, by omega, Nat.le_refl _, z, fun y => y.elim q0 (fun y => y.2 q2)⟩)
          · exact br_f q2 (nm_r (nI_1 i) (nxt (Or.inr (Or.inr ⟨q1, q2⟩))))
        · exact br_f q1 (h0 ⟨i, by omega, Nat.le_refl _, z, fun y => y.elim q0 (fun y => q1 y.1)⟩)
/-- both refuse alike -/
theorem rt_refusal {f_logStart f_logEnd f_forced f_checkLsn f_latest f_up f_broken f_fuse f_accepted f_found : Int32} {a_disk a_diskLsn a_logKind a_logSlot a_logRecord a_logValue a_logBefore a_logBack a_logNumber a_checkPage a_checkState a_checkUndo a_checkFirst a_checkNumber a_page a_lsn a_since a_held a_state a_undo a_first a_number a_effect a_locks a_lacking : Nat → Int32} {f_numbered : Int64} {f_down f_seen : Int32} {b_row b_state b_count b_lock b_isWrite b_where b_what : Nat → Int32} {b_least : Nat → Int64} (hup : f_up = 1) (hdn : f_down = 0) (hst : ∀ t, t < 4 → b_state t = a_state t)
    (hl0 : ∀ t, t < 4 → a_state t = 0 → ∀ r, r < 12 → a_locks (12 * t + r) = 0) (hlk : ∀ t, t < 4 → a_state t ≠ 0 → ∀ r, r < 12 → b_lock (12 * t + r) = a_locks (12 * t + r)) (v1 v2 mode : Int32) :
    ∃ r : Int32, (∀ post : Int32 → Prop, post r → wpX_refusal post (f_logStart, f_logEnd, f_forced, f_checkLsn, f_latest, f_up, f_broken, f_fuse, f_accepted, f_found, a_disk, a_diskLsn, a_logKind, a_logSlot, a_logRecord, a_logValue, a_logBefore, a_logBack, a_logNumber, a_checkPage, a_checkState, a_checkUndo, a_checkFirst, a_checkNumber, a_page, a_lsn, a_since, a_held, a_state, a_undo, a_first, a_number, a_effect, a_locks, a_lacking) v1 v2 mode) ∧ (∀ post : Int32 → Prop, post r → wpY_refusal post (f_numbered, f_down, f_seen, b_row, b_state, b_count, b_least, b_lock, b_isWrite, b_where, b_what) v1 v2 mode) ∧
      (r = 0 → ∃ t rr, t < 4 ∧ rr < 12 ∧ v1 = nI t ∧ v2 = nI rr ∧ a_state t = 1 ∧ rt_gr a_locks t rr (rt_wt (a_locks (12 * t + rr)) mode)) := by
  have h10 : ¬ (1 : Int32) = 0 := by decide
  have xbad : ∀ post : Int32 → Prop, post 5 → ((v1 < 0 ∨ nI 4 ≤ v1) ∨ (v2 < 0 ∨ nI 12 ≤ v2)) → wpX_refusal post (f_logStart, f_logEnd, f_forced, f_checkLsn, f_latest, f_up, f_broken, f_fuse, f_accepted, f_found, a_disk, a_diskLsn, a_logKind, a_logSlot, a_logRecord, a_logValue, a_logBefore, a_logBack, a_logNumber, a_checkPage, a_checkState, a_checkUndo, a_checkFirst, a_checkNumber, a_page, a_lsn, a_since, a_held, a_state, a_undo, a_first, a_number, a_effect, a_locks, a_lacking) v1 v2 mode := by
    intro post hp hb
    by_cases z : v1 &&& (-4) = 0
    · refine br_t z ?_
      rcases hb with hb | hb
      · exact absurd z (rt_m4n hb)
      · by_cases z2 : v2 < 0
        · exact br_t z2 hp
        · refine br_f z2 (br_f (fun z3 => ?_) hp)
          rcases hb with hb | hb
          · exact z2 hb
          · rw [Int32.le_iff_toInt_le, nI_toInt (by omega)] at hb
            rw [Int32.le_iff_toInt_le] at z3
            have : (11 : Int32).toInt = 11 := by decide
            omega
    · exact br_f z hp
  rcases pk_ix v1 (n := 4) (by omega) with h | h | ⟨t, ht, rfl⟩
  · refine ⟨5, fun post hp => xbad post hp (Or.inl (Or.inl h)), fun post hp => ?_, fun z => absurd z (by decide)⟩
    unfold wpY_refusal
    refine rt_among (N := 4) (by omega) v1 (fun _ => br_t rfl hp) (fun j hj e => ?_)
    rw [e] at h; exact absurd h (nI_pos (by omega))
  · refine ⟨5, fun post hp => xbad post hp (Or.inl (Or.inr h)), fun post hp => ?_, fun z => absurd z (by decide)⟩
    unfold wpY_refusal
    refine rt_among (N := 4) (by omega) v1 (fun _ => br_t rfl hp) (fun j hj e => ?_)
    rw [e] at h; exact absurd h (nI_ge hj (by omega))
  · have yam : ∀ (P : Int32 → Prop) (u : SY), P 1 → wpY_among P u (nI t) 4 := fun P u hp => rt_among (N := 4) (by omega) _ (fun z => by
      rcases z with z | z
      · exact absurd z (nI_pos (by omega))
      · exact absurd z (nI_ge ht (by omega))) (fun _ _ _ => hp)
    by_cases hv2 : v2 < 0 ∨ nI 12 ≤ v2
    · refine ⟨5, fun post hp => xbad post hp (Or.inr hv2), fun post hp => ?_, fun z => absurd z (by decide)⟩
      unfold wpY_refusal
      refine yam _ _ ?_
      refine br_f h10 ?_
      refine rt_among (N := 12) (by omega) v2 (fun _ => br_t rfl hp) (fun j hj e => ?_)
      rw [e] at hv2
      rcases hv2 with z | z
      · exact absurd z (nI_pos (by omega))
      · exact absurd z (nI_ge hj (by omega))
    · obtain ⟨rr, hr, rfl⟩ : ∃ rr, rr < 12 ∧ v2 = nI rr := by
        rcases pk_ix v2 (n := 12) (by omega) with h | h | h
        · exact absurd (Or.inl h) hv2
        · exact absurd (Or.inr h) hv2
        · exact h
      have yam2 : ∀ (P : Int32 → Prop) (u : SY), P 1 → wpY_among P u (nI rr) 12 := fun P u hp => rt_among (N := 12) (by omega) _ (fun z => absurd z hv2) (fun _ _ _ => hp)
      have hin : vp_in (nI t) 4 := vp_in_nI ht (by omega)
      have hc : (nI t).toNatClampNeg = t := nI_clamp (by omega)
      have xw : ∀ (P : Int32 → Prop), ((a_state t = 1 → wpX_wanted (fun r_7 => (wpX_granted (fun r_43 => (((r_43 = 0 → (P 3)) ∧ (¬ r_43 = 0 → (P 0))))) (f_logStart, f_logEnd, f_forced, f_checkLsn, f_latest, f_up, f_broken, f_fuse, f_accepted, f_found, a_disk, a_diskLsn, a_logKind, a_logSlot, a_logRecord, a_logValue, a_logBefore, a_logBack, a_logNumber, a_checkPage, a_checkState, a_checkUndo, a_checkFirst, a_checkNumber, a_page, a_lsn, a_since, a_held, a_state, a_undo, a_first, a_number, a_effect, a_locks, a_lacking) (nI t) (nI rr) r_7)) (f_logStart, f_logEnd, f_forced, f_checkLsn, f_latest, f_up, f_broken, f_fuse, f_accepted, f_found, a_disk, a_diskLsn, a_logKind, a_logSlot, a_logRecord, a_logValue, a_logBefore, a_logBack, a_logNumber, a_checkPage, a_checkState, a_checkUndo, a_checkFirst, a_checkNumber, a_page, a_lsn, a_since, a_held, a_state, a_undo, a_first, a_number, a_effect, a_locks, a_lacking) (nI t) (nI rr) mode) ∧ (¬ a_state t = 1 → P 2)) → wpX_refusal P (f_logStart, f_logEnd, f_forced, f_checkLsn, f_latest, f_up, f_broken, f_fuse, f_accepted, f_found, a_disk, a_diskLsn, a_logKind, a_logSlot, a_logRecord, a_logValue, a_logBefore, a_logBack, a_logNumber, a_checkPage, a_checkState, a_checkUndo, a_checkFirst, a_checkNumber, a_page, a_lsn, a_since, a_held, a_state, a_undo, a_first, a_number, a_effect, a_locks, a_lacking) (nI t) (nI rr) mode := by
        intro P hP
        refine br_t (rt_m4t ht) (br_f (fun z => hv2 (Or.inl z)) (br_t (nI_le (a := rr) (b := 11) (by omega) (by omega)) (br_f (by rw [hup]; decide) ?_)))
        rw [hc]
        exact ⟨hin, hP⟩
      have yw : ∀ (P : Int32 → Prop), ((b_state t = 1 → wpY_wanted (fun r_30 => (wpY_granted (fun r_42 => (((r_42 = 0 → (P 3)) ∧ (¬ r_42 = 0 → (P 0))))) (f_numbered, f_down, f_seen, b_row, b_state, b_count, b_least, b_lock, b_isWrite, b_where, b_what) (nI t) (nI rr) r_30)) (f_numbered, f_down, f_seen, b_row, b_state, b_count, b_least, b_lock, b_isWrite, b_where, b_what) (nI t) (nI rr) mode) ∧ (¬ b_state t = 1 → P 2)) → wpY_refusal P (f_numbered, f_down, f_seen, b_row, b_state, b_count, b_least, b_lock, b_isWrite, b_where, b_what) (nI t) (nI rr) mode := by
        intro P hP
        unfold wpY_refusal
        refine yam _ _ ?_
        refine br_f h10 ?_
        refine yam2 _ _ ?_
        refine br_f h10 ?_
        refine br_t hdn ?_
        rw [hc]
        exact ⟨hin, hP⟩
      by_cases hs : a_state t = 1
      · have hbl : b_lock (12 * t + rr) = a_locks (12 * t + rr) := hlk t ht (by rw [hs]; decide) rr hr
        have hlk' : ∀ u, u < 4 → (b_state u = 0 → a_locks (12 * u + rr) = 0) ∧ (b_state u ≠ 0 → b_lock (12 * u + rr) = a_locks (12 * u + rr)) :=
          fun u hu => ⟨fun z => hl0 u hu ((hst u hu).symm.trans z) rr hr, fun z => hlk u hu (fun y => z ((hst u hu).trans y)) rr hr⟩
        by_cases g : rt_gr a_locks t rr (rt_wt (a_locks (12 * t + rr)) mode)
        · refine ⟨0, fun post hp => xw post (br_t hs (rt_xwanted ht hr ⟨5, rt_xgranted ht hr 4 0 (by omega) (fun _ => br_f (by decide) hp) (fun ⟨u, a, _, b, c⟩ => absurd (g u a b) c)⟩)),
            fun post hp => yw post (br_t ((hst t ht).trans hs) (rt_ywanted ht hr ⟨5, ?_⟩)), fun _ => ⟨t, rr, ht, hr, rfl, rfl, hs, g⟩⟩
          rw [hbl]
          exact rt_ygranted ht hr hlk' 4 0 (by omega) (fun _ => br_f (by decide) hp) (fun ⟨u, a, _, b, c⟩ => absurd (g u a b) c)
        · refine ⟨3, fun post hp => xw post (br_t hs (rt_xwanted ht hr ⟨5, rt_xgranted ht hr 4 0 (by omega) (fun k => absurd (fun u a b => k u a (by omega) b) g) (fun _ => br_t rfl hp)⟩)),
            fun post hp => yw post (br_t ((hst t ht).trans hs) (rt_ywanted ht hr ⟨5, ?_⟩)), fun z => absurd z (by decide)⟩
          rw [hbl]
          exact rt_ygranted ht hr hlk' 4 0 (by omega) (fun k => absurd (fun u a b => k u a (by omega) b) g) (fun _ => br_t rfl hp)
      · exact ⟨2, fun post hp => xw post (br_f hs hp), fun post hp => yw post (br_f (by rw [hst t ht]; exact hs) hp), fun z => absurd z (by decide)⟩
end
section
/-! ## the relation -/
def rt_TR (L : Nat → rt_Rc) (a : rt_AS) (a_state a_effect a_locks b_state b_count : Nat → Int32) (b_least : Nat → Int64) (b_lock b_isWrite b_where b_what : Nat → Int32) (t : Nat) : Prop :=
  b_state t = a_state t ∧ a_effect t = nI (rt_ch a t).length ∧ (a_state t = 0 → ∀ r, r < 12 → a_locks (12 * t + r) = 0) ∧
  (a_state t ≠ 0 → b_count t = nI (rt_ch a t).length ∧ b_least t = lN (rt_nu a t) ∧ rt_RE L t b_isWrite b_where b_what (rt_ch a t) ∧ ∀ r, r < 12 → b_lock (12 * t + r) = a_locks (12 * t + r)) ∧
  (rt_pr a t = true → ∀ r, r < 12 → a_locks (12 * t + r) = nI (rt_ak L r (rt_ch a t))) ∧
  (∀ c, c ∈ rt_ch a t → a_locks (12 * t + rt_rr (L c)) = 3 ∨ (rt_rk (L c) = 2 ∧ a_locks (12 * t + rt_rr (L c)) = 2))
def rt_LK (lk : Nat → Int32) : Prop := ∀ t u, t < 4 → u < 4 → t ≠ u → ∀ r, r < 12 → lk (12 * t + r) ≠ 0 → lk (12 * u + r) ≠ 0 → lk (12 * t + r) = lk (12 * u + r) ∧ lk (12 * t + r) ≠ 3
/-- running -/
def rt_UF (k : Nat) (L : Nat → rt_Rc) (s e f c q la : Nat) (a_disk a_diskLsn a_logKind a_logSlot a_logRecord a_logValue a_logBefore a_logBack a_logNumber a_checkPage a_checkState a_checkUndo a_checkFirst a_checkNumber a_page a_lsn a_since a_held a_state a_undo a_first a_number a_effect a_locks b_state b_count : Nat → Int32) (b_least : Nat → Int64) (b_lock b_isWrite b_where b_what : Nat → Int32) : Prop :=
  rt_SY L s e e f c q e a_disk a_diskLsn a_logKind a_logSlot a_logRecord a_logValue a_logBefore a_logBack a_logNumber a_checkPage a_checkState a_checkUndo a_checkFirst a_checkNumber a_page a_lsn a_since a_held ∧ rt_TX (rt_A L e) a_state a_undo a_first a_number ∧ rt_CE L f e ∧ (la < 2 ∧ e ≤ 60 * k ∧ q ≤ k) ∧
  (∀ t, t < 4 → rt_TR L (rt_A L e) a_state a_effect a_locks b_state b_count b_least b_lock b_isWrite b_where b_what t) ∧ rt_LK a_locks
/-- what a prepared transaction is in the reference -/
def rt_PT (L : Nat → rt_Rc) (a : rt_AS) (b_count : Nat → Int32) (b_least : Nat → Int64) (b_lock b_isWrite b_where b_what : Nat → Int32) (t : Nat) : Prop :=
  b_count t = nI (rt_ch a t).length ∧ b_least t = lN (rt_nu a t) ∧ rt_RE L t b_isWrite b_where b_what (rt_ch a t) ∧ ∀ r, r < 12 → b_lock (12 * t + r) = nI (rt_ak L r (rt_ch a t))
/-- down -/
def rt_DF (k : Nat) (L : Nat → rt_Rc) (s e c q la : Nat) (a_disk a_diskLsn a_logKind a_logSlot a_logRecord a_logValue a_logBefore a_logBack a_logNumber a_checkPage a_checkState a_checkUndo a_checkFirst a_checkNumber a_page a_lsn a_since a_held a_state a_undo a_first a_number a_effect a_locks b_state b_count : Nat → Int32) (b_least : Nat → Int64) (b_lock b_isWrite b_where b_what : Nat → Int32) : Prop :=
  rt_SY L s e e e c q 0 a_disk a_diskLsn a_logKind a_logSlot a_logRecord a_logValue a_logBefore a_logBack a_logNumber a_checkPage a_checkState a_checkUndo a_checkFirst a_checkNumber a_page a_lsn a_since a_held ∧ (∀ b, b < 2 → a_page b = -1 ∧ a_since b = -1) ∧ (∀ t, t < 4 → a_state t = 0 ∧ a_undo t = -1 ∧ a_first t = -1 ∧ a_number t = 0 ∧ a_effect t = 0 ∧ ∀ r, r < 12 → a_locks (12 * t + r) = 0) ∧
  (la < 2 ∧ e ≤ 60 * k ∧ q ≤ k) ∧
  (∀ t, t < 4 → b_state t = (if rt_pr (rt_A L e) t = true then 2 else 0) ∧ (rt_pr (rt_A L e) t = true → rt_PT L (rt_A L e) b_count b_least b_lock b_isWrite b_where b_what t))
def rt_RL (k : Nat) (f_logStart f_logEnd f_forced f_checkLsn f_latest f_up f_accepted f_found : Int32) (a_disk a_diskLsn a_logKind a_logSlot a_logRecord a_logValue a_logBefore a_logBack a_logNumber a_checkPage a_checkState a_checkUndo a_checkFirst a_checkNumber a_page a_lsn a_since a_held a_state a_undo a_first a_number a_effect a_locks : Nat → Int32) (f_numbered : Int64) (f_down f_seen : Int32) (b_row b_state b_count : Nat → Int32) (b_least : Nat → Int64) (b_lock b_isWrite b_where b_what : Nat → Int32) : Prop :=
  (∃ L s e f c q la, (f_logStart = nI s ∧ f_logEnd = nI e ∧ f_forced = nI f ∧ f_checkLsn = nI c ∧ f_latest = nI la ∧ f_up = 1 ∧ f_accepted = nI q ∧ f_numbered = lN q ∧ f_down = 0 ∧ f_seen = f_found ∧ b_row = rt_row (rt_A L e)) ∧
    rt_UF k L s e f c q la a_disk a_diskLsn a_logKind a_logSlot a_logRecord a_logValue a_logBefore a_logBack a_logNumber a_checkPage a_checkState a_checkUndo a_checkFirst a_checkNumber a_page a_lsn a_since a_held a_state a_undo a_first a_number a_effect a_locks b_state b_count b_least b_lock b_isWrite b_where b_what) ∨
  (∃ L s e c q la, (f_logStart = nI s ∧ f_logEnd = nI e ∧ f_forced = nI e ∧ f_checkLsn = nI c ∧ f_latest = nI la ∧ f_up = 0 ∧ f_accepted = nI q ∧ f_numbered = lN q ∧ f_down = 1 ∧ f_seen = f_found ∧ b_row = rt_co L (rt_A L e)) ∧
    rt_DF k L s e c q la a_disk a_diskLsn a_logKind a_logSlot a_logRecord a_logValue a_logBefore a_logBack a_logNumber a_checkPage a_checkState a_checkUndo a_checkFirst a_checkNumber a_page a_lsn a_since a_held a_state a_undo a_first a_number a_effect a_locks b_state b_count b_least b_lock b_isWrite b_where b_what)
/-- the relation at the head of a turn whose first cell is k -/
def i_Rel (k : Nat) (u : SX) (v : SY) : Prop := match u, v with
  | (f_logStart, f_logEnd, f_forced, f_checkLsn, f_latest, f_up, f_broken, f_fuse, f_accepted, f_found, a_disk, a_diskLsn, a_logKind, a_logSlot, a_logRecord, a_logValue, a_logBefore, a_logBack, a_logNumber, a_checkPage, a_checkState, a_checkUndo, a_checkFirst, a_checkNumber, a_page, a_lsn, a_since, a_held, a_state, a_undo, a_first, a_number, a_effect, a_locks, a_lacking), (f_numbered, f_down, f_seen, b_row, b_state, b_count, b_least, b_lock, b_isWrite, b_where, b_what) => rt_RL k f_logStart f_logEnd f_forced f_checkLsn f_latest f_up f_accepted f_found a_disk a_diskLsn a_logKind a_logSlot a_logRecord a_logValue a_logBefore a_logBack a_logNumber a_checkPage a_checkState a_checkUndo a_checkFirst a_checkNumber a_page a_lsn a_since a_held a_state a_undo a_first a_number a_effect a_locks f_numbered f_down f_seen b_row b_state b_count b_least b_lock b_isWrite b_where b_what
theorem rt_RL_up {k k' : Nat} (hk : k ≤ k') {f_logStart f_logEnd f_forced f_checkLsn f_latest f_up f_accepted f_found : Int32} {a_disk a_diskLsn a_logKind a_logSlot a_logRecord a_logValue a_logBefore a_logBack a_logNumber a_checkPage a_checkState a_checkUndo a_checkFirst a_checkNumber a_page a_lsn a_since a_held a_state a_undo a_first a_number a_effect a_locks : Nat → Int32} {f_numbered : Int64} {f_down f_seen : Int32} {b_row b_state b_count b_lock b_isWrite b_where b_what : Nat → Int32} {b_least : Nat → Int64}
    (h : rt_RL k f_logStart f_logEnd f_forced f_checkLsn f_latest f_up f_accepted f_found a_disk a_diskLsn a_logKind a_logSlot a_logRecord a_logValue a_logBefore a_logBack a_logNumber a_checkPage a_checkState a_checkUndo a_checkFirst a_checkNumber a_page a_lsn a_since a_held a_state a_undo a_first a_number a_effect a_locks f_numbered f_down f_seen b_row b_state b_count b_least b_lock b_isWrite b_where b_what) :
    rt_RL k' f_logStart f_logEnd f_forced f_checkLsn f_latest f_up f_accepted f_found a_disk a_diskLsn a_logKind a_logSlot a_logRecord a_logValue a_logBefore a_logBack a_logNumber a_checkPage a_checkState a_checkUndo a_checkFirst a_checkNumber a_page a_lsn a_since a_held a_state a_undo a_first a_number a_effect a_locks f_numbered f_down f_seen b_row b_state b_count b_least b_lock b_isWrite b_where b_what := by
  rcases h with ⟨L, s, e, f, c, q, la, h0, h1, h2, h3, ⟨h4, h5, h6⟩, h7⟩ | ⟨L, s, e, c, q, la, h0, h1, h2, h3, ⟨h4, h5, h6⟩, h7⟩
  · exact Or.inl ⟨L, s, e, f, c, q, la, h0, h1, h2, h3, ⟨h4, by omega, by omega⟩, h7⟩
  · exact Or.inr ⟨L, s, e, c, q, la, h0, h1, h2, h3, ⟨h4, by omega, by omega⟩, h7⟩
theorem i_up {k : Nat} {u : SX} {v : SY} (h : i_Rel k u v) : i_Rel (k + 4) u v := by
  obtain ⟨f_logStart, f_logEnd, f_forced, f_checkLsn, f_latest, f_up, f_broken, f_fuse, f_accepted, f_found, a_disk, a_diskLsn, a_logKind, a_logSlot, a_logRecord, a_logValue, a_logBefore, a_logBack, a_logNumber, a_checkPage, a_checkState, a_checkUndo, a_checkFirst, a_checkNumber, a_page, a_lsn, a_since, a_held, a_state, a_undo, a_first, a_number, a_effect, a_locks, a_lacking⟩ := u
  obtain ⟨f_numbered, f_down, f_seen, b_row, b_state, b_count, b_least, b_lock, b_isWrite, b_where, b_what⟩ := v
  exact rt_RL_up (by omega) h
/-- the two cases, opened -/
theorem rt_el {k : Nat} {P : SX → SY → Prop} {u : SX} {v : SY} (I : i_Rel k u v)
    (hU : ∀ (L : Nat → rt_Rc) (s e f c q la : Nat) (f_broken f_fuse f_found : Int32) (a_disk a_diskLsn a_logKind a_logSlot a_logRecord a_logValue a_logBefore a_logBack a_logNumber a_checkPage a_checkState a_checkUndo a_checkFirst a_checkNumber a_page a_lsn a_since a_held a_state a_undo a_first a_number a_effect a_locks a_lacking b_state b_count : Nat → Int32) (b_least : Nat → Int64) (b_lock b_isWrite b_where b_what : Nat → Int32),
      rt_UF k L s e f c q la a_disk a_diskLsn a_logKind a_logSlot a_logRecord a_logValue a_logBefore a_logBack a_logNumber a_checkPage a_checkState a_checkUndo a_checkFirst a_checkNumber a_page a_lsn a_since a_held a_state a_undo a_first a_number a_effect a_locks b_state b_count b_least b_lock b_isWrite b_where b_what → i_Rel (k + 4) ((nI s), (nI e), (nI f), (nI c), (nI la), 1, f_broken, f_fuse, (nI q), f_found, a_disk, a_diskLsn, a_logKind, a_logSlot, a_logRecord, a_logValue, a_logBefore, a_logBack, a_logNumber, a_checkPage, a_checkState, a_checkUndo, a_checkFirst, a_checkNumber, a_page, a_lsn, a_since, a_held, a_state, a_undo, a_first, a_number, a_effect, a_locks, a_lacking) ((lN q), 0, f_found, (rt_row (rt_A L e)), b_state, b_count, b_least, b_lock, b_isWrite, b_where, b_what) → P ((nI s), (nI e), (nI f), (nI c), (nI la), 1, f_broken, f_fuse, (nI q), f_found, a_disk, a_diskLsn, a_logKind, a_logSlot, a_logRecord, a_logValue, a_logBefore, a_logBack, a_logNumber, a_checkPage, a_checkState, a_checkUndo, a_checkFirst, a_checkNumber, a_page, a_lsn, a_since, a_held, a_state, a_undo, a_first, a_number, a_effect, a_locks, a_lacking) ((lN q), 0, f_found, (rt_row (rt_A L e)), b_state, b_count, b_least, b_lock, b_isWrite, b_where, b_what))
    (hD : ∀ (L : Nat → rt_Rc) (s e c q la : Nat) (f_broken f_fuse f_found : Int32) (a_disk a_diskLsn a_logKind a_logSlot a_logRecord a_logValue a_logBefore a_logBack a_logNumber a_checkPage a_checkState a_checkUndo a_checkFirst a_checkNumber a_page a_lsn a_since a_held a_state a_undo a_first a_number a_effect a_locks a_lacking b_state b_count : Nat → Int32) (b_least : Nat → Int64) (b_lock b_isWrite b_where b_what : Nat → Int32),
      rt_DF k L s e c q la a_disk a_diskLsn a_logKind a_logSlot a_logRecord a_logValue a_logBefore a_logBack a_logNumber a_checkPage a_checkState a_checkUndo a_checkFirst a_checkNumber a_page a_lsn a_since a_held a_state a_undo a_first a_number a_effect a_locks b_state b_count b_least b_lock b_isWrite b_where b_what → i_Rel (k + 4) ((nI s), (nI e), (nI e), (nI c), (nI la), 0, f_broken, f_fuse, (nI q), f_found, a_disk, a_diskLsn, a_logKind, a_logSlot, a_logRecord, a_logValue, a_logBefore, a_logBack, a_logNumber, a_checkPage, a_checkState, a_checkUndo, a_checkFirst, a_checkNumber, a_page, a_lsn, a_since, a_held, a_state, a_undo, a_first, a_number, a_effect, a_locks, a_lacking) ((lN q), 1, f_found, (rt_co L (rt_A L e)), b_state, b_count, b_least, b_lock, b_isWrite, b_where, b_what) → P ((nI s), (nI e), (nI e), (nI c), (nI la), 0, f_broken, f_fuse, (nI q), f_found, a_disk, a_diskLsn, a_logKind, a_logSlot, a_logRecord, a_logValue, a_logBefore, a_logBack, a_logNumber, a_checkPage, a_checkState, a_checkUndo, a_checkFirst, a_checkNumber, a_page, a_lsn, a_since, a_held, a_state, a_undo, a_first, a_number, a_effect, a_locks, a_lacking) ((lN q), 1, f_found, (rt_co L (rt_A L e)), b_state, b_count, b_least, b_lock, b_isWrite, b_where, b_what)) : P u v := by
  obtain ⟨f_logStart, f_logEnd, f_forced, f_checkLsn, f_latest, f_up, f_broken, f_fuse, f_accepted, f_found, a_disk, a_diskLsn, a_logKind, a_logSlot, a_logRecord, a_logValue, a_logBefore, a_logBack, a_logNumber, a_checkPage, a_checkState, a_checkUndo, a_checkFirst, a_checkNumber, a_page, a_lsn, a_since, a_held, a_state, a_undo, a_first, a_number, a_effect, a_locks, a_lacking⟩ := u
  obtain ⟨f_numbered, f_down, f_seen, b_row, b_state, b_count, b_least, b_lock, b_isWrite, b_where, b_what⟩ := v
  have IH := i_up I
  rcases I with ⟨L, s, e, f, c, q, la, ⟨e1, e2, e3, e4, e5, e6, e7, e8, e9, e10, e11⟩, h⟩ | ⟨L, s, e, c, q, la, ⟨e1, e2, e3, e4, e5, e6, e7, e8, e9, e10, e11⟩, h⟩
  · subst e1 e2 e3 e4 e5 e6 e7 e8 e9 e10 e11
    exact hU _ _ _ _ _ _ _ _ _ _ _ _ _ _ _ _ _ _ _ _ _ _ _ _ _ _ _ _ _ _ _ _ _ _ _ _ _ _ _ _ _ _ h IH
  · subst e1 e2 e3 e4 e5 e6 e7 e8 e9 e10 e11
    exact hD _ _ _ _ _ _ _ _ _ _ _ _ _ _ _ _ _ _ _ _ _ _ _ _ _ _ _ _ _ _ _ _ _ _ _ _ _ _ _ _ _ h IH
theorem rt_inU {k : Nat} {f_broken f_fuse f_found : Int32} {L : Nat → rt_Rc} {s e f c q la : Nat} {a_disk a_diskLsn a_logKind a_logSlot a_logRecord a_logValue a_logBefore a_logBack a_logNumber a_checkPage a_checkState a_checkUndo a_checkFirst a_checkNumber a_page a_lsn a_since a_held a_state a_undo a_first a_number a_effect a_locks a_lacking b_state b_count : Nat → Int32} {b_least : Nat → Int64} {b_lock b_isWrite b_where b_what : Nat → Int32}
    (h : rt_UF k L s e f c q la a_disk a_diskLsn a_logKind a_logSlot a_logRecord a_logValue a_logBefore a_logBack a_logNumber a_checkPage a_checkState a_checkUndo a_checkFirst a_checkNumber a_page a_lsn a_since a_held a_state a_undo a_first a_number a_effect a_locks b_state b_count b_least b_lock b_isWrite b_where b_what) {row : Nat → Int32} (hr : row = rt_row (rt_A L e)) : i_Rel k ((nI s), (nI e), (nI f), (nI c), (nI la), 1, f_broken, f_fuse, (nI q), f_found, a_disk, a_diskLsn, a_logKind, a_logSlot, a_logRecord, a_logValue, a_logBefore, a_logBack, a_logNumber, a_checkPage, a_checkState, a_checkUndo, a_checkFirst, a_checkNumber, a_page, a_lsn, a_since, a_held, a_state, a_undo, a_first, a_number, a_effect, a_locks, a_lacking) ((lN q), 0, f_found, row, b_state, b_count, b_least, b_lock, b_isWrite, b_where, b_what) :=
  Or.inl ⟨L, s, e, f, c, q, la, ⟨rfl, rfl, rfl, rfl, rfl, rfl, rfl, rfl, rfl, rfl, hr⟩, h⟩
theorem rt_inD {k : Nat} {f_broken f_fuse f_found : Int32} {L : Nat → rt_Rc} {s e c q la : Nat} {a_disk a_diskLsn a_logKind a_logSlot a_logRecord a_logValue a_logBefore a_logBack a_logNumber a_checkPage a_checkState a_checkUndo a_checkFirst a_checkNumber a_page a_lsn a_since a_held a_state a_undo a_first a_number a_effect a_locks a_lacking b_state b_count : Nat → Int32} {b_least : Nat → Int64} {b_lock b_isWrite b_where b_what : Nat → Int32}
    (h : rt_DF k L s e c q la a_disk a_diskLsn a_logKind a_logSlot a_logRecord a_logValue a_logBefore a_logBack a_logNumber a_checkPage a_checkState a_checkUndo a_checkFirst a_checkNumber a_page a_lsn a_since a_held a_state a_undo a_first a_number a_effect a_locks b_state b_count b_least b_lock b_isWrite b_where b_what) {row : Nat → Int32} (hr : row = rt_co L (rt_A L e)) : i_Rel k ((nI s), (nI e), (nI e), (nI c), (nI la), 0, f_broken, f_fuse, (nI q), f_found, a_disk, a_diskLsn, a_logKind, a_logSlot, a_logRecord, a_logValue, a_logBefore, a_logBack, a_logNumber, a_checkPage, a_checkState, a_checkUndo, a_checkFirst, a_checkNumber, a_page, a_lsn, a_since, a_held, a_state, a_undo, a_first, a_number, a_effect, a_locks, a_lacking) ((lN q), 1, f_found, row, b_state, b_count, b_least, b_lock, b_isWrite, b_where, b_what) :=
  Or.inr ⟨L, s, e, c, q, la, ⟨rfl, rfl, rfl, rfl, rfl, rfl, rfl, rfl, rfl, rfl, hr⟩, h⟩
/-! locks -/
theorem rt_LK_up {lk : Nat → Int32} {t r : Nat} {w : Int32} (h : rt_LK lk) (ht : t < 4) (hr : r < 12) (g : rt_gr lk t r w) : rt_LK (upd lk (12 * t + r) w) := by
  intro t1 u1 ht1 hu1 hne r1 hr1 h1 h2
  by_cases e1 : 12 * t1 + r1 = 12 * t + r
  · have et : t1 = t := by omega
    have er : r1 = r := by omega
    subst et er
    rw [pk_us] at h1 ⊢
    rw [pk_un (by omega)] at h2 ⊢
    rcases g u1 hu1 (fun z => hne z.symm) with g | g
    · exact absurd g h2
    · exact ⟨g.1.symm, g.2⟩
  · rw [pk_un e1] at h1 ⊢
    by_cases e2 : 12 * u1 + r1 = 12 * t + r
    · have et : u1 = t := by omega
      have er : r1 = r := by omega
      subst et er
      rw [pk_us]
      rcases g t1 ht1 hne with g | g
      · exact absurd g h1
      · exact ⟨g.1, by rw [g.1]; exact g.2⟩
    · rw [pk_un e2] at h2 ⊢
      exact h t1 u1 ht1 hu1 hne r1 hr1 h1 h2
theorem rt_wt_n0 {has mode : Int32} (h : has ≠ 0) : rt_wt has mode = has ∨ rt_wt has mode = 3 := by
  unfold rt_wt
  split
  · next z => exact Or.inl (z.elim (fun y => absurd y h) (fun y => y.symm))
  · exact Or.inr rfl
theorem rt_wt_m {has mode : Int32} : rt_wt has mode = mode ∨ rt_wt has mode = 3 := by
  unfold rt_wt
  split
  · exact Or.inl rfl
  · exact Or.inr rfl
theorem rt_wt_nar {has mode : Int32} (h : mode = 1 ∨ mode = 2 ∨ mode = 3) : vp_nar .byte (rt_wt has mode).toInt8.toInt32 = rt_wt has mode := by
  have : rt_wt has mode = nI 1 ∨ rt_wt has mode = nI 2 ∨ rt_wt has mode = nI 3 := by
    rcases rt_wt_m (has := has) (mode := mode) with z | z
    · rw [z]; exact h
    · exact Or.inr (Or.inr z)
  rcases this with z | z | z
  · rw [z]; exact rt_nb8 (by omega)
  · rw [z]; exact rt_nb8 (by omega)
  · rw [z]; exact rt_nb8 (by omega)
/-- a chain's locks stay enough -/
theorem rt_LC_up {L : Nat → rt_Rc} {lk : Nat → Int32} {t r u c : Nat} {mode : Int32} (hr : r < 12) (hc : rt_rr (L c) < 12) (h : lk (12 * u + rt_rr (L c)) = 3 ∨ (rt_rk (L c) = 2 ∧ lk (12 * u + rt_rr (L c)) = 2)) :
    upd lk (12 * t + r) (rt_wt (lk (12 * t + r)) mode) (12 * u + rt_rr (L c)) = 3 ∨ (rt_rk (L c) = 2 ∧ upd lk (12 * t + r) (rt_wt (lk (12 * t + r)) mode) (12 * u + rt_rr (L c)) = 2) := by
  by_cases e : 12 * u + rt_rr (L c) = 12 * t + r
  · rw [e, pk_us]
    rw [e] at h
    rcases h with h | ⟨h1, h2⟩
    · rcases rt_wt_n0 (has := lk (12 * t + r)) (mode := mode) (by rw [h]; decide) with z | z
      · exact Or.inl (z.trans h)
      · exact Or.inl z
    · rcases rt_wt_n0 (has := lk (12 * t + r)) (mode := mode) (by rw [h2]; decide) with z | z
      · exact Or.inr ⟨h1, z.trans h2⟩
      · exact Or.inl z
  · rw [pk_un e]; exact h
theorem rt_st1 {a : rt_AS} {st un fi nu : Nat → Int32} {L : Nat → rt_Rc} {n t : Nat} (h : rt_TX a st un fi nu) (hW : rt_WF L n a) (ht : t < 4) : (st t = 0 → rt_fi a t = 0) ∧ (st t = 1 → rt_pr a t = false) ∧ (rt_pr a t = true → st t = 2) ∧ (st t = 2 → rt_pr a t = true ∧ rt_fi a t ≠ 0) := by
  obtain ⟨_, _, _, h4, h5⟩ := h t ht
  by_cases z : rt_fi a t = 0
  · have hp := ((hW.1 t ht).2.2.1 z).2.2
    rcases h5 z with e | e
    · exact ⟨fun _ => z, fun _ => hp, fun y => (by rw [hp] at y; cases y), fun y => by rw [e] at y; exact absurd y (by decide)⟩
    · exact ⟨fun _ => z, fun _ => hp, fun y => (by rw [hp] at y; cases y), fun y => by rw [e] at y; exact absurd y (by decide)⟩
  · have e := h4 z
    cases hp : rt_pr a t with
    | true =>
      rw [hp] at e
      have e' : st t = 2 := e
      exact ⟨fun y => by rw [e'] at y; exact absurd y (by decide), fun y => by rw [e'] at y; exact absurd y (by decide), fun _ => e', fun _ => ⟨rfl, z⟩⟩
    | false =>
      rw [hp] at e
      have e' : st t = 1 := e
      exact ⟨fun y => by rw [e'] at y; exact absurd y (by decide), fun _ => rfl, fun y => (by cases y), fun y => by rw [e'] at y; exact absurd y (by decide)⟩
end
section
/-! ## the system part under the buffers' walks; the simple calls -/
theorem rt_valS {post : Int32 → SX → Prop} {f_up f_broken f_fuse f_accepted f_found : Int32} {a_disk a_diskLsn a_logKind a_logSlot a_logRecord a_logValue a_logBefore a_logBack a_logNumber a_checkPage a_checkState a_checkUndo a_checkFirst a_checkNumber a_page a_lsn a_since a_held a_state a_undo a_first a_number a_effect a_locks a_lacking : Nat → Int32} {L : Nat → rt_Rc} {s e f c q la r : Nat} (hla : la < 2) (hr : r < 12) (h : rt_SY L s e e f c q e a_disk a_diskLsn a_logKind a_logSlot a_logRecord a_logValue a_logBefore a_logBack a_logNumber a_checkPage a_checkState a_checkUndo a_checkFirst a_checkNumber a_page a_lsn a_since a_held)
    (H : ∀ b f' a_disk' a_diskLsn' a_page' a_lsn' a_since' a_held', b < 2 → f ≤ f' → rt_SY L s e e f' c q e a_disk' a_diskLsn' a_logKind a_logSlot a_logRecord a_logValue a_logBefore a_logBack a_logNumber a_checkPage a_checkState a_checkUndo a_checkFirst a_checkNumber a_page' a_lsn' a_since' a_held' →
      post (rt_row (rt_A L e) r) ((nI s), (nI e), nI f', (nI c), nI b, f_up, f_broken, f_fuse, f_accepted, f_found, a_disk', a_diskLsn', a_logKind, a_logSlot, a_logRecord, a_logValue, a_logBefore, a_logBack, a_logNumber, a_checkPage, a_checkState, a_checkUndo, a_checkFirst, a_checkNumber, a_page', a_lsn', a_since', a_held', a_state, a_undo, a_first, a_number, a_effect, a_locks, a_lacking)) : wpX_valueOf post ((nI s), (nI e), (nI f), (nI c), (nI la), f_up, f_broken, f_fuse, f_accepted, f_found, a_disk, a_diskLsn, a_logKind, a_logSlot, a_logRecord, a_logValue, a_logBefore, a_logBack, a_logNumber, a_checkPage, a_checkState, a_checkUndo, a_checkFirst, a_checkNumber, a_page, a_lsn, a_since, a_held, a_state, a_undo, a_first, a_number, a_effect, a_locks, a_lacking) (nI r) := by
  obtain ⟨cp, pg, ls, si, dl, hB, hcp, hTc, hfc, hR, hL, z1, z2, z3, z4, z5, z6, z7⟩ := h
  refine rt_valueOf hla hr z5 hB ?_
  intro b f' pg' ls' si' dl' d1 d2 d3 d4 d5 d6 hb hf hB'
  exact H b f' _ _ _ _ _ _ hb hf ⟨cp, pg', ls', si', dl', hB', hcp, hTc, hfc, hR, hL, z1, by omega, z3, z4, z5, z6, z7⟩
theorem rt_wbS {post : SX → Prop} {f_latest f_up f_broken f_fuse f_accepted f_found : Int32} {a_disk a_diskLsn a_logKind a_logSlot a_logRecord a_logValue a_logBefore a_logBack a_logNumber a_checkPage a_checkState a_checkUndo a_checkFirst a_checkNumber a_page a_lsn a_since a_held a_state a_undo a_first a_number a_effect a_locks a_lacking : Nat → Int32} {L : Nat → rt_Rc} {s e f c q b : Nat} (hb : b < 2) (h : rt_SY L s e e f c q e a_disk a_diskLsn a_logKind a_logSlot a_logRecord a_logValue a_logBefore a_logBack a_logNumber a_checkPage a_checkState a_checkUndo a_checkFirst a_checkNumber a_page a_lsn a_since a_held)
    (H : ∀ f' a_disk' a_diskLsn' a_since', f ≤ f' → rt_SY L s e e f' c q e a_disk' a_diskLsn' a_logKind a_logSlot a_logRecord a_logValue a_logBefore a_logBack a_logNumber a_checkPage a_checkState a_checkUndo a_checkFirst a_checkNumber a_page a_lsn a_since' a_held →
      post ((nI s), (nI e), nI f', (nI c), f_latest, f_up, f_broken, f_fuse, f_accepted, f_found, a_disk', a_diskLsn', a_logKind, a_logSlot, a_logRecord, a_logValue, a_logBefore, a_logBack, a_logNumber, a_checkPage, a_checkState, a_checkUndo, a_checkFirst, a_checkNumber, a_page, a_lsn, a_since', a_held, a_state, a_undo, a_first, a_number, a_effect, a_locks, a_lacking)) : wpX_writeBack post ((nI s), (nI e), (nI f), (nI c), f_latest, f_up, f_broken, f_fuse, f_accepted, f_found, a_disk, a_diskLsn, a_logKind, a_logSlot, a_logRecord, a_logValue, a_logBefore, a_logBack, a_logNumber, a_checkPage, a_checkState, a_checkUndo, a_checkFirst, a_checkNumber, a_page, a_lsn, a_since, a_held, a_state, a_undo, a_first, a_number, a_effect, a_locks, a_lacking) (nI b) := by
  obtain ⟨cp, pg, ls, si, dl, hB, hcp, hTc, hfc, hR, hL, z1, z2, z3, z4, z5, z6, z7⟩ := h
  refine rt_wb hb z5 hB ?_
  intro f' si' dl' d1 d2 d3 hf hB' _ _ _
  exact H f' _ _ _ hf ⟨cp, pg, ls, si', dl', hB', hcp, hTc, hfc, hR, hL, z1, by omega, z3, z4, z5, z6, z7⟩
theorem rt_checkS {post : SX → Prop} {f_latest f_up f_broken f_fuse f_accepted f_found : Int32} {a_disk a_diskLsn a_logKind a_logSlot a_logRecord a_logValue a_logBefore a_logBack a_logNumber a_checkPage a_checkState a_checkUndo a_checkFirst a_checkNumber a_page a_lsn a_since a_held a_state a_undo a_first a_number a_effect a_locks a_lacking : Nat → Int32} {L : Nat → rt_Rc} {s e f c q : Nat} (h : rt_SY L s e e f c q e a_disk a_diskLsn a_logKind a_logSlot a_logRecord a_logValue a_logBefore a_logBack a_logNumber a_checkPage a_checkState a_checkUndo a_checkFirst a_checkNumber a_page a_lsn a_since a_held) (hT : rt_TX (rt_A L e) a_state a_undo a_first a_number)
    (H : ∀ s' a_checkPage' a_checkState' a_checkUndo' a_checkFirst' a_checkNumber', f ≤ e → rt_SY L s' e e e e q e a_disk a_diskLsn a_logKind a_logSlot a_logRecord a_logValue a_logBefore a_logBack a_logNumber a_checkPage' a_checkState' a_checkUndo' a_checkFirst' a_checkNumber' a_page a_lsn a_since a_held →
      post (nI s', (nI e), nI e, nI e, f_latest, f_up, f_broken, f_fuse, f_accepted, f_found, a_disk, a_diskLsn, a_logKind, a_logSlot, a_logRecord, a_logValue, a_logBefore, a_logBack, a_logNumber, a_checkPage', a_checkState', a_checkUndo', a_checkFirst', a_checkNumber', a_page, a_lsn, a_since, a_held, a_state, a_undo, a_first, a_number, a_effect, a_locks, a_lacking)) : wpX_check post ((nI s), (nI e), (nI f), (nI c), f_latest, f_up, f_broken, f_fuse, f_accepted, f_found, a_disk, a_diskLsn, a_logKind, a_logSlot, a_logRecord, a_logValue, a_logBefore, a_logBack, a_logNumber, a_checkPage, a_checkState, a_checkUndo, a_checkFirst, a_checkNumber, a_page, a_lsn, a_since, a_held, a_state, a_undo, a_first, a_number, a_effect, a_locks, a_lacking) := by
  obtain ⟨cp, pg, ls, si, dl, hB, hcp, hTc, hfc, hR, hL, z1, z2, z3, z4, z5, z6, z7⟩ := h
  have hfe := hB.2.1.1
  refine rt_check z5 (by omega) hB hT (fun t ht => ?_) (rt_fi_lo z1 hfc e (by omega)) ?_
  · by_cases y : rt_fi (rt_A L e) t = 0
    · omega
    · exact (rt_win hL ht y).1
  · intro s' cp' k0 k1 k2 k3 k4 q1 q2 q3 q4 q5 q6 q7
    exact H s' _ _ _ _ _ hfe ⟨cp', pg, ls, si, dl, q3, q4, q5, q6, rt_RG_mo hR q1 (Nat.le_refl _), hL, q2, Nat.le_refl _, Nat.le_refl _, by omega, z5, z6, z7⟩
theorem rt_UF_D {k : Nat} {L : Nat → rt_Rc} {s e f c q la s' f' c' la' : Nat} {a_disk a_diskLsn a_logKind a_logSlot a_logRecord a_logValue a_logBefore a_logBack a_logNumber a_checkPage a_checkState a_checkUndo a_checkFirst a_checkNumber a_page a_lsn a_since a_held d1 d2 d3 d4 d5 d6 d7 d8 d9 d10 d11 d12 d13 d14 d15 d16 d17 d18 a_state a_undo a_first a_number a_effect a_locks b_state b_count : Nat → Int32} {b_least : Nat → Int64} {b_lock b_isWrite b_where b_what : Nat → Int32}
    (h : rt_UF k L s e f c q la a_disk a_diskLsn a_logKind a_logSlot a_logRecord a_logValue a_logBefore a_logBack a_logNumber a_checkPage a_checkState a_checkUndo a_checkFirst a_checkNumber a_page a_lsn a_since a_held a_state a_undo a_first a_number a_effect a_locks b_state b_count b_least b_lock b_isWrite b_where b_what) (hf : f ≤ f') (hla : la' < 2)
    (hS : rt_SY L s' e e f' c' q e d1 d2 d3 d4 d5 d6 d7 d8 d9 d10 d11 d12 d13 d14 d15 d16 d17 d18) :
    rt_UF (k + 4) L s' e f' c' q la' d1 d2 d3 d4 d5 d6 d7 d8 d9 d10 d11 d12 d13 d14 d15 d16 d17 d18 a_state a_undo a_first a_number a_effect a_locks b_state b_count b_least b_lock b_isWrite b_where b_what := by
  obtain ⟨_, h2, h3, ⟨h4, h5, h6⟩, h7, h8⟩ := h
  exact ⟨hS, h2, rt_CE_le h3 hf, ⟨hla, by omega, by omega⟩, h7, h8⟩
theorem rt_xmiss {post : Int32 → Prop} {f_logStart f_logEnd f_forced f_checkLsn f_latest f_up f_broken f_fuse f_accepted f_found : Int32} {a_disk a_diskLsn a_logKind a_logSlot a_logRecord a_logValue a_logBefore a_logBack a_logNumber a_checkPage a_checkState a_checkUndo a_checkFirst a_checkNumber a_page a_lsn a_since a_held a_state a_undo a_first a_number a_effect a_locks a_lacking : Nat → Int32} {v1 p1 : Int32} (h5 : (v1 < 0 ∨ nI 4 ≤ v1) → post 5) (h1 : ∀ t, t < 4 → v1 = nI t → f_up = 0 → post 1)
    (h2 : ∀ t, t < 4 → v1 = nI t → f_up ≠ 0 → (a_state t = 0 ∨ (p1 ≠ 0 ∧ a_state t ≠ 1)) → post 2) (h0 : ∀ t, t < 4 → v1 = nI t → f_up ≠ 0 → a_state t ≠ 0 → (p1 = 0 ∨ a_state t = 1) → post 0) : wpX_missing post (f_logStart, f_logEnd, f_forced, f_checkLsn, f_latest, f_up, f_broken, f_fuse, f_accepted, f_found, a_disk, a_diskLsn, a_logKind, a_logSlot, a_logRecord, a_logValue, a_logBefore, a_logBack, a_logNumber, a_checkPage, a_checkState, a_checkUndo, a_checkFirst, a_checkNumber, a_page, a_lsn, a_since, a_held, a_state, a_undo, a_first, a_number, a_effect, a_locks, a_lacking) v1 p1 := by
  rcases pk_ix v1 (n := 4) (by omega) with h | h | ⟨t, ht, rfl⟩
  · exact br_f (rt_m4n (Or.inl h)) (h5 (Or.inl h))
  · exact br_f (rt_m4n (Or.inr h)) (h5 (Or.inr h))
  · have hin : vp_in (nI t) 4 := vp_in_nI ht (by omega)
    have hc : (nI t).toNatClampNeg = t := nI_clamp (by omega)
    refine br_t (rt_m4t ht) (br_c (fun z => h1 t ht rfl z) (fun z => ⟨hin, ?_⟩))
    rw [hc]
    refine br_c (fun y => h2 t ht rfl z (Or.inl y)) (fun y => br_c (fun x => h0 t ht rfl z y (Or.inl x)) (fun x => ⟨hin, br_c (fun w => h0 t ht rfl z y (Or.inr w)) (fun w => h2 t ht rfl z (Or.inr ⟨x, w⟩))⟩))
theorem rt_yending {post : Int32 → Prop} {f_numbered : Int64} {f_down f_seen : Int32} {b_row b_state b_count b_lock b_isWrite b_where b_what : Nat → Int32} {b_least : Nat → Int64} {v1 : Int32} (h5 : (v1 < 0 ∨ nI 4 ≤ v1) → post 5) (h1 : ∀ t, t < 4 → v1 = nI t → f_down ≠ 0 → post 1)
    (h2 : ∀ t, t < 4 → v1 = nI t → f_down = 0 → b_state t = 0 → post 2) (h0 : ∀ t, t < 4 → v1 = nI t → f_down = 0 → b_state t ≠ 0 → post 0) : wpY_ending post (f_numbered, f_down, f_seen, b_row, b_state, b_count, b_least, b_lock, b_isWrite, b_where, b_what) v1 := by
  unfold wpY_ending
  refine rt_among (N := 4) (by omega) v1 (fun z => br_t rfl (h5 z)) (fun t ht e => ?_)
  subst e
  have hin : vp_in (nI t) 4 := vp_in_nI ht (by omega)
  have hc : (nI t).toNatClampNeg = t := nI_clamp (by omega)
  refine br_f (by decide) (br_c (fun z => ⟨hin, ?_⟩) (fun z => h1 t ht rfl z))
  rw [hc]
  exact br_c (fun y => h2 t ht rfl z y) (fun y => h0 t ht rfl z y)
theorem rt_ixn {N : Nat} {t : Nat} (ht : t < N) (hN : N < 2 ^ 31) : ¬ (nI t < 0 ∨ nI N ≤ nI t) := by
  rintro (z | z)
  · exact nI_pos (by omega) z
  · exact nI_ge ht hN z
/-- the reference's test of a slot or a record -/
theorem rt_yam {post : Int32 → Prop} {u : SY} {N t : Nat} (hN : N < 2 ^ 31) (ht : t < N) (h : post 1) : wpY_among post u (nI t) (nI N) := rt_among hN _ (fun z => absurd z (rt_ixn ht hN)) (fun _ _ _ => h)
theorem rt_yam0 {post : Int32 → Prop} {u : SY} {N : Nat} {x : Int32} (hN : N < 2 ^ 31) (hx : x < 0 ∨ nI N ≤ x) (h : post 0) : wpY_among post u x (nI N) := rt_among hN _ (fun _ => h) (fun j hj e => absurd hx (by rw [e]; exact rt_ixn hj hN))
theorem rt_h10 : ¬ (1 : Int32) = 0 := by decide
theorem rt_h21 : ¬ (2 : Int32) = 1 := by decide
theorem rt_h20 : ¬ (2 : Int32) = 0 := by decide
theorem rt_h01 : ¬ (0 : Int32) = 1 := by decide
theorem rt_ychanges {post : Int32 → Prop} {f_numbered : Int64} {f_down f_seen : Int32} {b_row b_state b_count b_lock b_isWrite b_where b_what : Nat → Int32} {b_least : Nat → Int64} {v1 : Int32} (h5 : (v1 < 0 ∨ nI 4 ≤ v1) → post (-1)) (h1 : ∀ t, t < 4 → v1 = nI t → f_down ≠ 0 → post (-1))
    (h2 : ∀ t, t < 4 → v1 = nI t → f_down = 0 → b_state t = 0 → post (-1)) (h0 : ∀ t, t < 4 → v1 = nI t → f_down = 0 → b_state t ≠ 0 → post (b_count t)) : wpY_changes post (f_numbered, f_down, f_seen, b_row, b_state, b_count, b_least, b_lock, b_isWrite, b_where, b_what) v1 := by
  unfold wpY_changes
  refine rt_among (N := 4) (by omega) v1 (fun z => br_t rfl (h5 z)) (fun t ht e => ?_)
  subst e
  have hin : vp_in (nI t) 4 := vp_in_nI ht (by omega)
  have hc : (nI t).toNatClampNeg = t := nI_clamp (by omega)
  refine br_f rt_h10 (br_c (fun z => ⟨hin, ?_⟩) (fun z => h1 t ht rfl z))
  rw [hc]
  exact br_c (fun y => h2 t ht rfl z y) (fun y => ⟨hin, h0 t ht rfl z y⟩)
theorem rt_ystate {post : Int32 → Prop} {f_numbered : Int64} {f_down f_seen : Int32} {b_row b_state b_count b_lock b_isWrite b_where b_what : Nat → Int32} {b_least : Nat → Int64} {v1 : Int32} (h5 : (v1 < 0 ∨ nI 4 ≤ v1) → post 0) (h1 : ∀ t, t < 4 → v1 = nI t → f_down ≠ 0 → post 0)
    (h0 : ∀ t, t < 4 → v1 = nI t → f_down = 0 → post (b_state t)) : wpY_state post (f_numbered, f_down, f_seen, b_row, b_state, b_count, b_least, b_lock, b_isWrite, b_where, b_what) v1 := by
  unfold wpY_state
  refine rt_among (N := 4) (by omega) v1 (fun z => br_t rfl (h5 z)) (fun t ht e => ?_)
  subst e
  have hin : vp_in (nI t) 4 := vp_in_nI ht (by omega)
  have hc : (nI t).toNatClampNeg = t := nI_clamp (by omega)
  refine br_f rt_h10 (br_c (fun z => ⟨hin, ?_⟩) (fun z => h1 t ht rfl z))
  rw [hc]
  exact h0 t ht rfl z
theorem rt_ynow {post : Int32 → Prop} {f_numbered : Int64} {f_down f_seen : Int32} {b_row b_state b_count b_lock b_isWrite b_where b_what : Nat → Int32} {b_least : Nat → Int64} {v1 : Int32} (h5 : (v1 < 0 ∨ nI 12 ≤ v1) → post 0) (h1 : ∀ t, t < 12 → v1 = nI t → f_down ≠ 0 → post 0)
    (h0 : ∀ t, t < 12 → v1 = nI t → f_down = 0 → post (b_row t)) : wpY_now post (f_numbered, f_down, f_seen, b_row, b_state, b_count, b_least, b_lock, b_isWrite, b_where, b_what) v1 := by
  unfold wpY_now
  refine rt_among (N := 12) (by omega) v1 (fun z => br_t rfl (h5 z)) (fun t ht e => ?_)
  subst e
  have hin : vp_in (nI t) 12 := vp_in_nI ht (by omega)
  have hc : (nI t).toNatClampNeg = t := nI_clamp (by omega)
  refine br_f rt_h10 (br_c (fun z => ⟨hin, ?_⟩) (fun z => h1 t ht rfl z))
  rw [hc]
  exact h0 t ht rfl z
theorem rt_ysteal {post : Int32 → Prop} {f_numbered : Int64} {f_down f_seen : Int32} {b_row b_state b_count b_lock b_isWrite b_where b_what : Nat → Int32} {b_least : Nat → Int64} {v1 : Int32} (h5 : (v1 < 0 ∨ nI 3 ≤ v1) → post 0) (h1 : ∀ t, t < 3 → v1 = nI t → f_down ≠ 0 → post 0)
    (h0 : ∀ t, t < 3 → v1 = nI t → f_down = 0 → post 1) : wpY_steal post (f_numbered, f_down, f_seen, b_row, b_state, b_count, b_least, b_lock, b_isWrite, b_where, b_what) v1 := by
  unfold wpY_steal
  refine rt_among (N := 3) (by omega) v1 (fun z => br_t rfl (h5 z)) (fun t ht e => ?_)
  subst e
  exact br_f rt_h10 (br_c (fun z => h0 t ht rfl z) (fun z => h1 t ht rfl z))
theorem rt_inj {t t' N : Nat} (hN : N < 2 ^ 31) (ht : t < N) (ht' : t' < N) (h : nI t = nI t') : t' = t := ((nI_eq (by omega) (by omega)).mp h).symm
theorem i_vc_value {k : Nat} {u : SX} {v : SY} (I : i_Rel k u v) (hk : k + 4 ≤ 2048) : wpX_value (fun r => wpY_value (fun r' => r' = r ∧ i_Rel (k + 4) u v) v) u := by
  refine rt_el (P := fun u v => wpX_value (fun r => wpY_value (fun r' => r' = r ∧ i_Rel (k + 4) u v) v) u) I ?_ ?_
  · intros; rename_i h IH; exact ⟨rfl, IH⟩
  · intros; rename_i h IH; exact ⟨rfl, IH⟩
theorem i_vc_changes {k : Nat} {u : SX} {v : SY} (I : i_Rel k u v) (hk : k + 4 ≤ 2048) (v1 : Int32) : wpX_changes (fun r => wpY_changes (fun r' => r' = r ∧ i_Rel (k + 4) u v) v v1) u v1 := by
  refine rt_el (P := fun u v => wpX_changes (fun r => wpY_changes (fun r' => r' = r ∧ i_Rel (k + 4) u v) v v1) u v1) I ?_ ?_
  · intros; rename_i h IH
    unfold wpX_changes
    refine rt_xmiss (fun z => ?_) (fun t ht e z => absurd z rt_h10) (fun t ht e z y => ?_) (fun t ht e z y _ => ?_)
    · exact br_f (by decide) (rt_ychanges (fun _ => ⟨rfl, IH⟩) (fun _ _ _ w => absurd rfl w) (fun _ _ _ _ _ => ⟨rfl, IH⟩) (fun t ht e => absurd z (by rw [e]; exact rt_ixn ht (by omega))))
    · subst e
      have hTR := h.2.2.2.2.1 t ht
      have y0 := y.elim id (fun y => absurd rfl y.1)
      refine br_f (by decide) (rt_ychanges (fun z => absurd z (rt_ixn ht (by omega))) (fun _ _ _ w => absurd rfl w) (fun _ _ _ _ _ => ⟨rfl, IH⟩) (fun t' ht' e _ x => ?_))
      have e' := rt_inj (by omega) ht ht' e
      subst e'
      exact absurd (hTR.1.trans y0) x
    · subst e
      have hTR := h.2.2.2.2.1 t ht
      refine br_t rfl ⟨vp_in_nI ht (by omega), ?_⟩
      rw [nI_clamp (by omega)]
      refine rt_ychanges (fun z => absurd z (rt_ixn ht (by omega))) (fun _ _ _ w => absurd rfl w) (fun t' ht' e _ x => ?_) (fun t' ht' e _ x => ?_)
      · have e' := rt_inj (by omega) ht ht' e
        subst e'
        exact absurd (hTR.1.symm.trans x) y
      · have e' := rt_inj (by omega) ht ht' e
        subst e'
        exact ⟨by rw [hTR.2.1, (hTR.2.2.2.1 y).1], IH⟩
  · intros; rename_i h IH
    unfold wpX_changes
    refine rt_xmiss (fun z => ?_) (fun t ht e z => ?_) (fun t ht e z y => absurd rfl z) (fun t ht e z y _ => absurd rfl z)
    · exact br_f (by decide) (rt_ychanges (fun _ => ⟨rfl, IH⟩) (fun _ _ _ _ => ⟨rfl, IH⟩) (fun _ _ _ w => absurd w rt_h10) (fun _ _ _ w => absurd w rt_h10))
    · exact br_f (by decide) (rt_ychanges (fun _ => ⟨rfl, IH⟩) (fun _ _ _ _ => ⟨rfl, IH⟩) (fun _ _ _ w => absurd w rt_h10) (fun _ _ _ w => absurd w rt_h10))
theorem i_vc_state {k : Nat} {u : SX} {v : SY} (I : i_Rel k u v) (hk : k + 4 ≤ 2048) (v1 : Int32) : wpX_state (fun r => wpY_state (fun r' => r' = r ∧ i_Rel (k + 4) u v) v v1) u v1 := by
  refine rt_el (P := fun u v => wpX_state (fun r => wpY_state (fun r' => r' = r ∧ i_Rel (k + 4) u v) v v1) u v1) I ?_ ?_
  · intros; rename_i h IH
    unfold wpX_state
    refine rt_xmiss (fun z => ?_) (fun t ht e z => absurd z rt_h10) (fun t ht e z y => ?_) (fun t ht e z y _ => ?_)
    · exact br_f (by decide) (rt_ystate (fun _ => ⟨rfl, IH⟩) (fun _ _ _ w => absurd rfl w) (fun t ht e => absurd z (by rw [e]; exact rt_ixn ht (by omega))))
    · subst e
      have hTR := h.2.2.2.2.1 t ht
      have y0 := y.elim id (fun y => absurd rfl y.1)
      refine br_f (by decide) (rt_ystate (fun z => absurd z (rt_ixn ht (by omega))) (fun _ _ _ w => absurd rfl w) (fun t' ht' e _ => ?_))
      have e' := rt_inj (by omega) ht ht' e
      subst e'
      exact ⟨hTR.1.trans y0, IH⟩
    · subst e
      have hTR := h.2.2.2.2.1 t ht
      refine br_t rfl ⟨vp_in_nI ht (by omega), ?_⟩
      rw [nI_clamp (by omega)]
      refine rt_ystate (fun z => absurd z (rt_ixn ht (by omega))) (fun _ _ _ w => absurd rfl w) (fun t' ht' e _ => ?_)
      have e' := rt_inj (by omega) ht ht' e
      subst e'
      exact ⟨hTR.1, IH⟩
  · intros; rename_i h IH
    unfold wpX_state
    refine rt_xmiss (fun z => ?_) (fun t ht e z => ?_) (fun t ht e z y => absurd rfl z) (fun t ht e z y _ => absurd rfl z)
    · exact br_f (by decide) (rt_ystate (fun _ => ⟨rfl, IH⟩) (fun _ _ _ _ => ⟨rfl, IH⟩) (fun _ _ _ w => absurd w rt_h10))
    · exact br_f (by decide) (rt_ystate (fun _ => ⟨rfl, IH⟩) (fun _ _ _ _ => ⟨rfl, IH⟩) (fun _ _ _ w => absurd w rt_h10))
theorem i_vc_now {k : Nat} {u : SX} {v : SY} (I : i_Rel k u v) (hk : k + 4 ≤ 2048) (v1 : Int32) : wpX_now (fun r u' => wpY_now (fun r' => r' = r ∧ i_Rel (k + 4) u' v) v v1) u v1 := by
  refine rt_el (P := fun u v => wpX_now (fun r u' => wpY_now (fun r' => r' = r ∧ i_Rel (k + 4) u' v) v v1) u v1) I ?_ ?_
  · intros; rename_i h IH
    rcases pk_ix v1 (n := 12) (by omega) with z | z | ⟨r, hr, rfl⟩
    · exact br_t z (rt_ynow (fun _ => ⟨rfl, IH⟩) (fun _ _ _ w => absurd rfl w) (fun t ht e => absurd (Or.inl z) (by rw [e]; exact rt_ixn ht (by omega))))
    · refine br_f (fun y => nI_pos (n := 12) (by omega) (Int32.lt_of_le_of_lt z y)) (br_t (Int32.lt_of_lt_of_le (show (11 : Int32) < nI 12 by decide) z) ?_)
      exact rt_ynow (fun _ => ⟨rfl, IH⟩) (fun _ _ _ w => absurd rfl w) (fun t ht e => absurd (Or.inr z) (by rw [e]; exact rt_ixn ht (by omega)))
    · refine br_f (nI_pos (by omega)) (br_f (nI_nlt (b := r) (a := 11) (by omega) (by omega)) (br_f rt_h10 ?_))
      refine rt_valS h.2.2.2.1.1 hr h.1 ?_
      intro b f' d1 d2 d3 d4 d5 d6 hb hf hS
      refine rt_ynow (fun z => absurd z (rt_ixn hr (by omega))) (fun _ _ _ w => absurd rfl w) (fun t' ht' e _ => ?_)
      have e' := rt_inj (by omega) hr ht' e
      subst e'
      exact ⟨rfl, rt_inU (rt_UF_D h hf hb hS) rfl⟩
  · intros; rename_i h IH
    rcases pk_ix v1 (n := 12) (by omega) with z | z | ⟨r, hr, rfl⟩
    · exact br_t z (rt_ynow (fun _ => ⟨rfl, IH⟩) (fun _ _ _ _ => ⟨rfl, IH⟩) (fun _ _ _ w => absurd w rt_h10))
    · refine br_f (fun y => nI_pos (n := 12) (by omega) (Int32.lt_of_le_of_lt z y)) (br_t (Int32.lt_of_lt_of_le (show (11 : Int32) < nI 12 by decide) z) ?_)
      exact rt_ynow (fun _ => ⟨rfl, IH⟩) (fun _ _ _ _ => ⟨rfl, IH⟩) (fun _ _ _ w => absurd w rt_h10)
    · refine br_f (nI_pos (by omega)) (br_f (nI_nlt (b := r) (a := 11) (by omega) (by omega)) (br_t rfl ?_))
      exact rt_ynow (fun _ => ⟨rfl, IH⟩) (fun _ _ _ _ => ⟨rfl, IH⟩) (fun _ _ _ w => absurd w rt_h10)
theorem i_vc_checkpoint {k : Nat} {u : SX} {v : SY} (I : i_Rel k u v) (hk : k + 4 ≤ 2048) : wpX_checkpoint (fun r u' => wpY_checkpoint (fun r' => r' = r ∧ i_Rel (k + 4) u' v) v) u := by
  refine rt_el (P := fun u v => wpX_checkpoint (fun r u' => wpY_checkpoint (fun r' => r' = r ∧ i_Rel (k + 4) u' v) v) u) I ?_ ?_
  · intros; rename_i h IH
    refine br_f rt_h10 (rt_checkS h.1 h.2.1 ?_)
    intro s' d1 d2 d3 d4 d5 hfe hS
    exact br_t rfl ⟨rfl, rt_inU (rt_UF_D h hfe h.2.2.2.1.1 hS) rfl⟩
  · intros; rename_i h IH
    exact br_t rfl (br_f rt_h10 ⟨rfl, IH⟩)
theorem i_vc_steal {k : Nat} {u : SX} {v : SY} (I : i_Rel k u v) (hk : k + 4 ≤ 2048) (v1 : Int32) : wpX_steal (fun r u' => wpY_steal (fun r' => r' = r ∧ i_Rel (k + 4) u' v) v v1) u v1 := by
  refine rt_el (P := fun u v => wpX_steal (fun r u' => wpY_steal (fun r' => r' = r ∧ i_Rel (k + 4) u' v) v v1) u v1) I ?_ ?_
  · intros; rename_i h IH
    rcases pk_ix v1 (n := 3) (by omega) with z | z | ⟨p, hp, rfl⟩
    · exact br_t z (rt_ysteal (fun _ => ⟨rfl, IH⟩) (fun _ _ _ w => absurd rfl w) (fun t ht e => absurd (Or.inl z) (by rw [e]; exact rt_ixn ht (by omega))))
    · refine br_f (fun y => nI_pos (n := 3) (by omega) (Int32.lt_of_le_of_lt z y)) (br_t (Int32.lt_of_lt_of_le (show (2 : Int32) < nI 3 by decide) z) ?_)
      exact rt_ysteal (fun _ => ⟨rfl, IH⟩) (fun _ _ _ w => absurd rfl w) (fun t ht e => absurd (Or.inr z) (by rw [e]; exact rt_ixn ht (by omega)))
    · have hla := h.2.2.2.1.1
      have nz : ¬ (nI p < 0 ∨ nI 3 ≤ nI p) := rt_ixn hp (by omega)
      refine br_f (nI_pos (by omega)) (br_f (nI_nlt (b := p) (a := 2) (by omega) (by omega)) (br_f rt_h10 (br_c (fun _ => ?_) (fun _ => br_c (fun _ => ?_) (fun _ => ?_)))))
      · refine rt_wbS (b := 0) (by omega) h.1 ?_
        intro f' d1 d2 d3 hf hS
        refine br_c (fun _ => ?_) (fun _ => ?_)
        · refine rt_wbS (b := 1) (by omega) hS ?_
          intro f'' d4 d5 d6 hf' hS'
          exact rt_ysteal (fun z => absurd z nz) (fun _ _ _ w => absurd rfl w) (fun _ _ _ _ => ⟨rfl, rt_inU (rt_UF_D h (by omega) hla hS') rfl⟩)
        · exact rt_ysteal (fun z => absurd z nz) (fun _ _ _ w => absurd rfl w) (fun _ _ _ _ => ⟨rfl, rt_inU (rt_UF_D h hf hla hS) rfl⟩)
      · refine rt_wbS (b := 1) (by omega) h.1 ?_
        intro f' d1 d2 d3 hf hS
        exact rt_ysteal (fun z => absurd z nz) (fun _ _ _ w => absurd rfl w) (fun _ _ _ _ => ⟨rfl, rt_inU (rt_UF_D h hf hla hS) rfl⟩)
      · exact rt_ysteal (fun z => absurd z nz) (fun _ _ _ w => absurd rfl w) (fun _ _ _ _ => ⟨rfl, IH⟩)
  · intros; rename_i h IH
    rcases pk_ix v1 (n := 3) (by omega) with z | z | ⟨p, hp, rfl⟩
    · exact br_t z (rt_ysteal (fun _ => ⟨rfl, IH⟩) (fun _ _ _ _ => ⟨rfl, IH⟩) (fun _ _ _ w => absurd w rt_h10))
    · refine br_f (fun y => nI_pos (n := 3) (by omega) (Int32.lt_of_le_of_lt z y)) (br_t (Int32.lt_of_lt_of_le (show (2 : Int32) < nI 3 by decide) z) ?_)
      exact rt_ysteal (fun _ => ⟨rfl, IH⟩) (fun _ _ _ _ => ⟨rfl, IH⟩) (fun _ _ _ w => absurd w rt_h10)
    · refine br_f (nI_pos (by omega)) (br_f (nI_nlt (b := p) (a := 2) (by omega) (by omega)) (br_t rfl ?_))
      exact rt_ysteal (fun _ => ⟨rfl, IH⟩) (fun _ _ _ _ => ⟨rfl, IH⟩) (fun _ _ _ w => absurd w rt_h10)
end
section
/-! ## the constructors, begin, read -/
theorem i_vc0 : wpX_init (fun u => wpY_init (fun v => i_Rel 0 u v)) := by
  have h3 : ∀ p, p < 3 → vp_in (nI p) 3 := fun p hp => vp_in_nI hp (by omega)
  have h4 : ∀ p, p < 4 → vp_in (nI p) 4 := fun p hp => vp_in_nI hp (by omega)
  refine ⟨4, ?_⟩
  refine br_f (nI_ge (a := 0) (b := 3) (by omega) (by omega)) ⟨h3 0 (by omega), nm_r (e' := upd (fun _ => 0) 0 (-1)) rfl ⟨h3 0 (by omega), nm_r (e' := upd (fun _ => 0) 0 (-1)) rfl (nm_r (nI_1 0) ?_)⟩⟩
  refine br_f (nI_ge (a := 1) (b := 3) (by omega) (by omega)) ⟨h3 1 (by omega), nm_r (e' := upd (upd (fun _ => 0) 0 (-1)) 1 (-1)) rfl ⟨h3 1 (by omega), nm_r (e' := upd (upd (fun _ => 0) 0 (-1)) 1 (-1)) rfl (nm_r (nI_1 1) ?_)⟩⟩
  refine br_f (nI_ge (a := 2) (b := 3) (by omega) (by omega)) ⟨h3 2 (by omega), nm_r (e' := upd (upd (upd (fun _ => 0) 0 (-1)) 1 (-1)) 2 (-1)) rfl ⟨h3 2 (by omega), nm_r (e' := upd (upd (upd (fun _ => 0) 0 (-1)) 1 (-1)) 2 (-1)) rfl (nm_r (nI_1 2) ?_)⟩⟩
  refine br_t (nI_le (a := 3) (b := 3) (by omega) (by omega)) ⟨5, ?_⟩
  refine br_f (nI_ge (a := 0) (b := 4) (by omega) (by omega)) ⟨h4 0 (by omega), nm_r (e' := upd (fun _ => 0) 0 (-1)) rfl ⟨h4 0 (by omega), nm_r (e' := upd (fun _ => 0) 0 (-1)) rfl (nm_r (nI_1 0) ?_)⟩⟩
  refine br_f (nI_ge (a := 1) (b := 4) (by omega) (by omega)) ⟨h4 1 (by omega), nm_r (e' := upd (upd (fun _ => 0) 0 (-1)) 1 (-1)) rfl ⟨h4 1 (by omega), nm_r (e' := upd (upd (fun _ => 0) 0 (-1)) 1 (-1)) rfl (nm_r (nI_1 1) ?_)⟩⟩
  refine br_f (nI_ge (a := 2) (b := 4) (by omega) (by omega)) ⟨h4 2 (by omega), nm_r (e' := upd (upd (upd (fun _ => 0) 0 (-1)) 1 (-1)) 2 (-1)) rfl ⟨h4 2 (by omega), nm_r (e' := upd (upd (upd (fun _ => 0) 0 (-1)) 1 (-1)) 2 (-1)) rfl (nm_r (nI_1 2) ?_)⟩⟩
  refine br_f (nI_ge (a := 3) (b := 4) (by omega) (by omega)) ⟨h4 3 (by omega), nm_r (e' := upd (upd (upd (upd (fun _ => 0) 0 (-1)) 1 (-1)) 2 (-1)) 3 (-1)) rfl ⟨h4 3 (by omega), nm_r (e' := upd (upd (upd (upd (fun _ => 0) 0 (-1)) 1 (-1)) 2 (-1)) 3 (-1)) rfl (nm_r (nI_1 3) ?_)⟩⟩
  refine br_t (nI_le (a := 4) (b := 4) (by omega) (by omega)) (rt_lose ?_)
  intro p1 s1 t1 t2 t3 t4 t5 t6 hp ht
  have e3 : ∀ p, p < 3 → upd (upd (upd (fun _ => (0 : Int32)) 0 (-1)) 1 (-1)) 2 (-1) p = rt_e ((fun _ => 0) p) := by
    intro p hp
    have h : p = 0 ∨ p = 1 ∨ p = 2 := by omega
    rcases h with rfl | rfl | rfl <;> rfl
  have e4 : ∀ p, p < 4 → upd (upd (upd (upd (fun _ => (0 : Int32)) 0 (-1)) 1 (-1)) 2 (-1)) 3 (-1) p = -1 := by
    intro p hp
    have h : p = 0 ∨ p = 1 ∨ p = 2 ∨ p = 3 := by omega
    rcases h with rfl | rfl | rfl | rfl <;> rfl
  refine rt_inU (f_broken := 0) (f_fuse := 0) (f_found := 0) (a_lacking := fun _ => 0) (L := fun _ => (0, 0, 0, 0, 0, 0, 0)) (s := 0) (e := 0) (f := 0) (c := 0) (q := 0) (la := 0) ⟨?_, ?_, rt_CE_r, ⟨by omega, by omega, by omega⟩, ?_, ?_⟩ rfl
  · refine ⟨fun _ => 0, fun _ => 0, fun _ => 1, fun _ => 0, fun _ => 0, ⟨⟨e3, fun b hb => ⟨(hp b hb).1, rfl, (hp b hb).2⟩⟩, ⟨Nat.le_refl _, fun _ => rfl, fun p hp => ⟨Nat.le_refl _, fun _ _ => rfl⟩, fun b hb => ⟨Nat.zero_le _, fun _ => rfl, fun p z => by cases z⟩⟩, fun p hp j _ z => by omega, fun p hp => ⟨fun _ j _ z => by omega, fun z => absurd rfl z⟩⟩, e3, fun t ht => ⟨e4 t ht, e4 t ht, rfl, fun z => absurd rfl z, fun _ => Or.inl rfl⟩, fun t ht z => absurd rfl z, fun j _ z => by omega, fun n z => by omega, by omega, by omega, by omega, by omega, by omega, Nat.le_refl _, by omega⟩
  · intro t h
    obtain ⟨q1, q2, q3, q4, q5, q6⟩ := ht t h
    exact ⟨q2, q3, q4, fun z => absurd rfl z, fun _ => Or.inl q1⟩
  · intro t h
    obtain ⟨q1, q2, q3, q4, q5, q6⟩ := ht t h
    exact ⟨q1.symm, q5, fun _ => q6, fun z => absurd q1 z, fun z => (by cases z), fun c hc => (by cases hc)⟩
  · intro t u h1 h2 _ r hr z
    exact absurd ((ht t h1).2.2.2.2.2 r hr) z
/-- begin: the first free slot, or none -/
theorem rt_xbegin0 {post : Int32 → SX → Prop} {f_logStart f_logEnd f_forced f_checkLsn f_latest f_up f_broken f_fuse f_accepted f_found : Int32} {a_disk a_diskLsn a_logKind a_logSlot a_logRecord a_logValue a_logBefore a_logBack a_logNumber a_checkPage a_checkState a_checkUndo a_checkFirst a_checkNumber a_page a_lsn a_since a_held a_state a_undo a_first a_number a_effect a_locks a_lacking : Nat → Int32} (hs : ∀ t, t < 4 → a_state t ≠ 0) (H : post (-1) (f_logStart, f_logEnd, f_forced, f_checkLsn, f_latest, f_up, f_broken, f_fuse, f_accepted, f_found, a_disk, a_diskLsn, a_logKind, a_logSlot, a_logRecord, a_logValue, a_logBefore, a_logBack, a_logNumber, a_checkPage, a_checkState, a_checkUndo, a_checkFirst, a_checkNumber, a_page, a_lsn, a_since, a_held, a_state, a_undo, a_first, a_number, a_effect, a_locks, a_lacking)) : ∀ d i : Nat, i + d = 4 → wX_begin_11 post f_logStart f_logEnd f_forced f_checkLsn f_latest f_up f_broken f_fuse f_accepted f_found a_disk a_diskLsn a_logKind a_logSlot a_logRecord a_logValue a_logBefore a_logBack a_logNumber a_checkPage a_checkState a_checkUndo a_checkFirst a_checkNumber a_page a_lsn a_since a_held a_state a_undo a_first a_number a_effect a_locks a_lacking (d + 1) (nI i) := by
  intro d
  induction d with
  | zero =>
    intro i hi
    have e : i = 4 := by omega
    subst e
    exact br_t (nI_le (a := 4) (b := 4) (by omega) (by omega)) H
  | succ d ih =>
    intro i hi
    refine br_f (nI_ge (b := 4) (by omega) (by omega)) ⟨vp_in_nI (by omega) (by omega), ?_⟩
    rw [nI_clamp (by omega)]
    exact br_f (hs i (by omega)) (nm_r (nI_1 i) (ih (i + 1) (by omega)))
theorem rt_xbegin1 {post : Int32 → SX → Prop} {f_logStart f_logEnd f_forced f_checkLsn f_latest f_up f_broken f_fuse f_accepted f_found : Int32} {a_disk a_diskLsn a_logKind a_logSlot a_logRecord a_logValue a_logBefore a_logBack a_logNumber a_checkPage a_checkState a_checkUndo a_checkFirst a_checkNumber a_page a_lsn a_since a_held a_state a_undo a_first a_number a_effect a_locks a_lacking : Nat → Int32} {t : Nat} (ht : t < 4) (h0 : a_state t = 0) (hs : ∀ u, u < t → a_state u ≠ 0) (H : post (nI t) (f_logStart, f_logEnd, f_forced, f_checkLsn, f_latest, f_up, f_broken, f_fuse, f_accepted, f_found, a_disk, a_diskLsn, a_logKind, a_logSlot, a_logRecord, a_logValue, a_logBefore, a_logBack, a_logNumber, a_checkPage, a_checkState, a_checkUndo, a_checkFirst, a_checkNumber, a_page, a_lsn, a_since, a_held, upd a_state t 1, a_undo, a_first, a_number, a_effect, a_locks, a_lacking)) : ∀ d i : Nat, i + d = t → wX_begin_11 post f_logStart f_logEnd f_forced f_checkLsn f_latest f_up f_broken f_fuse f_accepted f_found a_disk a_diskLsn a_logKind a_logSlot a_logRecord a_logValue a_logBefore a_logBack a_logNumber a_checkPage a_checkState a_checkUndo a_checkFirst a_checkNumber a_page a_lsn a_since a_held a_state a_undo a_first a_number a_effect a_locks a_lacking (d + 1) (nI i) := by
  intro d
  induction d with
  | zero =>
    intro i hi
    have e : i = t := by omega
    subst e
    refine br_f (nI_ge (b := 4) (by omega) (by omega)) ⟨vp_in_nI (by omega) (by omega), ?_⟩
    rw [nI_clamp (by omega), rt_nb1]
    exact br_t h0 ⟨vp_in_nI (by omega) (by omega), nm_e H⟩
  | succ d ih =>
    intro i hi
    refine br_f (nI_ge (b := 4) (by omega) (by omega)) ⟨vp_in_nI (by omega) (by omega), ?_⟩
    rw [nI_clamp (by omega)]
    exact br_f (hs i (by omega)) (nm_r (nI_1 i) (ih (i + 1) (by omega)))
theorem rt_ybegin0 {post : Int32 → SY → Prop} {f_numbered : Int64} {f_down f_seen : Int32} {b_row b_state b_count b_lock b_isWrite b_where b_what : Nat → Int32} {b_least : Nat → Int64} (hs : ∀ t, t < 4 → b_state t ≠ 0) (H : post (-1) (f_numbered, f_down, f_seen, b_row, b_state, b_count, b_least, b_lock, b_isWrite, b_where, b_what)) : ∀ d i : Nat, i + d = 4 → wY_begin_11 post f_numbered f_down f_seen b_row b_state b_count b_least b_lock b_isWrite b_where b_what (d + 1) (nI i) := by
  intro d
  induction d with
  | zero =>
    intro i hi
    have e : i = 4 := by omega
    subst e
    exact br_t (nI_le (a := 4) (b := 4) (by omega) (by omega)) (br_t rfl H)
  | succ d ih =>
    intro i hi
    refine br_f (nI_ge (b := 4) (by omega) (by omega)) ⟨vp_in_nI (by omega) (by omega), ?_⟩
    rw [nI_clamp (by omega)]
    exact br_f (hs i (by omega)) (nm_r (nI_1 i) (ih (i + 1) (by omega)))
theorem rt_ybegin61 {post : Int32 → SY → Prop} {f_numbered : Int64} {f_down f_seen : Int32} {b_row b_state b_count b_isWrite b_where b_what : Nat → Int32} {b_least : Nat → Int64} {t : Nat} (ht : t < 4) : ∀ (d i : Nat) (lk : Nat → Int32), i + d = 12 → post (nI t) (f_numbered, f_down, f_seen, b_row, b_state, b_count, b_least, rt_zr lk t i, b_isWrite, b_where, b_what) → wY_begin_61 post (nI t) f_numbered f_down f_seen (d + 1) (nI i) b_row b_state b_count b_least lk b_isWrite b_where b_what := by
  intro d
  induction d with
  | zero =>
    intro i lk hi H
    have e : i = 12 := by omega
    subst e
    rw [rt_zr_12] at H
    exact br_t (nI_le (a := 12) (b := 12) (by omega) (by omega)) H
  | succ d ih =>
    intro i lk hi H
    refine br_f (nI_ge (b := 12) (by omega) (by omega)) ⟨?_, nm_r (e' := upd lk (12 * t + i) 0) ?_ (nm_r (nI_1 i) (ih (i + 1) _ (by omega) ?_))⟩
    · rw [rt_12']; exact vp_in_nI (by omega) (by omega)
    · rw [rt_12', nI_clamp (by omega)]
    · rw [rt_zr_s (by omega)]; exact H
theorem rt_ybegin1 {post : Int32 → SY → Prop} {f_numbered : Int64} {f_down f_seen : Int32} {b_row b_state b_count b_lock b_isWrite b_where b_what : Nat → Int32} {b_least : Nat → Int64} {t : Nat} (ht : t < 4) (h0 : b_state t = 0) (hs : ∀ u, u < t → b_state u ≠ 0) (H : post (nI t) (f_numbered, f_down, f_seen, b_row, upd b_state t 1, upd b_count t 0, vp_updL b_least t 0, rt_zr b_lock t 0, b_isWrite, b_where, b_what)) : ∀ d i : Nat, i + d = t → wY_begin_11 post f_numbered f_down f_seen b_row b_state b_count b_least b_lock b_isWrite b_where b_what (d + 1) (nI i) := by
  have hin : vp_in (nI t) 4 := vp_in_nI ht (by omega)
  have hc : (nI t).toNatClampNeg = t := nI_clamp (by omega)
  intro d
  induction d with
  | zero =>
    intro i hi
    have e : i = t := by omega
    subst e
    refine br_f (nI_ge (b := 4) (by omega) (by omega)) ⟨hin, ?_⟩
    rw [hc]
    refine br_t h0 ?_
    unfold wY_begin_31
    rw [hc]
    refine br_f (fun z => ?_) ⟨hin, nm_e ⟨hin, nm_e ⟨hin, nm_e ⟨13, rt_ybegin61 ht 12 0 _ (by omega) H⟩⟩⟩⟩
    have := (nI_eq (a := i) (b := 4) (by omega) (by omega)).mp z
    omega
  | succ d ih =>
    intro i hi
    refine br_f (nI_ge (b := 4) (by omega) (by omega)) ⟨vp_in_nI (by omega) (by omega), ?_⟩
    rw [nI_clamp (by omega)]
    exact br_f (hs i (by omega)) (nm_r (nI_1 i) (ih (i + 1) (by omega)))
theorem i_vc_begin {k : Nat} {u : SX} {v : SY} (I : i_Rel k u v) (hk : k + 4 ≤ 2048) : wpX_begin (fun r u' => wpY_begin (fun r' v' => r' = r ∧ i_Rel (k + 4) u' v') v) u := by
  refine rt_el (P := fun u v => wpX_begin (fun r u' => wpY_begin (fun r' v' => r' = r ∧ i_Rel (k + 4) u' v') v) u) I ?_ ?_
  · intro L s e f c q la f_broken f_fuse f_found
    intro a_disk a_diskLsn a_logKind a_logSlot a_logRecord a_logValue a_logBefore a_logBack a_logNumber a_checkPage a_checkState a_checkUndo a_checkFirst a_checkNumber a_page a_lsn a_since a_held a_state a_undo a_first a_number a_effect a_locks a_lacking b_state b_count b_least b_lock b_isWrite b_where b_what h IH
    obtain ⟨hS, hT, hCE, ⟨hla, he, hq⟩, hTR, hLK⟩ := h
    have hW := rt_wf (by obtain ⟨_, _, _, _, _, _, _, _, _, _, hL, _⟩ := hS; exact hL : rt_LV L e) e (Nat.le_refl _)
    by_cases hn : ∃ t, t < 4 ∧ a_state t = 0
    · obtain ⟨t, ⟨ht, h0⟩, hl⟩ := pk_least (fun t => t < 4 ∧ a_state t = 0) hn
      have hl' : ∀ u, u < t → a_state u ≠ 0 := fun u hu z => hl u hu ⟨by omega, z⟩
      have hfi := (rt_st1 hT hW ht).1 h0
      obtain ⟨hc0, hn0, hp0⟩ := (hW.1 t ht).2.2.1 hfi
      refine br_f rt_h10 ⟨t + 1, rt_xbegin1 ht h0 hl' ?_ t 0 (by omega)⟩
      refine br_t rfl ⟨t + 1, rt_ybegin1 ht ((hTR t ht).1.trans h0) (fun u hu => by rw [(hTR u (by omega)).1]; exact hl' u hu) ⟨rfl, ?_⟩ t 0 (by omega)⟩
      refine rt_inU (L := L) (e := e) ⟨hS, fun u hu => ?_, hCE, ⟨hla, by omega, by omega⟩, fun u hu => ?_, hLK⟩ rfl
      · obtain ⟨t1, t2, t3, t4, t5⟩ := hT u hu
        by_cases eu : u = t
        · subst eu
          exact ⟨t1, t2, t3, fun z => absurd hfi z, fun _ => Or.inr pk_us⟩
        · rw [pk_un eu]; exact ⟨t1, t2, t3, t4, t5⟩
      · obtain ⟨x1, x2, x3, x4, x5, x6⟩ := hTR u hu
        by_cases eu : u = t
        · subst eu
          refine ⟨by rw [pk_us, pk_us], x2, fun z => ?_, fun _ => ⟨?_, ?_, ?_, fun r hr => ?_⟩, x5, x6⟩
          · rw [pk_us] at z; exact absurd z rt_h10
          · rw [pk_us, hc0]; rfl
          · rw [pk_uLs, hn0]; rfl
          · rw [hc0]; trivial
          · rw [rt_zr_in hr]; exact (x3 h0 r hr).symm
        · refine ⟨by rw [pk_un eu, pk_un eu]; exact x1, x2, fun z => ?_, fun z => ?_, x5, x6⟩
          · rw [pk_un eu] at z; exact x3 z
          · rw [pk_un eu] at z
            obtain ⟨y1, y2, y3, y4⟩ := x4 z
            exact ⟨by rw [pk_un eu]; exact y1, by rw [pk_uLn eu]; exact y2, y3, fun r hr => by rw [rt_zr_out hr eu]; exact y4 r hr⟩
    · have hn' : ∀ t, t < 4 → a_state t ≠ 0 := fun t ht z => hn ⟨t, ht, z⟩
      refine br_f rt_h10 ⟨5, rt_xbegin0 hn' ?_ 4 0 (by omega)⟩
      exact br_t rfl ⟨5, rt_ybegin0 (fun u hu => by rw [(hTR u hu).1]; exact hn' u hu) ⟨rfl, IH⟩ 4 0 (by omega)⟩
  · intros; rename_i h IH
    exact br_t rfl (br_f rt_h10 ⟨rfl, IH⟩)
theorem rt_lock {post : SX → Prop} {f_logStart f_logEnd f_forced f_checkLsn f_latest f_up f_broken f_fuse f_accepted f_found : Int32} {a_disk a_diskLsn a_logKind a_logSlot a_logRecord a_logValue a_logBefore a_logBack a_logNumber a_checkPage a_checkState a_checkUndo a_checkFirst a_checkNumber a_page a_lsn a_since a_held a_state a_undo a_first a_number a_effect a_locks a_lacking : Nat → Int32} {t r : Nat} {mode : Int32} (hm : mode = 1 ∨ mode = 2 ∨ mode = 3) (ht : t < 4) (hr : r < 12) (H : post (f_logStart, f_logEnd, f_forced, f_checkLsn, f_latest, f_up, f_broken, f_fuse, f_accepted, f_found, a_disk, a_diskLsn, a_logKind, a_logSlot, a_logRecord, a_logValue, a_logBefore, a_logBack, a_logNumber, a_checkPage, a_checkState, a_checkUndo, a_checkFirst, a_checkNumber, a_page, a_lsn, a_since, a_held, a_state, a_undo, a_first, a_number, a_effect, upd a_locks (12 * t + r) (rt_wt (a_locks (12 * t + r)) mode), a_lacking)) : wpX_lock post (f_logStart, f_logEnd, f_forced, f_checkLsn, f_latest, f_up, f_broken, f_fuse, f_accepted, f_found, a_disk, a_diskLsn, a_logKind, a_logSlot, a_logRecord, a_logValue, a_logBefore, a_logBack, a_logNumber, a_checkPage, a_checkState, a_checkUndo, a_checkFirst, a_checkNumber, a_page, a_lsn, a_since, a_held, a_state, a_undo, a_first, a_number, a_effect, a_locks, a_lacking) (nI t) (nI r) mode := by
  unfold wpX_lock
  refine rt_xwanted ht hr ?_
  rw [rt_12, nI_clamp (by omega), rt_wt_nar hm]
  exact ⟨vp_in_nI (by omega) (by omega), nm_e H⟩
theorem rt_yread {post : Int32 → SY → Prop} {f_numbered : Int64} {f_down f_seen : Int32} {b_row b_state b_count b_lock b_isWrite b_where b_what : Nat → Int32} {b_least : Nat → Int64} {t r : Nat} (ht : t < 4) (hr : r < 12) (h0 : ∀ P : Int32 → Prop, P 0 → wpY_refusal P (f_numbered, f_down, f_seen, b_row, b_state, b_count, b_least, b_lock, b_isWrite, b_where, b_what) (nI t) (nI r) 1) (H : post 0 (f_numbered, f_down, b_row r, b_row, b_state, b_count, b_least, upd b_lock (12 * t + r) (rt_wt (b_lock (12 * t + r)) 1), b_isWrite, b_where, b_what)) : wpY_read post (f_numbered, f_down, f_seen, b_row, b_state, b_count, b_least, b_lock, b_isWrite, b_where, b_what) (nI t) (nI r) := by
  unfold wpY_read
  refine h0 _ (br_t rfl ?_)
  refine rt_ywanted ht hr ?_
  rw [rt_12', nI_clamp (by omega), nI_clamp (by omega)]
  exact ⟨vp_in_nI (by omega) (by omega), nm_e ⟨vp_in_nI hr (by omega), nm_e H⟩⟩
/-- a slot whose locks alone change, by a use of r in a mode by the open transaction t -/
theorem rt_TR_lock {L : Nat → rt_Rc} {n : Nat} {a : rt_AS} {a_state a_effect a_locks b_state b_count : Nat → Int32} {b_least : Nat → Int64} {b_lock b_isWrite b_where b_what : Nat → Int32} {t r u : Nat} {mode : Int32} (hW : rt_WF L n a)
    (ht : t < 4) (hr : r < 12) (hs : a_state t = 1) (hpr : rt_pr a t = false) (hu : u < 4) (h : rt_TR L a a_state a_effect a_locks b_state b_count b_least b_lock b_isWrite b_where b_what u) (hbl : b_lock (12 * t + r) = a_locks (12 * t + r)) :
    rt_TR L a a_state a_effect (upd a_locks (12 * t + r) (rt_wt (a_locks (12 * t + r)) mode)) b_state b_count b_least (upd b_lock (12 * t + r) (rt_wt (b_lock (12 * t + r)) mode)) b_isWrite b_where b_what u := by
  obtain ⟨x1, x2, x3, x4, x5, x6⟩ := h
  have hlc : ∀ c, c ∈ rt_ch a u → rt_rr (L c) < 12 := fun c hc => (rt_Cn_mem (hW.1 u hu).1 c hc).2.2.2.2
  refine ⟨x1, x2, fun z r' hr' => ?_, fun z => ?_, fun z r' hr' => ?_, fun c hc => rt_LC_up hr (hlc c hc) (x6 c hc)⟩
  · have e : u ≠ t := fun e => by subst e; rw [hs] at z; exact absurd z rt_h10
    rw [pk_un (by omega)]; exact x3 z r' hr'
  · obtain ⟨y1, y2, y3, y4⟩ := x4 z
    refine ⟨y1, y2, y3, fun r' hr' => ?_⟩
    by_cases e : 12 * u + r' = 12 * t + r
    · rw [e, pk_us, pk_us, hbl]
    · rw [pk_un e, pk_un e]; exact y4 r' hr'
  · have e : u ≠ t := fun e => by subst e; rw [hpr] at z; cases z
    rw [pk_un (by omega)]; exact x5 z r' hr'
theorem rt_refusalD {f_up : Int32} {f_down : Int32} (hup : f_up = 0) (hdn : f_down = 1) (v1 v2 mode : Int32) :
    ∃ r : Int32, r ≠ 0 ∧ (∀ {f_logStart f_logEnd f_forced f_checkLsn f_latest f_broken f_fuse f_accepted f_found : Int32} {a_disk a_diskLsn a_logKind a_logSlot a_logRecord a_logValue a_logBefore a_logBack a_logNumber a_checkPage a_checkState a_checkUndo a_checkFirst a_checkNumber a_page a_lsn a_since a_held a_state a_undo a_first a_number a_effect a_locks a_lacking : Nat → Int32} {post : Int32 → Prop}, post r → wpX_refusal post (f_logStart, f_logEnd, f_forced, f_checkLsn, f_latest, f_up, f_broken, f_fuse, f_accepted, f_found, a_disk, a_diskLsn, a_logKind, a_logSlot, a_logRecord, a_logValue, a_logBefore, a_logBack, a_logNumber, a_checkPage, a_checkState, a_checkUndo, a_checkFirst, a_checkNumber, a_page, a_lsn, a_since, a_held, a_state, a_undo, a_first, a_number, a_effect, a_locks, a_lacking) v1 v2 mode) ∧ (∀ {f_numbered : Int64} {f_seen : Int32} {b_row b_state b_count b_lock b_isWrite b_where b_what : Nat → Int32} {b_least : Nat → Int64} {post : Int32 → Prop}, post r → wpY_refusal post (f_numbered, f_down, f_seen, b_row, b_state, b_count, b_least, b_lock, b_isWrite, b_where, b_what) v1 v2 mode) := by
  have h11 : (11 : Int32).toInt = 11 := by decide
  rcases pk_ix v1 (n := 4) (by omega) with z | z | ⟨t, ht, rfl⟩
  · refine ⟨5, by decide, ?_, ?_⟩
    · intros; rename_i post hp
      exact br_f (rt_m4n (Or.inl z)) hp
    · intros; rename_i post hp
      unfold wpY_refusal
      exact rt_yam0 (N := 4) (by omega) (Or.inl z) (br_t rfl hp)
  · refine ⟨5, by decide, ?_, ?_⟩
    · intros; rename_i post hp
      exact br_f (rt_m4n (Or.inr z)) hp
    · intros; rename_i post hp
      unfold wpY_refusal
      exact rt_yam0 (N := 4) (by omega) (Or.inr z) (br_t rfl hp)
  · rcases pk_ix v2 (n := 12) (by omega) with z | z | ⟨r, hr, rfl⟩
    · refine ⟨5, by decide, ?_, ?_⟩
      · intros; rename_i post hp
        exact br_t (rt_m4t ht) (br_t z hp)
      · intros; rename_i post hp
        unfold wpY_refusal
        exact rt_yam (N := 4) (by omega) ht (br_f rt_h10 (rt_yam0 (N := 12) (by omega) (Or.inl z) (br_t rfl hp)))
    · refine ⟨5, by decide, ?_, ?_⟩
      · intros; rename_i post hp
        refine br_t (rt_m4t ht) (br_f (fun y => nI_pos (n := 12) (by omega) (Int32.lt_of_le_of_lt z y)) (br_f (fun y => ?_) hp))
        rw [Int32.le_iff_toInt_le, nI_toInt (by omega)] at z
        rw [Int32.le_iff_toInt_le] at y
        omega
      · intros; rename_i post hp
        unfold wpY_refusal
        exact rt_yam (N := 4) (by omega) ht (br_f rt_h10 (rt_yam0 (N := 12) (by omega) (Or.inr z) (br_t rfl hp)))
    · refine ⟨1, by decide, ?_, ?_⟩
      · intros; rename_i post hp
        exact br_t (rt_m4t ht) (br_f (nI_pos (by omega)) (br_t (nI_le (a := r) (b := 11) (by omega) (by omega)) (br_t hup hp)))
      · intros; rename_i post hp
        unfold wpY_refusal
        exact rt_yam (N := 4) (by omega) ht (br_f rt_h10 (rt_yam (N := 12) (by omega) hr (br_f rt_h10 (br_f (by rw [hdn]; exact rt_h10) hp))))
theorem i_vc_read {k : Nat} {u : SX} {v : SY} (I : i_Rel k u v) (hk : k + 4 ≤ 2048) (v1 : Int32) (v2 : Int32) : wpX_read (fun r u' => wpY_read (fun r' v' => r' = r ∧ i_Rel (k + 4) u' v') v v1 v2) u v1 v2 := by
  refine rt_el (P := fun u v => wpX_read (fun r u' => wpY_read (fun r' v' => r' = r ∧ i_Rel (k + 4) u' v') v v1 v2) u v1 v2) I ?_ ?_
  · intro L s e f c q la f_broken f_fuse f_found
    intro a_disk a_diskLsn a_logKind a_logSlot a_logRecord a_logValue a_logBefore a_logBack a_logNumber a_checkPage a_checkState a_checkUndo a_checkFirst a_checkNumber a_page a_lsn a_since a_held a_state a_undo a_first a_number a_effect a_locks a_lacking b_state b_count b_least b_lock b_isWrite b_where b_what h IH
    obtain ⟨hS, hT, hCE, ⟨hla, he, hq⟩, hTR, hLK⟩ := h
    have hW := rt_wf (by obtain ⟨_, _, _, _, _, _, _, _, _, _, hL, _⟩ := hS; exact hL : rt_LV L e) e (Nat.le_refl _)
    obtain ⟨r, hX, hY, hz⟩ := rt_refusal (f_logStart := nI s) (f_logEnd := nI e) (f_forced := nI f) (f_checkLsn := nI c) (f_latest := nI la) (f_broken := f_broken) (f_fuse := f_fuse) (f_accepted := nI q) (f_found := f_found) (a_disk := a_disk) (a_diskLsn := a_diskLsn) (a_logKind := a_logKind) (a_logSlot := a_logSlot) (a_logRecord := a_logRecord) (a_logValue := a_logValue) (a_logBefore := a_logBefore) (a_logBack := a_logBack) (a_logNumber := a_logNumber) (a_checkPage := a_checkPage) (a_checkState := a_checkState) (a_checkUndo := a_checkUndo) (a_checkFirst := a_checkFirst) (a_checkNumber := a_checkNumber) (a_page := a_page) (a_lsn := a_lsn) (a_since := a_since) (a_held := a_held) (a_undo := a_undo) (a_first := a_first) (a_number := a_number) (a_effect := a_effect) (a_lacking := a_lacking) (f_numbered := lN q) (f_seen := f_found) (b_row := rt_row (rt_A L e)) (b_count := b_count) (b_least := b_least) (b_isWrite := b_isWrite) (b_where := b_where) (b_what := b_what) rfl rfl (fun t ht => (hTR t ht).1) (fun t ht => (hTR t ht).2.2.1) (fun t ht z => ((hTR t ht).2.2.2.1 z).2.2.2) v1 v2 1
    by_cases hr : r = 0
    · obtain ⟨t, rr, ht, hrr, e1, e2, hs, hg⟩ := hz hr
      subst hr e1 e2
      have hpr := (rt_st1 hT hW ht).2.1 hs
      have hbl := ((hTR t ht).2.2.2.1 (by rw [hs]; exact rt_h10)).2.2.2 rr hrr
      unfold wpX_read
      refine hX _ (br_t rfl (rt_lock (Or.inl rfl) ht hrr ?_))
      refine rt_valS hla hrr hS ?_
      intro b f' d1 d2 d3 d4 d5 d6 hb hf hS'
      refine rt_yread ht hrr hY ⟨rfl, ?_⟩
      exact rt_inU (L := L) (e := e) ⟨hS', hT, rt_CE_le hCE hf, ⟨hb, by omega, by omega⟩, fun u hu => rt_TR_lock hW ht hrr hs hpr hu (hTR u hu) hbl, rt_LK_up hLK ht hrr hg⟩ rfl
    · unfold wpX_read
      refine hX _ (br_f hr ?_)
      unfold wpY_read
      exact hY _ (br_f hr ⟨rfl, IH⟩)
  · intros; rename_i h IH
    obtain ⟨r, hr, hX, hY⟩ := rt_refusalD (f_up := 0) (f_down := 1) rfl rfl v1 v2 1
    unfold wpX_read
    refine hX (br_f hr ?_)
    unfold wpY_read
    exact hY (br_f hr ⟨rfl, IH⟩)
end
section
/-! ## full, write, add -/
theorem rt_xfull22 {post : Int32 → Prop} {f_logStart f_logEnd f_forced f_checkLsn f_latest f_up f_broken f_fuse f_found : Int32} {a_disk a_diskLsn a_logKind a_logSlot a_logRecord a_logValue a_logBefore a_logBack a_logNumber a_checkPage a_checkState a_checkUndo a_checkFirst a_checkNumber a_page a_lsn a_since a_held a_state a_undo a_first a_number a_effect a_locks a_lacking : Nat → Int32} {q : Nat} {nu : Nat → Nat} (hq : q < 1073741824) (hnu : ∀ u, u < 4 → a_number u = nI (nu u) ∧ nu u ≤ q) : ∀ d i w : Nat, i + d = 4 → w ≤ q + 1 →
    ((q + 1 ≤ w + 30 ∧ ∀ u, u < 4 → i ≤ u → a_state u ≠ 0 → 0 < nu u → q + 1 ≤ nu u + 30) → post 0) →
    ((w + 30 < q + 1 ∨ ∃ u, u < 4 ∧ i ≤ u ∧ a_state u ≠ 0 ∧ 0 < nu u ∧ nu u + 30 < q + 1) → post 1) → wX_full_22 post f_logStart f_logEnd f_forced f_checkLsn f_latest f_up f_broken f_fuse (nI q) f_found a_disk a_diskLsn a_logKind a_logSlot a_logRecord a_logValue a_logBefore a_logBack a_logNumber a_checkPage a_checkState a_checkUndo a_checkFirst a_checkNumber a_page a_lsn a_since a_held a_state a_undo a_first a_number a_effect a_locks a_lacking (d + 1) (nI w) (nI i) := by
  intro d
  induction d with
  | zero =>
    intro i w hi hw h0 h1
    have e : i = 4 := by omega
    subst e
    refine br_t (nI_le (a := 4) (b := 4) (by omega) (by omega)) ?_
    refine pk_le (q + 1 - w) 30 (fun z => h0 ⟨by omega, fun u hu y => by omega⟩) (fun z => h1 (Or.inl (by omega))) ?_
    rw [nI_1, pk_sub hw]
  | succ d ih =>
    intro i w hi hw h0 h1
    have hin : vp_in (nI i) 4 := vp_in_nI (by omega) (by omega)
    obtain ⟨e1, e2⟩ := hnu i (by omega)
    refine br_f (nI_ge (b := 4) (by omega) (by omega)) ⟨hin, ?_⟩
    rw [nI_clamp (by omega), e1]
    have skip : (a_state i = 0 ∨ nu i = 0 ∨ w ≤ nu i) → wX_full_22 post f_logStart f_logEnd f_forced f_checkLsn f_latest f_up f_broken f_fuse (nI q) f_found a_disk a_diskLsn a_logKind a_logSlot a_logRecord a_logValue a_logBefore a_logBack a_logNumber a_checkPage a_checkState a_checkUndo a_checkFirst a_checkNumber a_page a_lsn a_since a_held a_state a_undo a_first a_number a_effect a_locks a_lacking (d + 1) (nI w) (nI (i + 1)) := by
      intro hz
      refine ih (i + 1) w (by omega) hw (fun ⟨y1, y2⟩ => h0 ⟨y1, fun u hu hiu hsu hnu' => ?_⟩) (fun y => h1 ?_)
      · by_cases eu : u = i
        · subst eu
          rcases hz with hz | hz | hz
          · exact absurd hz hsu
          · omega
          · omega
        · exact y2 u hu (by omega) hsu hnu'
      · rcases y with y | ⟨u, y1, y2, y3⟩
        · exact Or.inl y
        · exact Or.inr ⟨u, y1, by omega, y3⟩
    by_cases hs : a_state i = 0
    · exact br_t hs (nm_r (nI_1 i) (skip (Or.inl hs)))
    · refine br_f hs ⟨hin, pk_le (nu i) 0 (fun z => nm_r (nI_1 i) (skip (Or.inr (Or.inl (by omega))))) (fun z => ⟨hin, ?_⟩)⟩
      refine pk_le w (nu i) (fun y => nm_r (nI_1 i) (skip (Or.inr (Or.inr y)))) (fun y => ⟨hin, nm_e (nm_r (nI_1 i) ?_)⟩)
      refine ih (i + 1) (nu i) (by omega) (by omega) (fun ⟨y1, y2⟩ => h0 ⟨by omega, fun u hu hiu hsu hnu' => ?_⟩) (fun x => h1 ?_)
      · by_cases eu : u = i
        · subst eu; exact y1
        · exact y2 u hu (by omega) hsu hnu'
      · rcases x with x | ⟨u, y1, y2, y3⟩
        · exact Or.inr ⟨i, by omega, Nat.le_refl _, hs, z, x⟩
        · exact Or.inr ⟨u, y1, by omega, y3⟩
theorem rt_yfull15 {post : Int32 → Prop} {f_down f_seen : Int32} {b_row b_state b_count b_lock b_isWrite b_where b_what : Nat → Int32} {b_least : Nat → Int64} {q : Nat} {nu : Nat → Nat} (hq : q < 1073741824) (hnu : ∀ u, u < 4 → nu u ≤ q ∧ (b_state u ≠ 0 → b_least u = lN (nu u))) : ∀ d i : Nat, i + d = 4 →
    ((∀ u, u < 4 → i ≤ u → b_state u ≠ 0 → 0 < nu u → q + 1 ≤ nu u + 30) → post 0) →
    ((∃ u, u < 4 ∧ i ≤ u ∧ b_state u ≠ 0 ∧ 0 < nu u ∧ nu u + 30 < q + 1) → post 1) → wY_full_15 post (lN q) f_down f_seen b_row b_state b_count b_least b_lock b_isWrite b_where b_what (d + 1) (nI i) := by
  intro d
  induction d with
  | zero =>
    intro i hi h0 h1
    have e : i = 4 := by omega
    subst e
    exact br_t (nI_le (a := 4) (b := 4) (by omega) (by omega)) (h0 (fun u hu y => by omega))
  | succ d ih =>
    intro i hi h0 h1
    have hin : vp_in (nI i) 4 := vp_in_nI (by omega) (by omega)
    obtain ⟨e2, e1⟩ := hnu i (by omega)
    refine br_f (nI_ge (b := 4) (by omega) (by omega)) ⟨hin, ?_⟩
    rw [nI_clamp (by omega)]
    have skip : (b_state i = 0 ∨ nu i = 0 ∨ q + 1 ≤ nu i + 30) → wY_full_15 post (lN q) f_down f_seen b_row b_state b_count b_least b_lock b_isWrite b_where b_what (d + 1) (nI (i + 1)) := by
      intro hz
      refine ih (i + 1) (by omega) (fun y2 => h0 (fun u hu hiu hsu hnu' => ?_)) (fun ⟨u, y1, y2, y3⟩ => h1 ⟨u, y1, by omega, y3⟩)
      by_cases eu : u = i
      · subst eu
        rcases hz with hz | hz | hz
        · exact absurd hz hsu
        · omega
        · exact hz
      · exact y2 u hu (by omega) hsu hnu'
    by_cases hs : b_state i = 0
    · exact br_t hs (nm_r (nI_1 i) (skip (Or.inl hs)))
    · rw [e1 hs]
      refine br_f hs ⟨hin, ?_⟩
      have el0 : lN (nu i) ≤ 0 ↔ nu i ≤ 0 := lN_le (b := 0) (by omega) (by omega)
      have el1 : lN q + 1 - lN (nu i) ≤ 30 ↔ q + 1 - nu i ≤ 30 := by
        rw [lN_1, lN_sub (by omega)]; exact lN_le (b := 30) (by omega) (by omega)
      by_cases z : nu i ≤ 0
      · exact br_t (el0.mpr z) (nm_r (nI_1 i) (skip (Or.inr (Or.inl (by omega)))))
      · refine br_f (fun y => z (el0.mp y)) ⟨hin, ?_⟩
        by_cases y : q + 1 - nu i ≤ 30
        · exact br_t (el1.mpr y) (nm_r (nI_1 i) (skip (Or.inr (Or.inr (by omega)))))
        · exact br_f (fun x => y (el1.mp x)) (h1 ⟨i, by omega, Nat.le_refl _, hs, by omega, by omega⟩)
def rt_FL (len q : Nat) (nu : Nat → Nat) (st : Nat → Int32) : Prop := len = 10 ∨ ∃ u, u < 4 ∧ st u ≠ 0 ∧ 0 < nu u ∧ nu u + 30 < q + 1
theorem rt_xfull {post : Int32 → Prop} {f_logStart f_logEnd f_forced f_checkLsn f_latest f_up f_broken f_fuse f_found : Int32} {a_disk a_diskLsn a_logKind a_logSlot a_logRecord a_logValue a_logBefore a_logBack a_logNumber a_checkPage a_checkState a_checkUndo a_checkFirst a_checkNumber a_page a_lsn a_since a_held a_state a_undo a_first a_number a_effect a_locks a_lacking : Nat → Int32} {q t len : Nat} {nu : Nat → Nat} (hq : q < 1073741824) (ht : t < 4) (hnu : ∀ u, u < 4 → a_number u = nI (nu u) ∧ nu u ≤ q) (hl : len ≤ 10) (hef : a_effect t = nI len)
    (h0 : ¬ rt_FL len q nu a_state → post 0) (h1 : rt_FL len q nu a_state → post 1) : wpX_full post (f_logStart, f_logEnd, f_forced, f_checkLsn, f_latest, f_up, f_broken, f_fuse, (nI q), f_found, a_disk, a_diskLsn, a_logKind, a_logSlot, a_logRecord, a_logValue, a_logBefore, a_logBack, a_logNumber, a_checkPage, a_checkState, a_checkUndo, a_checkFirst, a_checkNumber, a_page, a_lsn, a_since, a_held, a_state, a_undo, a_first, a_number, a_effect, a_locks, a_lacking) (nI t) := by
  have hin : vp_in (nI t) 4 := vp_in_nI ht (by omega)
  unfold wpX_full
  dsimp only
  rw [nI_clamp (by omega), hef]
  refine ⟨hin, pk_eq len 10 (fun z => h1 (Or.inl z)) (fun z => nm_r (nI_1 q) ⟨5, rt_xfull22 hq hnu 4 0 (q + 1) (by omega) (by omega) (fun ⟨_, y⟩ => h0 (fun x => ?_)) (fun y => h1 ?_)⟩)⟩
  · rcases x with x | ⟨u, x1, x2, x3, x4⟩
    · exact z x
    · have := y u x1 (by omega) x2 x3; omega
  · rcases y with y | ⟨u, y1, _, y2⟩
    · omega
    · exact Or.inr ⟨u, y1, y2⟩
theorem rt_yfull {post : Int32 → Prop} {f_down f_seen : Int32} {b_row b_state b_count b_lock b_isWrite b_where b_what : Nat → Int32} {b_least : Nat → Int64} {q t len : Nat} {nu : Nat → Nat} (hq : q < 1073741824) (ht : t < 4) (hnu : ∀ u, u < 4 → nu u ≤ q ∧ (b_state u ≠ 0 → b_least u = lN (nu u))) (hl : len ≤ 10) (hef : b_count t = nI len)
    (h0 : ¬ rt_FL len q nu b_state → post 0) (h1 : rt_FL len q nu b_state → post 1) : wpY_full post ((lN q), f_down, f_seen, b_row, b_state, b_count, b_least, b_lock, b_isWrite, b_where, b_what) (nI t) := by
  have hin : vp_in (nI t) 4 := vp_in_nI ht (by omega)
  unfold wpY_full
  dsimp only
  rw [nI_clamp (by omega), hef]
  refine ⟨hin, pk_eq len 10 (fun z => h1 (Or.inl z)) (fun z => ⟨5, rt_yfull15 hq hnu 4 0 (by omega) (fun y => h0 (fun x => ?_)) (fun ⟨u, y1, _, y2⟩ => h1 (Or.inr ⟨u, y1, y2⟩))⟩)⟩
  rcases x with x | ⟨u, x1, x2, x3, x4⟩
  · exact z x
  · have := y u x1 (by omega) x2 x3; omega
theorem rt_SY_q {L : Nat → rt_Rc} {s e m f c q q' n : Nat} {a_disk a_diskLsn a_logKind a_logSlot a_logRecord a_logValue a_logBefore a_logBack a_logNumber a_checkPage a_checkState a_checkUndo a_checkFirst a_checkNumber a_page a_lsn a_since a_held : Nat → Int32} (h : rt_SY L s e m f c q n a_disk a_diskLsn a_logKind a_logSlot a_logRecord a_logValue a_logBefore a_logBack a_logNumber a_checkPage a_checkState a_checkUndo a_checkFirst a_checkNumber a_page a_lsn a_since a_held) (hq : q ≤ q') (hq' : q' < 1073741824) : rt_SY L s e m f c q' n a_disk a_diskLsn a_logKind a_logSlot a_logRecord a_logValue a_logBefore a_logBack a_logNumber a_checkPage a_checkState a_checkUndo a_checkFirst a_checkNumber a_page a_lsn a_since a_held := by
  obtain ⟨cp, pg, ls, si, dl, hB, hcp, hTc, hfc, hR, hL, z1, z2, z3, z4, z5, z6, z7⟩ := h
  exact ⟨cp, pg, ls, si, dl, hB, hcp, hTc, hfc, hR, hL, z1, z2, z3, z4, z5, by omega, hq'⟩
theorem rt_SY_L {L : Nat → rt_Rc} {s e m f c q n : Nat} {a_disk a_diskLsn a_logKind a_logSlot a_logRecord a_logValue a_logBefore a_logBack a_logNumber a_checkPage a_checkState a_checkUndo a_checkFirst a_checkNumber a_page a_lsn a_since a_held : Nat → Int32} (h : rt_SY L s e m f c q n a_disk a_diskLsn a_logKind a_logSlot a_logRecord a_logValue a_logBefore a_logBack a_logNumber a_checkPage a_checkState a_checkUndo a_checkFirst a_checkNumber a_page a_lsn a_since a_held) : rt_LV L e ∧ rt_ac (rt_A L e) ≤ q ∧ q < 1073741824 ∧ e < 1073741824 ∧ f ≤ e ∧ s ≤ c ∧ c ≤ f := by
  obtain ⟨cp, pg, ls, si, dl, hB, hcp, hTc, hfc, hR, hL, z1, z2, z3, z4, z5, z6, z7⟩ := h
  have := hB.2.1.1
  exact ⟨hL, z6, z7, z5, by omega, z1, z2⟩
theorem rt_TX_C {L : Nat → rt_Rc} {n : Nat} {a : rt_AS} {x : rt_Rc} {st un fi nu fi' nu' : Nat → Int32} (hW : rt_WF L n a) (h : rt_TX a st un fi nu) (ht : rt_rs x < 4) (hs : st (rt_rs x) = 1) (hp : rt_pr a (rt_rs x) = false)
    (hfi : fi' = if rt_fi a (rt_rs x) = 0 then upd fi (rt_rs x) (nI n) else fi) (hnu : nu' = if rt_nu a (rt_rs x) = 0 then upd nu (rt_rs x) (nI (rt_rn x)) else nu) : rt_TX (rt_apC n x a) st (upd un (rt_rs x) (nI n)) fi' nu' := by
  intro t ht
  obtain ⟨h1, h2, h3, h4, h5⟩ := h t ht
  by_cases e : t = rt_rs x
  · subst e
    rw [show rt_ch (rt_apC n x a) (rt_rs x) = n :: rt_ch a (rt_rs x) from rt_us, show rt_fi (rt_apC n x a) (rt_rs x) = (if rt_fi a (rt_rs x) = 0 then n + 1 else rt_fi a (rt_rs x)) from rt_us,
      show rt_nu (rt_apC n x a) (rt_rs x) = (if rt_nu a (rt_rs x) = 0 then rt_rn x else rt_nu a (rt_rs x)) from rt_us, show rt_pr (rt_apC n x a) (rt_rs x) = false from hp, hs]
    refine ⟨pk_us, ?_, ?_, fun _ => rfl, fun _ => Or.inr rfl⟩
    · rw [hfi]
      split
      · rw [pk_us]; rfl
      · exact h2
    · rw [hnu]
      split
      · rw [pk_us]
      · exact h3
  · rw [show rt_ch (rt_apC n x a) t = rt_ch a t from rt_uo e, show rt_fi (rt_apC n x a) t = rt_fi a t from rt_uo e, show rt_nu (rt_apC n x a) t = rt_nu a t from rt_uo e, show rt_pr (rt_apC n x a) t = rt_pr a t from rfl, pk_un e]
    refine ⟨h1, ?_, ?_, h4, h5⟩
    · rw [hfi]
      split
      · rw [pk_un e]; exact h2
      · exact h2
    · rw [hnu]
      split
      · rw [pk_un e]; exact h3
      · exact h3
theorem rt_xchange {post : Int32 → SX → Prop} {f_up f_broken f_fuse f_found : Int32} {a_disk a_diskLsn a_logKind a_logSlot a_logRecord a_logValue a_logBefore a_logBack a_logNumber a_checkPage a_checkState a_checkUndo a_checkFirst a_checkNumber a_page a_lsn a_since a_held a_state a_undo a_first a_number a_effect a_locks a_lacking : Nat → Int32} {L : Nat → rt_Rc} {s e f c q la t r κ len : Nat} {mode v : Int32} (hla : la < 2) (hS : rt_SY L s e e f c q e a_disk a_diskLsn a_logKind a_logSlot a_logRecord a_logValue a_logBefore a_logBack a_logNumber a_checkPage a_checkState a_checkUndo a_checkFirst a_checkNumber a_page a_lsn a_since a_held) (hT : rt_TX (rt_A L e) a_state a_undo a_first a_number)
    (ht : t < 4) (hr : r < 12) (hm : mode = 1 ∨ mode = 2 ∨ mode = 3) (hs : a_state t = 1) (he : e + 1 < 1073741824) (hq : q + 1 < 1073741824) (hlen : len < 10) (hef : a_effect t = nI len)
    (h0 : ∀ P : Int32 → Prop, P 0 → wpX_refusal P ((nI s), (nI e), (nI f), (nI c), (nI la), f_up, f_broken, f_fuse, (nI q), f_found, a_disk, a_diskLsn, a_logKind, a_logSlot, a_logRecord, a_logValue, a_logBefore, a_logBack, a_logNumber, a_checkPage, a_checkState, a_checkUndo, a_checkFirst, a_checkNumber, a_page, a_lsn, a_since, a_held, a_state, a_undo, a_first, a_number, a_effect, a_locks, a_lacking) (nI t) (nI r) mode) (h1 : ∀ P : Int32 → Prop, P 0 → wpX_full P ((nI s), (nI e), (nI f), (nI c), (nI la), f_up, f_broken, f_fuse, (nI q), f_found, a_disk, a_diskLsn, a_logKind, a_logSlot, a_logRecord, a_logValue, a_logBefore, a_logBack, a_logNumber, a_checkPage, a_checkState, a_checkUndo, a_checkFirst, a_checkNumber, a_page, a_lsn, a_since, a_held, a_state, a_undo, a_first, a_number, a_effect, a_locks, a_lacking) (nI t))
    (hv : rt_VC L (rt_A L e) (κ, t, r, v, rt_row (rt_A L e) r, rt_hd (rt_ch (rt_A L e) t), q + 1))
    (H : ∀ s' f' c' b a_disk' a_diskLsn' a_logKind' a_logSlot' a_logRecord' a_logValue' a_logBefore' a_logBack' a_logNumber' a_checkPage' a_checkState' a_checkUndo' a_checkFirst' a_checkNumber' a_page' a_lsn' a_since' a_held' a_first' a_number', b < 2 → f ≤ f' →
      rt_SY (rt_u L e (κ, t, r, v, rt_row (rt_A L e) r, rt_hd (rt_ch (rt_A L e) t), q + 1)) s' (e + 1) (e + 1) f' c' (q + 1) (e + 1) a_disk' a_diskLsn' a_logKind' a_logSlot' a_logRecord' a_logValue' a_logBefore' a_logBack' a_logNumber' a_checkPage' a_checkState' a_checkUndo' a_checkFirst' a_checkNumber' a_page' a_lsn' a_since' a_held' →
      rt_TX (rt_A (rt_u L e (κ, t, r, v, rt_row (rt_A L e) r, rt_hd (rt_ch (rt_A L e) t), q + 1)) (e + 1)) a_state (upd a_undo t (nI e)) a_first' a_number' →
      post 0 (nI s', nI (e + 1), nI f', nI c', nI b, f_up, f_broken, f_fuse, nI (q + 1), f_found, a_disk', a_diskLsn', a_logKind', a_logSlot', a_logRecord', a_logValue', a_logBefore', a_logBack', a_logNumber', a_checkPage', a_checkState', a_checkUndo', a_checkFirst', a_checkNumber', a_page', a_lsn', a_since', a_held', a_state, upd a_undo t (nI e), a_first', a_number', upd a_effect t (nI (len + 1)), upd a_locks (12 * t + r) (rt_wt (a_locks (12 * t + r)) mode), a_lacking)) :
    wX_change_10 post (nI κ) (nI t) (nI r) v mode (nI s) (nI e) (nI f) (nI c) (nI la) f_up f_broken f_fuse (nI q) f_found a_disk a_diskLsn a_logKind a_logSlot a_logRecord a_logValue a_logBefore a_logBack a_logNumber a_checkPage a_checkState a_checkUndo a_checkFirst a_checkNumber a_page a_lsn a_since a_held a_state a_undo a_first a_number a_effect a_locks a_lacking := by
  have hin : vp_in (nI t) 4 := vp_in_nI ht (by omega)
  have hc : (nI t).toNatClampNeg = t := nI_clamp (by omega)
  have hL := rt_SY_L hS
  have hW := rt_wf hL.1 e (Nat.le_refl _)
  obtain ⟨t1, t2, t3, t4, t5⟩ := hT t ht
  have hpr : rt_pr (rt_A L e) t = false := hv.2.2.2.1
  have hκ : κ = 1 ∨ κ = 2 := hv.1
  have hfi : rt_fi (rt_A L e) t ≤ e := by
    by_cases z : rt_fi (rt_A L e) t = 0
    · omega
    · exact (rt_win hL.1 ht z).1
  have hnu : rt_nu (rt_A L e) t < 1073741824 := by
    by_cases z : rt_fi (rt_A L e) t = 0
    · rw [((hW.1 t ht).2.2.1 z).2.1]; omega
    · have := ((hW.1 t ht).2.2.2 z).2.2.1; omega
  unfold wX_change_10
  refine h0 _ (br_t rfl (h1 _ (br_t rfl (rt_lock hm ht hr (nm_r (nI_1 q) ?_)))))
  refine rt_valS hla hr (rt_SY_q hS (q' := q + 1) (by omega) hq) ?_
  intro b1 f1 d1 d2 d3 d4 d5 d6 hb1 hf1 hS1
  dsimp only
  rw [hc, t1]
  refine ⟨hin, ?_⟩
  refine rt_log (x := (κ, t, r, v, rt_row (rt_A L e) r, rt_hd (rt_ch (rt_A L e) t), q + 1)) (show κ < 16 by omega) (show r < 16 by omega) rfl rfl he hS1 hT (Or.inl hv) ht ?_
  intro s2 f2 c2 g1 g2 g3 g4 g5 g6 g7 g8 g9 g10 g11 g12 g13 g14 g15 hf2 hS2
  dsimp only
  refine ⟨hin, nm_e ⟨hin, ?_⟩⟩
  have fin : ∀ fi' nu', (fi' = if rt_fi (rt_A L e) t = 0 then upd a_first t (nI e) else a_first) → (nu' = if rt_nu (rt_A L e) t = 0 then upd a_number t (nI (q + 1)) else a_number) →
      wX_change_129 post (nI t) (nI e) (nI s2) (nI (e + 1)) (nI f2) (nI c2) (nI b1) f_up f_broken f_fuse (nI (q + 1)) f_found g1 g2 g3 g4 g5 g6 g7 g8 g9 g10 g11 g12 g13 g14 d3 d4 g15 d6 a_state (upd a_undo t (nI e)) fi' nu' a_effect (upd a_locks (12 * t + r) (rt_wt (a_locks (12 * t + r)) mode)) a_lacking := by
    intro fi' nu' hfi' hnu'
    unfold wX_change_129
    rw [hc, hef, nI_1, rt_nb8 (by omega)]
    refine ⟨hin, hin, nm_e ?_⟩
    refine rt_pfS hb1 hS2 (by rw [rt_us]; exact hκ.elim Or.inl (fun z => Or.inr (Or.inl z))) (by rw [rt_us]; exact hr) ?_
    intro b3 f3 k1 k2 k3 k4 k5 k6 hb3 hf3 hS3
    refine H s2 f3 c2 b3 _ _ _ _ _ _ _ _ _ _ _ _ _ _ _ _ _ _ fi' nu' hb3 (by omega) hS3 ?_
    rw [rt_A_ap, rt_ap_C hv.1]
    exact rt_TX_C (x := (κ, t, r, v, rt_row (rt_A L e) r, rt_hd (rt_ch (rt_A L e) t), q + 1)) hW hT ht hs hpr hfi' hnu'
  have f110 : ∀ fi', (fi' = if rt_fi (rt_A L e) t = 0 then upd a_first t (nI e) else a_first) →
      wX_change_110 post (nI t) (nI e) (nI s2) (nI (e + 1)) (nI f2) (nI c2) (nI b1) f_up f_broken f_fuse (nI (q + 1)) f_found g1 g2 g3 g4 g5 g6 g7 g8 g9 g10 g11 g12 g13 g14 d3 d4 g15 d6 a_state (upd a_undo t (nI e)) fi' a_number a_effect (upd a_locks (12 * t + r) (rt_wt (a_locks (12 * t + r)) mode)) a_lacking := by
    intro fi' hfi'
    unfold wX_change_110
    rw [hc]
    refine ⟨hin, ?_⟩
    refine pk_eq (rt_nu (rt_A L e) t) 0 (fun z => ⟨hin, nm_e (fin fi' _ hfi' (by rw [if_pos z]))⟩) (fun z => fin fi' _ hfi' (by rw [if_neg z])) t3
  refine rt_beq (rt_fi (rt_A L e) t) 0 t2 rfl (by omega) (by omega) (fun z => ⟨hin, nm_e (f110 _ (by rw [if_pos z]))⟩) (fun z => f110 _ (by rw [if_neg z]))
theorem rt_ychange {post : Int32 → SY → Prop} {f_down f_seen : Int32} {b_row b_state b_count b_lock b_isWrite b_where b_what : Nat → Int32} {b_least : Nat → Int64} {q t r κ len nu : Nat} {mode v w : Int32} (ht : t < 4) (hr : r < 12) (hκ : (κ = 1 ∧ w = 1 ∧ mode = 3) ∨ (κ = 2 ∧ w = 0 ∧ mode = 2)) (hq : q < 1073741824) (hlen : len < 10) (hcn : b_count t = nI len) (hle : b_least t = lN nu) (hnu : nu < 1073741824)
    (h0 : ∀ P : Int32 → Prop, P 0 → wpY_refusal P ((lN q), f_down, f_seen, b_row, b_state, b_count, b_least, b_lock, b_isWrite, b_where, b_what) (nI t) (nI r) mode) (h1 : ∀ P : Int32 → Prop, P 0 → wpY_full P ((lN q), f_down, f_seen, b_row, b_state, b_count, b_least, b_lock, b_isWrite, b_where, b_what) (nI t))
    (H : ∀ b_least', b_least' t = lN (if nu = 0 then q + 1 else nu) → (∀ u, u ≠ t → b_least' u = b_least u) →
      post 0 (lN (q + 1), f_down, f_seen, (if κ = 1 then upd b_row r v else upd b_row r (b_row r + v)), b_state, upd b_count t (nI (len + 1)), b_least', upd b_lock (12 * t + r) (rt_wt (b_lock (12 * t + r)) mode), upd b_isWrite (10 * t + len) w, upd b_where (10 * t + len) (nI r), upd b_what (10 * t + len) (if κ = 1 then b_row r else v))) :
    wY_change_13 post (nI t) (nI r) v w mode (nI r) (nI t) (lN q) f_down f_seen b_row b_state b_count b_least b_lock b_isWrite b_where b_what := by
  have hin : vp_in (nI t) 4 := vp_in_nI ht (by omega)
  have hc : (nI t).toNatClampNeg = t := nI_clamp (by omega)
  have hin12 : vp_in (nI r) 12 := vp_in_nI hr (by omega)
  have hcr : (nI r).toNatClampNeg = r := nI_clamp (by omega)
  have hin40 : vp_in (nI (10 * t + len)) 40 := vp_in_nI (by omega) (by omega)
  have hc40 : (nI (10 * t + len)).toNatClampNeg = 10 * t + len := nI_clamp (by omega)
  have fin : ∀ b_least' b_lock', b_lock' = upd b_lock (12 * t + r) (rt_wt (b_lock (12 * t + r)) mode) → b_least' t = lN (if nu = 0 then q + 1 else nu) → (∀ u, u ≠ t → b_least' u = b_least u) → wY_change_94 post (nI t) (nI r) v w (lN (q + 1)) f_down f_seen b_row b_state b_count b_least' b_lock' b_isWrite b_where b_what := by
    intro b_least' b_lock' hlk hl1 hl2
    subst hlk
    unfold wY_change_94
    rw [hc, hcn, rt_10', nI_1]
    refine ⟨hin, nm_e ⟨hin, hin, nm_e ⟨hin40, ?_⟩⟩⟩
    rw [hc40, hcr]
    rcases hκ with ⟨k1, k2, k3⟩ | ⟨k1, k2, k3⟩
    · subst k1 k2 k3
      refine nm_r (e' := upd b_isWrite (10 * t + len) 1) rfl ⟨hin40, nm_e (br_f rt_h10 ⟨hin12, ?_⟩)⟩
      unfold wY_change_155
      rw [hc40, hcr]
      exact ⟨hin40, nm_e (br_f rt_h10 ⟨hin12, nm_e (H b_least' hl1 hl2)⟩)⟩
    · subst k1 k2 k3
      refine nm_r (e' := upd b_isWrite (10 * t + len) 0) rfl ⟨hin40, nm_e (br_t rfl ?_)⟩
      unfold wY_change_155
      rw [hc40, hcr]
      exact ⟨hin40, nm_e (br_t rfl ⟨hin12, hin12, nm_e (H b_least' hl1 hl2)⟩)⟩
  have f59 : wY_change_59 post (nI t) (nI r) v w mode (nI r) (nI t) (nI (12 * t + r)) (lN q) f_down f_seen b_row b_state b_count b_least b_lock b_isWrite b_where b_what := by
    unfold wY_change_59
    refine rt_ywanted ht hr ?_
    rw [nI_clamp (show 12 * t + r < 2 ^ 31 by omega), hc, lN_1, hle]
    refine ⟨vp_in_nI (by omega) (by omega), nm_e (nm_e ⟨hin, ?_⟩)⟩
    have e0 : lN nu = 0 ↔ nu = 0 := lN_eq (b := 0) (by omega) (by omega)
    by_cases z : nu = 0
    · refine br_t (e0.mpr z) ⟨hin, nm_e (fin _ _ rfl ?_ (fun u hu => pk_uLn hu))⟩
      rw [pk_uLs, if_pos z]
    · refine br_f (fun y => z (e0.mp y)) (fin _ _ rfl ?_ (fun u hu => rfl))
      rw [if_neg z]; exact hle
  unfold wY_change_13
  refine h0 _ (br_t rfl (h1 _ (br_t rfl ?_)))
  rw [rt_12']
  rcases hκ with ⟨k1, k2, k3⟩ | ⟨k1, k2, k3⟩
  · rw [k2, k3] at f59
    rw [k2]
    exact br_f rt_h10 f59
  · rw [k2, k3] at f59
    rw [k2]
    exact br_t rfl f59
end
section
/-! ## write and add: the relation -/
theorem rt_TR_C {L : Nat → rt_Rc} {n : Nat} {a : rt_AS} {x : rt_Rc} {a_state a_effect a_locks b_state b_count : Nat → Int32} {b_least b_least' : Nat → Int64} {b_lock b_isWrite b_where b_what : Nat → Int32} {u len : Nat} (hW : rt_WF L n a)
    (v : rt_VC L a x) (hlen : (rt_ch a (rt_rs x)).length = len) (hs : a_state (rt_rs x) = 1) (hu : u < 4)
    (h : rt_TR L a a_state a_effect a_locks b_state b_count b_least b_lock b_isWrite b_where b_what u)
    (hlk : a_locks (12 * rt_rs x + rt_rr x) = 3 ∨ (rt_rk x = 2 ∧ a_locks (12 * rt_rs x + rt_rr x) = 2))
    (hl1 : b_least' (rt_rs x) = lN (if rt_nu a (rt_rs x) = 0 then rt_rn x else rt_nu a (rt_rs x))) (hl2 : ∀ u, u ≠ rt_rs x → b_least' u = b_least u) :
    rt_TR (rt_u L n x) (rt_apC n x a) a_state (upd a_effect (rt_rs x) (nI (len + 1))) a_locks b_state (upd b_count (rt_rs x) (nI (len + 1))) b_least' b_lock
      (upd b_isWrite (10 * rt_rs x + len) (if rt_rk x = 1 then 1 else 0)) (upd b_where (10 * rt_rs x + len) (nI (rt_rr x))) (upd b_what (10 * rt_rs x + len) (if rt_rk x = 1 then rt_rb x else rt_rv x)) u := by
  obtain ⟨hk, ht, hr, hp, hl10, _⟩ := v
  obtain ⟨x1, x2, x3, x4, x5, x6⟩ := h
  have cg : ∀ c, c ∈ rt_ch a u → rt_u L n x c = L c := fun c hc => rt_uo (by have := (rt_Cn_mem (hW.1 u hu).1 c hc).1; omega)
  have hlu := (hW.1 u hu).2.1
  by_cases e : u = rt_rs x
  · subst e
    have ech : rt_ch (rt_apC n x a) (rt_rs x) = n :: rt_ch a (rt_rs x) := rt_us
    obtain ⟨y1, y2, y3, y4⟩ := x4 (by rw [hs]; exact rt_h10)
    unfold rt_TR
    rw [ech, show rt_pr (rt_apC n x a) (rt_rs x) = false from hp, show rt_nu (rt_apC n x a) (rt_rs x) = (if rt_nu a (rt_rs x) = 0 then rt_rn x else rt_nu a (rt_rs x)) from rt_us, List.length_cons, hlen, pk_us, pk_us]
    refine ⟨x1, rfl, x3, fun _ => ⟨rfl, hl1, ⟨?_, ?_⟩, y4⟩, fun z => (by cases z), fun c hc => ?_⟩
    · rw [hlen, pk_us, pk_us, pk_us, rt_us]
      exact ⟨rfl, rfl, rfl⟩
    · refine rt_RE_cg y3 cg (fun j hj => ?_)
      rw [pk_un (by omega), pk_un (by omega), pk_un (by omega)]
      exact ⟨rfl, rfl, rfl⟩
    · cases hc with
      | head => rw [rt_us]; exact hlk
      | tail _ hm => rw [cg c hm]; exact x6 c hm
  · unfold rt_TR
    rw [show rt_ch (rt_apC n x a) u = rt_ch a u from rt_uo e, show rt_pr (rt_apC n x a) u = rt_pr a u from rfl, show rt_nu (rt_apC n x a) u = rt_nu a u from rt_uo e, pk_un e, pk_un e]
    refine ⟨x1, x2, x3, fun z => ?_, fun z r' hr' => ?_, fun c hc => ?_⟩
    · obtain ⟨y1, y2, y3, y4⟩ := x4 z
      refine ⟨y1, (hl2 u e).trans y2, rt_RE_cg y3 cg (fun j hj => ?_), y4⟩
      rw [pk_un (by omega), pk_un (by omega), pk_un (by omega)]
      exact ⟨rfl, rfl, rfl⟩
    · rw [rt_ak_cg cg]; exact x5 z r' hr'
    · rw [cg c hc]; exact x6 c hc
theorem rt_nu_le {L : Nat → rt_Rc} {n t q : Nat} {a : rt_AS} (hW : rt_WF L n a) (ht : t < 4) (hq : rt_ac a ≤ q) : rt_nu a t ≤ q := by
  by_cases z : rt_fi a t = 0
  · rw [((hW.1 t ht).2.2.1 z).2.1]; omega
  · have := ((hW.1 t ht).2.2.2 z).2.2.1; omega
theorem rt_chgU {k : Nat} {L : Nat → rt_Rc} {s e f c q la : Nat} {f_broken f_fuse f_found : Int32} {a_disk a_diskLsn a_logKind a_logSlot a_logRecord a_logValue a_logBefore a_logBack a_logNumber a_checkPage a_checkState a_checkUndo a_checkFirst a_checkNumber a_page a_lsn a_since a_held a_state a_undo a_first a_number a_effect a_locks a_lacking : Nat → Int32} {b_state b_count b_lock b_isWrite b_where b_what : Nat → Int32} {b_least : Nat → Int64} (h : rt_UF k L s e f c q la a_disk a_diskLsn a_logKind a_logSlot a_logRecord a_logValue a_logBefore a_logBack a_logNumber a_checkPage a_checkState a_checkUndo a_checkFirst a_checkNumber a_page a_lsn a_since a_held a_state a_undo a_first a_number a_effect a_locks b_state b_count b_least b_lock b_isWrite b_where b_what)
    (IH : i_Rel (k + 4) ((nI s), (nI e), (nI f), (nI c), (nI la), 1, f_broken, f_fuse, (nI q), f_found, a_disk, a_diskLsn, a_logKind, a_logSlot, a_logRecord, a_logValue, a_logBefore, a_logBack, a_logNumber, a_checkPage, a_checkState, a_checkUndo, a_checkFirst, a_checkNumber, a_page, a_lsn, a_since, a_held, a_state, a_undo, a_first, a_number, a_effect, a_locks, a_lacking) ((lN q), 0, f_found, (rt_row (rt_A L e)), b_state, b_count, b_least, b_lock, b_isWrite, b_where, b_what)) (hk : k + 4 ≤ 2048) {κ : Nat} {w mode : Int32} (hκ : (κ = 1 ∧ w = 1 ∧ mode = 3) ∨ (κ = 2 ∧ w = 0 ∧ mode = 2)) (v1 v2 v3 : Int32) {post : Int32 → SX → Prop}
    (H : ∀ r u', wY_change_13 (fun r' v' => r' = r ∧ i_Rel (k + 4) u' v') v1 v2 v3 w mode v2 v1 (lN q) 0 f_found (rt_row (rt_A L e)) b_state b_count b_least b_lock b_isWrite b_where b_what → post r u') : wX_change_10 post (nI κ) v1 v2 v3 mode (nI s) (nI e) (nI f) (nI c) (nI la) 1 f_broken f_fuse (nI q) f_found a_disk a_diskLsn a_logKind a_logSlot a_logRecord a_logValue a_logBefore a_logBack a_logNumber a_checkPage a_checkState a_checkUndo a_checkFirst a_checkNumber a_page a_lsn a_since a_held a_state a_undo a_first a_number a_effect a_locks a_lacking := by
  obtain ⟨hS, hT, hCE, ⟨hla, he, hq⟩, hTR, hLK⟩ := h
  have hL := rt_SY_L hS
  have hW := rt_wf hL.1 e (Nat.le_refl _)
  have hnuq : ∀ u, u < 4 → rt_nu (rt_A L e) u ≤ q := fun u hu => rt_nu_le hW hu hL.2.1
  obtain ⟨r, hX, hY, hz⟩ := rt_refusal (f_logStart := nI s) (f_logEnd := nI e) (f_forced := nI f) (f_checkLsn := nI c) (f_latest := nI la) (f_broken := f_broken) (f_fuse := f_fuse) (f_accepted := nI q) (f_found := f_found) (a_disk := a_disk) (a_diskLsn := a_diskLsn) (a_logKind := a_logKind) (a_logSlot := a_logSlot) (a_logRecord := a_logRecord) (a_logValue := a_logValue) (a_logBefore := a_logBefore) (a_logBack := a_logBack) (a_logNumber := a_logNumber) (a_checkPage := a_checkPage) (a_checkState := a_checkState) (a_checkUndo := a_checkUndo) (a_checkFirst := a_checkFirst) (a_checkNumber := a_checkNumber) (a_page := a_page) (a_lsn := a_lsn) (a_since := a_since) (a_held := a_held) (a_undo := a_undo) (a_first := a_first) (a_number := a_number) (a_effect := a_effect) (a_lacking := a_lacking) (f_numbered := lN q) (f_seen := f_found) (b_row := rt_row (rt_A L e)) (b_count := b_count) (b_least := b_least) (b_isWrite := b_isWrite) (b_where := b_where) (b_what := b_what) rfl rfl (fun t ht => (hTR t ht).1) (fun t ht => (hTR t ht).2.2.1) (fun t ht z => ((hTR t ht).2.2.2.1 z).2.2.2) v1 v2 mode
  by_cases hr : r = 0
  · obtain ⟨t, rr, ht, hrr, e1, e2, hs, hg⟩ := hz hr
    subst hr e1 e2
    have hpr := (rt_st1 hT hW ht).2.1 hs
    have hs0 : a_state t ≠ 0 := by rw [hs]; exact rt_h10
    obtain ⟨y1, y2, y3, y4⟩ := (hTR t ht).2.2.2.1 hs0
    have hbl := y4 rr hrr
    have hlen := (hW.1 t ht).2.1
    have hxf : ∀ P : Int32 → Prop, (¬ rt_FL (rt_ch (rt_A L e) t).length q (rt_nu (rt_A L e)) a_state → P 0) → (rt_FL (rt_ch (rt_A L e) t).length q (rt_nu (rt_A L e)) a_state → P 1) → wpX_full P ((nI s), (nI e), (nI f), (nI c), (nI la), 1, f_broken, f_fuse, (nI q), f_found, a_disk, a_diskLsn, a_logKind, a_logSlot, a_logRecord, a_logValue, a_logBefore, a_logBack, a_logNumber, a_checkPage, a_checkState, a_checkUndo, a_checkFirst, a_checkNumber, a_page, a_lsn, a_since, a_held, a_state, a_undo, a_first, a_number, a_effect, a_locks, a_lacking) (nI t) :=
      fun P h0 h1 => rt_xfull (nu := rt_nu (rt_A L e)) hL.2.2.1 ht (fun u hu => ⟨(hT u hu).2.2.1, hnuq u hu⟩) hlen (hTR t ht).2.1 h0 h1
    have est : ∀ u, u < 4 → b_state u = a_state u := fun u hu => (hTR u hu).1
    have hFL : rt_FL (rt_ch (rt_A L e) t).length q (rt_nu (rt_A L e)) b_state ↔ rt_FL (rt_ch (rt_A L e) t).length q (rt_nu (rt_A L e)) a_state := by
      constructor
      · rintro (z | ⟨u, z1, z2, z3⟩)
        · exact Or.inl z
        · exact Or.inr ⟨u, z1, by rw [← est u z1]; exact z2, z3⟩
      · rintro (z | ⟨u, z1, z2, z3⟩)
        · exact Or.inl z
        · exact Or.inr ⟨u, z1, by rw [est u z1]; exact z2, z3⟩
    have hyf : ∀ P : Int32 → Prop, (¬ rt_FL (rt_ch (rt_A L e) t).length q (rt_nu (rt_A L e)) a_state → P 0) → (rt_FL (rt_ch (rt_A L e) t).length q (rt_nu (rt_A L e)) a_state → P 1) → wpY_full P ((lN q), 0, f_found, (rt_row (rt_A L e)), b_state, b_count, b_least, b_lock, b_isWrite, b_where, b_what) (nI t) :=
      fun P h0 h1 => rt_yfull (nu := rt_nu (rt_A L e)) hL.2.2.1 ht (fun u hu => ⟨hnuq u hu, fun z => ((hTR u hu).2.2.2.1 (by rw [← est u hu]; exact z)).2.1⟩) hlen y1 (fun z => h0 (fun y => z (hFL.mpr y))) (fun z => h1 (hFL.mp z))
    by_cases hfl : rt_FL (rt_ch (rt_A L e) t).length q (rt_nu (rt_A L e)) a_state
    · unfold wX_change_10
      refine hX _ (br_t rfl (hxf _ (fun z => absurd hfl z) (fun _ => br_f rt_h10 (H _ _ ?_))))
      unfold wY_change_13
      exact hY _ (br_t rfl (hyf _ (fun z => absurd hfl z) (fun _ => br_f rt_h10 ⟨rfl, IH⟩)))
    · have hl10 : (rt_ch (rt_A L e) t).length < 10 := by
        by_cases z : (rt_ch (rt_A L e) t).length = 10
        · exact absurd (Or.inl z) hfl
        · omega
      have hm : mode = 1 ∨ mode = 2 ∨ mode = 3 := hκ.elim (fun z => Or.inr (Or.inr z.2.2)) (fun z => Or.inr (Or.inl z.2.2))
      have hwl : rt_wt (a_locks (12 * t + rr)) mode = 3 ∨ (κ = 2 ∧ rt_wt (a_locks (12 * t + rr)) mode = 2) := by
        rcases rt_wt_m (has := a_locks (12 * t + rr)) (mode := mode) with z | z
        · rcases hκ with ⟨k1, k2, k3⟩ | ⟨k1, k2, k3⟩
          · exact Or.inl (z.trans k3)
          · exact Or.inr ⟨k1, z.trans k3⟩
        · exact Or.inl z
      have hv : rt_VC L (rt_A L e) (κ, t, rr, v3, rt_row (rt_A L e) rr, rt_hd (rt_ch (rt_A L e) t), q + 1) := by
        refine ⟨hκ.elim (fun z => Or.inl z.1) (fun z => Or.inr z.1), ht, hrr, hpr, hl10, rfl, rfl, ?_, fun u hu hf => ?_, fun u hu hne d hd hrd => ?_⟩
        · show rt_ac (rt_A L e) < q + 1
          have := hL.2.1; omega
        · show q + 1 ≤ rt_nu (rt_A L e) u + 30
          have hsu : a_state u ≠ 0 := fun z => hf ((rt_st1 hT hW hu).1 z)
          have hnu0 := ((hW.1 u hu).2.2.2 hf).2.1
          by_cases z : q + 1 ≤ rt_nu (rt_A L e) u + 30
          · exact z
          · exact absurd (Or.inr ⟨u, hu, hsu, hnu0, by omega⟩) hfl
        · have hrd' : rt_rr (L d) = rr := hrd
          have hne' : u ≠ t := hne
          have hlc := (hTR u hu).2.2.2.2.2 d hd
          rw [hrd'] at hlc
          rcases hg u hu hne' with g | ⟨g1, g2⟩
          · rw [g] at hlc
            rcases hlc with z | ⟨_, z⟩
            · exact absurd z (by decide)
            · exact absurd z (by decide)
          · rcases hlc with z | ⟨z1, z2⟩
            · exact absurd (g1.symm.trans z) g2
            · rcases hwl with y | ⟨y1, y2⟩
              · exact absurd y g2
              · exact ⟨z1, y1⟩
      refine rt_xchange hla hS hT ht hrr hm hs (by omega) (by omega) hl10 (hTR t ht).2.1 hX (fun P hP => hxf P (fun _ => hP) (fun z => absurd z hfl)) hv ?_
      intro s' f' c' b d1 d2 d3 d4 d5 d6 d7 d8 d9 d10 d11 d12 d13 d14 d15 d16 d17 d18 d19 d20 hb hf hS' hT'
      refine H _ _ (rt_ychange (κ := κ) (nu := rt_nu (rt_A L e) t) ht hrr hκ hL.2.2.1 hl10 y1 y2 (by have := hnuq t ht; have := hL.2.2.1; omega) hY (fun P hP => hyf P (fun _ => hP) (fun z => absurd z hfl)) ?_)
      intro bl hl1 hl2
      refine ⟨rfl, ?_⟩
      refine rt_inU (L := rt_u L e (κ, t, rr, v3, rt_row (rt_A L e) rr, rt_hd (rt_ch (rt_A L e) t), q + 1)) (e := e + 1) ⟨hS', hT', rt_CE_C hL.1 (rt_CE_le hCE hf) hv, ⟨hb, by omega, by omega⟩, fun u hu => ?_, rt_LK_up hLK ht hrr hg⟩ ?_
      · rw [rt_A_ap, rt_ap_C hv.1]
        have h1 := rt_TR_lock (mode := mode) hW ht hrr hs hpr hu (hTR u hu) hbl
        have hwl' : upd a_locks (12 * t + rr) (rt_wt (a_locks (12 * t + rr)) mode) (12 * t + rr) = 3 ∨ (κ = 2 ∧ upd a_locks (12 * t + rr) (rt_wt (a_locks (12 * t + rr)) mode) (12 * t + rr) = 2) := by rw [pk_us]; exact hwl
        have h2 := rt_TR_C (b_least' := bl) hW hv rfl hs hu h1 hwl' hl1 hl2
        have ew : w = if κ = 1 then 1 else 0 := by
          rcases hκ with ⟨k1, k2, k3⟩ | ⟨k1, k2, k3⟩
          · rw [k1, k2]; rfl
          · rw [k1, k2]; rfl
        rw [ew]
        exact h2
      · rw [rt_A_ap, rt_ap_C hv.1]
        show _ = rt_rw _ (rt_row (rt_A L e))
        unfold rt_rw
        rcases hκ with ⟨k1, k2, k3⟩ | ⟨k1, k2, k3⟩
        · subst k1; rfl
        · subst k1; rfl
  · unfold wX_change_10
    refine hX _ (br_f hr (H _ _ ?_))
    unfold wY_change_13
    exact hY _ (br_f hr ⟨rfl, IH⟩)
theorem i_vc_write {k : Nat} {u : SX} {v : SY} (I : i_Rel k u v) (hk : k + 4 ≤ 2048) (v1 : Int32) (v2 : Int32) (v3 : Int32) : wpX_write (fun r u' => wpY_write (fun r' v' => r' = r ∧ i_Rel (k + 4) u' v') v v1 v2 v3) u v1 v2 v3 := by
  refine rt_el (P := fun u v => wpX_write (fun r u' => wpY_write (fun r' v' => r' = r ∧ i_Rel (k + 4) u' v') v v1 v2 v3) u v1 v2 v3) I ?_ ?_
  · intros; rename_i h IH
    unfold wpX_write wpX_change
    refine br_t rfl (rt_chgU h IH hk (κ := 1) (w := 1) (Or.inl ⟨rfl, rfl, rfl⟩) v1 v2 v3 ?_)
    intro r u' hY
    exact br_f rt_h10 hY
  · intros; rename_i h IH
    obtain ⟨r, hr, hX, hY⟩ := rt_refusalD (f_up := 0) (f_down := 1) rfl rfl v1 v2 3
    unfold wpX_write wpX_change
    refine br_t rfl ?_
    unfold wX_change_10
    refine hX (br_f hr ?_)
    refine br_f rt_h10 ?_
    unfold wY_change_13
    exact hY (br_f hr ⟨rfl, IH⟩)
theorem i_vc_add {k : Nat} {u : SX} {v : SY} (I : i_Rel k u v) (hk : k + 4 ≤ 2048) (v1 : Int32) (v2 : Int32) (v3 : Int32) : wpX_add (fun r u' => wpY_add (fun r' v' => r' = r ∧ i_Rel (k + 4) u' v') v v1 v2 v3) u v1 v2 v3 := by
  refine rt_el (P := fun u v => wpX_add (fun r u' => wpY_add (fun r' v' => r' = r ∧ i_Rel (k + 4) u' v') v v1 v2 v3) u v1 v2 v3) I ?_ ?_
  · intros; rename_i h IH
    unfold wpX_add wpX_change
    refine br_f rt_h21 (rt_chgU h IH hk (κ := 2) (w := 0) (Or.inr ⟨rfl, rfl, rfl⟩) v1 v2 v3 ?_)
    intro r u' hY
    exact br_t rfl hY
  · intros; rename_i h IH
    obtain ⟨r, hr, hX, hY⟩ := rt_refusalD (f_up := 0) (f_down := 1) rfl rfl v1 v2 2
    unfold wpX_add wpX_change
    refine br_f rt_h21 ?_
    unfold wX_change_10
    refine hX (br_f hr ?_)
    refine br_t rfl ?_
    unfold wY_change_13
    exact hY (br_f hr ⟨rfl, IH⟩)
end
section
/-! ## runs of undoings -/
def rt_Ev (L : Nat → rt_Rc) (e : Nat) (L' : Nat → rt_Rc) (e' t k : Nat) : Prop :=
  e' = e + k ∧ (∀ j, j < e → L' j = L j) ∧ rt_row (rt_A L' e') = rt_ul L (rt_row (rt_A L e)) ((rt_ch (rt_A L e) t).take k) ∧ rt_ch (rt_A L' e') = rt_u (rt_ch (rt_A L e)) t ((rt_ch (rt_A L e) t).drop k) ∧
  rt_fi (rt_A L' e') = rt_fi (rt_A L e) ∧ rt_nu (rt_A L' e') = rt_nu (rt_A L e) ∧ rt_pr (rt_A L' e') = rt_pr (rt_A L e)
theorem rt_u_id {α : Type} {f : Nat → α} {t : Nat} : rt_u f t (f t) = f := by
  funext j
  by_cases h : j = t
  · subst h; exact rt_us
  · exact rt_uo h
theorem rt_Ev_0 {L : Nat → rt_Rc} {e t : Nat} : rt_Ev L e L e t 0 := ⟨rfl, fun _ _ => rfl, rfl, rt_u_id.symm, rfl, rfl, rfl⟩
theorem rt_Ev_s {L L' : Nat → rt_Rc} {e e' t k : Nat} {x : rt_Rc} (hL : rt_LV L e) (v : rt_VU L (rt_A L e) x) (ht : rt_rs x = t) (h : rt_Ev (rt_u L e x) (e + 1) L' e' t k) : rt_Ev L e L' e' t (k + 1) := by
  have hk := rt_VU_k v
  obtain ⟨h4, c, cs, hch, hkx, hrx, hlx, hvx⟩ := v
  rw [ht] at hch h4
  obtain ⟨h1, h2, h3, h5, h6, h7, h8⟩ := h
  rw [rt_A_ap, rt_ap_U hk] at h3 h5 h6 h7 h8
  have ech : rt_ch (rt_apU x (rt_A L e)) t = cs := by
    show rt_u (rt_ch (rt_A L e)) (rt_rs x) (rt_ch (rt_A L e) (rt_rs x)).tail t = cs
    rw [ht, rt_us, hch]; rfl
  have hmem : ∀ d, d ∈ cs → d < e := fun d hd => (rt_Cn_mem ((rt_wf hL e (Nat.le_refl _)).1 t h4).1 d (by rw [hch]; exact List.mem_cons_of_mem _ hd)).1
  refine ⟨by omega, fun j hj => (h2 j (by omega)).trans (rt_uo (by omega)), ?_, ?_, h6, h7, h8⟩
  · rw [h3, ech, hch]
    show rt_ul (rt_u L e x) (rt_rw x (rt_row (rt_A L e))) (cs.take k) = rt_ul L (rt_u1 L (rt_row (rt_A L e)) c) (cs.take k)
    rw [rt_rw_U hkx hrx hvx]
    exact rt_ul_cg (fun d hd => rt_uo (by have := hmem d (List.mem_of_mem_take hd); omega))
  · rw [h5, ech, hch]
    show rt_u (rt_u (rt_ch (rt_A L e)) (rt_rs x) _) t (cs.drop k) = rt_u (rt_ch (rt_A L e)) t (cs.drop k)
    funext j
    by_cases e1 : j = t
    · subst e1; rw [rt_us, rt_us]
    · rw [rt_uo e1, rt_uo e1, rt_uo (by omega)]
theorem rt_un0 {α : Type} {l : List α} {n : Nat} (h : l.length = n + 1) : ∃ a as, l = a :: as ∧ as.length = n := by
  cases l with
  | nil => simp at h
  | cons a as => exact ⟨a, as, rfl, by simpa using h⟩
theorem rt_xback {post : Int32 → SX → Prop} {t n : Nat} (ht : t < 4) : ∀ (d : Nat) {L : Nat → rt_Rc} {s e f c q la : Nat} {f_up f_broken f_fuse f_found : Int32} {a_disk a_diskLsn a_logKind a_logSlot a_logRecord a_logValue a_logBefore a_logBack a_logNumber a_checkPage a_checkState a_checkUndo a_checkFirst a_checkNumber a_page a_lsn a_since a_held a_state a_undo a_first a_number a_effect a_locks a_lacking : Nat → Int32}, la < 2 → rt_SY L s e e f c q e a_disk a_diskLsn a_logKind a_logSlot a_logRecord a_logValue a_logBefore a_logBack a_logNumber a_checkPage a_checkState a_checkUndo a_checkFirst a_checkNumber a_page a_lsn a_since a_held → rt_TX (rt_A L e) a_state a_undo a_first a_number → a_effect t = nI (n + d) → (rt_ch (rt_A L e) t).length = n + d → n + d ≤ 10 → e + d < 1073741824 →
    (∀ L' s' f' c' b a_disk' a_diskLsn' a_logKind' a_logSlot' a_logRecord' a_logValue' a_logBefore' a_logBack' a_logNumber' a_checkPage' a_checkState' a_checkUndo' a_checkFirst' a_checkNumber' a_page' a_lsn' a_since' a_held' a_undo' a_effect', b < 2 → f ≤ f' → rt_Ev L e L' (e + d) t d →
      rt_SY L' s' (e + d) (e + d) f' c' q (e + d) a_disk' a_diskLsn' a_logKind' a_logSlot' a_logRecord' a_logValue' a_logBefore' a_logBack' a_logNumber' a_checkPage' a_checkState' a_checkUndo' a_checkFirst' a_checkNumber' a_page' a_lsn' a_since' a_held' →
      rt_TX (rt_A L' (e + d)) a_state a_undo' a_first a_number → a_effect' t = nI n → (∀ u, u ≠ t → a_effect' u = a_effect u) → (rt_pr (rt_A L e) t = false → rt_CE L f e → rt_CE L' f' (e + d)) →
      wX_back_29 post (nI t) (nI n) 1 (nI s') (nI (e + d)) (nI f') (nI c') (nI b) f_up f_broken f_fuse (nI q) f_found a_disk' a_diskLsn' a_logKind' a_logSlot' a_logRecord' a_logValue' a_logBefore' a_logBack' a_logNumber' a_checkPage' a_checkState' a_checkUndo' a_checkFirst' a_checkNumber' a_page' a_lsn' a_since' a_held' a_state a_undo' a_first a_number a_effect' a_locks a_lacking) →
    wX_back_29 post (nI t) (nI n) (d + 1) (nI s) (nI e) (nI f) (nI c) (nI la) f_up f_broken f_fuse (nI q) f_found a_disk a_diskLsn a_logKind a_logSlot a_logRecord a_logValue a_logBefore a_logBack a_logNumber a_checkPage a_checkState a_checkUndo a_checkFirst a_checkNumber a_page a_lsn a_since a_held a_state a_undo a_first a_number a_effect a_locks a_lacking := by
  have hin : vp_in (nI t) 4 := vp_in_nI ht (by omega)
  have hc : (nI t).toNatClampNeg = t := nI_clamp (by omega)
  intro d
  induction d with
  | zero =>
    intros
    rename_i hla hS hT hef hlen h10 he H
    exact H _ _ _ _ _ _ _ _ _ _ _ _ _ _ _ _ _ _ _ _ _ _ _ _ _ hla (Nat.le_refl _) rt_Ev_0 hS hT hef (fun _ _ => rfl) (fun _ z => z)
  | succ d ih =>
    intro L s e f c q la
    intros
    rename_i hla hS hT hef hlen h10 he H
    have hL := rt_SY_L hS
    obtain ⟨c0, cs, hch, hcl⟩ := rt_un0 (n := n + d) (by rw [hlen]; omega)
    rw [wX_back_29]
    dsimp only
    rw [hc, hef]
    refine ⟨hin, br_f (nI_ge (b := n + (d + 1)) (a := n) (by omega) (by omega)) ?_⟩
    refine rt_undoOne hla hS hT ht hch (by omega) ?_
    intro x s1 f1 c1 b1 d1 d2 d3 d4 d5 d6 d7 d8 d9 d10 d11 d12 d13 d14 d15 d16 d17 d18 hb hf hv hx hS1 hT1
    have hk := rt_VU_k hv
    have ech : rt_ch (rt_A (rt_u L e x) (e + 1)) t = cs := by
      rw [rt_A_ap, rt_ap_U hk]
      show rt_u (rt_ch (rt_A L e)) (rt_rs x) (rt_ch (rt_A L e) (rt_rs x)).tail t = cs
      rw [hx, rt_us, hch]; rfl
    dsimp only
    refine ih hb hS1 hT1 ?_ (by rw [ech, hcl]) (by omega) (by omega) ?_
    · rw [pk_us, hef, show n + (d + 1) = n + d + 1 from rfl, nI_pred, rt_nb8 (by omega)]
    · intro L' s' f' c' b' g1 g2 g3 g4 g5 g6 g7 g8 g9 g10 g11 g12 g13 g14 g15 g16 g17 g18 un' ef' hb' hf' hE hS' hT' he1 he2 hCE
      have hE' := rt_Ev_s hL.1 hv hx hE
      have q1 : e + 1 + d = e + (d + 1) := by omega
      rw [q1] at hE' hS' hT' hCE ⊢
      refine H L' s' f' c' b' _ _ _ _ _ _ _ _ _ _ _ _ _ _ _ _ _ _ un' ef' hb' (by omega) hE' hS' hT' he1 (fun u hu => by rw [he2 u hu, pk_un hu]) (fun hp hC => hCE ?_ ?_)
      · rw [rt_A_ap, rt_ap_U hk]; exact hp
      · exact rt_CE_le (rt_CE_U hL.1 hC hv (by rw [hx]; exact hp)) hf
theorem rt_xabort {post : Int32 → SX → Prop} {t : Nat} (ht : t < 4) : ∀ (d : Nat) {L : Nat → rt_Rc} {s e f c q la : Nat} {f_up f_broken f_fuse f_found : Int32} {a_disk a_diskLsn a_logKind a_logSlot a_logRecord a_logValue a_logBefore a_logBack a_logNumber a_checkPage a_checkState a_checkUndo a_checkFirst a_checkNumber a_page a_lsn a_since a_held a_state a_undo a_first a_number a_effect a_locks a_lacking : Nat → Int32}, la < 2 → rt_SY L s e e f c q e a_disk a_diskLsn a_logKind a_logSlot a_logRecord a_logValue a_logBefore a_logBack a_logNumber a_checkPage a_checkState a_checkUndo a_checkFirst a_checkNumber a_page a_lsn a_since a_held → rt_TX (rt_A L e) a_state a_undo a_first a_number → a_effect t = nI (0 + d) → (rt_ch (rt_A L e) t).length = 0 + d → 0 + d ≤ 10 → e + d < 1073741824 →
    (∀ L' s' f' c' b a_disk' a_diskLsn' a_logKind' a_logSlot' a_logRecord' a_logValue' a_logBefore' a_logBack' a_logNumber' a_checkPage' a_checkState' a_checkUndo' a_checkFirst' a_checkNumber' a_page' a_lsn' a_since' a_held' a_undo' a_effect', b < 2 → f ≤ f' → rt_Ev L e L' (e + d) t d →
      rt_SY L' s' (e + d) (e + d) f' c' q (e + d) a_disk' a_diskLsn' a_logKind' a_logSlot' a_logRecord' a_logValue' a_logBefore' a_logBack' a_logNumber' a_checkPage' a_checkState' a_checkUndo' a_checkFirst' a_checkNumber' a_page' a_lsn' a_since' a_held' →
      rt_TX (rt_A L' (e + d)) a_state a_undo' a_first a_number → a_effect' t = nI 0 → (∀ u, u ≠ t → a_effect' u = a_effect u) → (rt_pr (rt_A L e) t = false → rt_CE L f e → rt_CE L' f' (e + d)) →
      wX_abort_13 post (nI t) 1 (nI s') (nI (e + d)) (nI f') (nI c') (nI b) f_up f_broken f_fuse (nI q) f_found a_disk' a_diskLsn' a_logKind' a_logSlot' a_logRecord' a_logValue' a_logBefore' a_logBack' a_logNumber' a_checkPage' a_checkState' a_checkUndo' a_checkFirst' a_checkNumber' a_page' a_lsn' a_since' a_held' a_state a_undo' a_first a_number a_effect' a_locks a_lacking) →
    wX_abort_13 post (nI t) (d + 1) (nI s) (nI e) (nI f) (nI c) (nI la) f_up f_broken f_fuse (nI q) f_found a_disk a_diskLsn a_logKind a_logSlot a_logRecord a_logValue a_logBefore a_logBack a_logNumber a_checkPage a_checkState a_checkUndo a_checkFirst a_checkNumber a_page a_lsn a_since a_held a_state a_undo a_first a_number a_effect a_locks a_lacking := by
  have hin : vp_in (nI t) 4 := vp_in_nI ht (by omega)
  have hc : (nI t).toNatClampNeg = t := nI_clamp (by omega)
  intro d
  induction d with
  | zero =>
    intros
    rename_i hla hS hT hef hlen h10 he H
    exact H _ _ _ _ _ _ _ _ _ _ _ _ _ _ _ _ _ _ _ _ _ _ _ _ _ hla (Nat.le_refl _) rt_Ev_0 hS hT hef (fun _ _ => rfl) (fun _ z => z)
  | succ d ih =>
    intro L s e f c q la
    intros
    rename_i hla hS hT hef hlen h10 he H
    have hL := rt_SY_L hS
    obtain ⟨c0, cs, hch, hcl⟩ := rt_un0 (n := 0 + d) (by rw [hlen]; omega)
    rw [wX_abort_13]
    dsimp only
    rw [hc, hef]
    refine ⟨hin, br_f (nI_ge (b := 0 + (d + 1)) (a := 0) (by omega) (by omega)) ?_⟩
    refine rt_undoOne hla hS hT ht hch (by omega) ?_
    intro x s1 f1 c1 b1 d1 d2 d3 d4 d5 d6 d7 d8 d9 d10 d11 d12 d13 d14 d15 d16 d17 d18 hb hf hv hx hS1 hT1
    have hk := rt_VU_k hv
    have ech : rt_ch (rt_A (rt_u L e x) (e + 1)) t = cs := by
      rw [rt_A_ap, rt_ap_U hk]
      show rt_u (rt_ch (rt_A L e)) (rt_rs x) (rt_ch (rt_A L e) (rt_rs x)).tail t = cs
      rw [hx, rt_us, hch]; rfl
    dsimp only
    refine ih hb hS1 hT1 ?_ (by rw [ech, hcl]) (by omega) (by omega) ?_
    · rw [pk_us, hef, show 0 + (d + 1) = 0 + d + 1 from rfl, nI_pred, rt_nb8 (by omega)]
    · intro L' s' f' c' b' g1 g2 g3 g4 g5 g6 g7 g8 g9 g10 g11 g12 g13 g14 g15 g16 g17 g18 un' ef' hb' hf' hE hS' hT' he1 he2 hCE
      have hE' := rt_Ev_s hL.1 hv hx hE
      have q1 : e + 1 + d = e + (d + 1) := by omega
      rw [q1] at hE' hS' hT' hCE ⊢
      refine H L' s' f' c' b' _ _ _ _ _ _ _ _ _ _ _ _ _ _ _ _ _ _ un' ef' hb' (by omega) hE' hS' hT' he1 (fun u hu => by rw [he2 u hu, pk_un hu]) (fun hp hC => hCE ?_ ?_)
      · rw [rt_A_ap, rt_ap_U hk]; exact hp
      · exact rt_CE_le (rt_CE_U hL.1 hC hv (by rw [hx]; exact hp)) hf
theorem rt_RE_drop {L : Nat → rt_Rc} {t : Nat} {w p q : Nat → Int32} : ∀ {cs : List Nat} (k : Nat), rt_RE L t w p q cs → rt_RE L t w p q (cs.drop k) := by
  intro cs
  induction cs with
  | nil => intro k h; cases k <;> exact h
  | cons c cs ih =>
    intro k h
    cases k with
    | zero => exact h
    | succ k => exact ih k h.2
/-- the reference's run of undoings -/
theorem rt_yundo {post : SY → Prop} {L : Nat → rt_Rc} {t n : Nat} (ht : t < 4) : ∀ (cs : List Nat) {f_numbered : Int64} {f_down f_seen : Int32} {b_row b_state b_count b_lock b_isWrite b_where b_what : Nat → Int32} {b_least : Nat → Int64}, n ≤ cs.length → cs.length ≤ 10 → b_count t = nI cs.length → rt_RE L t b_isWrite b_where b_what cs → (∀ c, c ∈ cs → rt_rr (L c) < 12) →
    post (f_numbered, f_down, f_seen, rt_ul L b_row (cs.take (cs.length - n)), b_state, upd b_count t (nI n), b_least, b_lock, b_isWrite, b_where, b_what) → wY_undo_0 post (nI t) (nI n) f_numbered f_down f_seen (cs.length + 1) b_row b_state b_count b_least b_lock b_isWrite b_where b_what := by
  have hin : vp_in (nI t) 4 := vp_in_nI ht (by omega)
  have hc : (nI t).toNatClampNeg = t := nI_clamp (by omega)
  intro cs
  induction cs with
  | nil =>
    intros
    rename_i f_numbered f_down f_seen b_row b_state b_count b_lock b_isWrite b_where b_what b_least hn hl hct hE hr H
    have e : n = 0 := by simpa using hn
    subst e
    rw [wY_undo_0]
    dsimp only
    rw [hc, hct]
    refine ⟨hin, br_t (nI_le (a := 0) (b := 0) (by omega) (by omega)) ?_⟩
    have e2 : upd b_count t (nI 0) = b_count := by
      funext j
      by_cases h : j = t
      · subst h; rw [pk_us]; exact hct.symm
      · exact pk_un h
    rw [e2] at H
    exact H
  | cons c cs ih =>
    intros
    rename_i f_numbered f_down f_seen b_row b_state b_count b_lock b_isWrite b_where b_what b_least hn hl hct hE hr H
    rw [List.length_cons] at hn hl hct H ⊢
    rw [wY_undo_0]
    dsimp only
    rw [hc, hct]
    by_cases e : n = cs.length + 1
    · subst e
      refine ⟨hin, br_t (nI_le (Nat.le_refl _) (by omega)) ?_⟩
      have e2 : upd b_count t (nI (cs.length + 1)) = b_count := by
        funext j
        by_cases h : j = t
        · subst h; rw [pk_us]; exact hct.symm
        · exact pk_un h
      rw [e2, Nat.sub_self] at H
      exact H
    · obtain ⟨⟨w1, w2, w3⟩, hE'⟩ := hE
      have hrc := hr c List.mem_cons_self
      have hin40 : vp_in (nI (10 * t + cs.length)) 40 := vp_in_nI (by omega) (by omega)
      have hc40 : (nI (10 * t + cs.length)).toNatClampNeg = 10 * t + cs.length := nI_clamp (by omega)
      have hin12 : vp_in (nI (rt_rr (L c))) 12 := vp_in_nI hrc (by omega)
      have hc12 : (nI (rt_rr (L c))).toNatClampNeg = rt_rr (L c) := nI_clamp (by omega)
      refine ⟨hin, br_f (nI_ge (by omega) (by omega)) ⟨hin, hin, ?_⟩⟩
      rw [nI_pred]
      refine nm_e ⟨hin, ?_⟩
      rw [pk_us, rt_10']
      refine nm_e ⟨hin40, ?_⟩
      rw [hc40, w2, w1, w3]
      refine nm_e ⟨hin40, ?_⟩
      rw [hc12]
      have e3 : cs.length + 1 - n = (cs.length - n) + 1 := by omega
      rw [e3, List.take_succ_cons] at H
      have fin : ∀ row', row' = rt_u1 L b_row c → wY_undo_0 post (nI t) (nI n) f_numbered f_down f_seen (cs.length + 1) row' b_state (upd b_count t (nI cs.length)) b_least b_lock b_isWrite b_where b_what := by
        intro row' hrow
        refine ih (by omega) (by omega) pk_us hE' (fun d hd => hr d (List.mem_cons_of_mem _ hd)) ?_
        have e4 : upd (upd b_count t (nI cs.length)) t (nI n) = upd b_count t (nI n) := by
          funext j
          by_cases h : j = t
          · subst h; rw [pk_us, pk_us]
          · rw [pk_un h, pk_un h, pk_un h]
        rw [e4, hrow]
        exact H
      by_cases hk : rt_rk (L c) = 1
      · rw [if_pos hk, if_pos hk]
        exact br_f rt_h10 ⟨hin40, hin12, nm_e (fin _ (by unfold rt_u1; rw [if_pos hk]))⟩
      · rw [if_neg hk, if_neg hk]
        exact br_t rfl ⟨hin12, hin40, hin12, nm_e (fin _ (by unfold rt_u1; rw [if_neg hk]))⟩
end
section
/-! ## back, commit, abort -/
theorem rt_TR_cg {L L' : Nat → rt_Rc} {a a' : rt_AS} {a_state a_effect a_locks b_state b_count a_state' a_effect' a_locks' b_state' b_count' : Nat → Int32} {b_least b_least' : Nat → Int64} {b_lock b_lock' b_isWrite b_where b_what : Nat → Int32} {u : Nat}
    (h : rt_TR L a a_state a_effect a_locks b_state b_count b_least b_lock b_isWrite b_where b_what u) (e1 : rt_ch a' u = rt_ch a u) (e2 : rt_pr a' u = rt_pr a u) (e3 : rt_nu a' u = rt_nu a u)
    (eL : ∀ c, c ∈ rt_ch a u → L' c = L c ∧ rt_rr (L c) < 12) (es : a_state' u = a_state u) (ee : a_effect' u = a_effect u) (el : ∀ r, r < 12 → a_locks' (12 * u + r) = a_locks (12 * u + r))
    (bs : b_state' u = b_state u) (bc : b_count' u = b_count u) (bl : b_least' u = b_least u) (bk : ∀ r, r < 12 → b_lock' (12 * u + r) = b_lock (12 * u + r)) :
    rt_TR L' a' a_state' a_effect' a_locks' b_state' b_count' b_least' b_lock' b_isWrite b_where b_what u := by
  obtain ⟨x1, x2, x3, x4, x5, x6⟩ := h
  unfold rt_TR
  rw [e1, e2, e3, es, ee, bs, bc, bl]
  refine ⟨x1, x2, fun z r hr => by rw [el r hr]; exact x3 z r hr, fun z => ?_, fun z r hr => ?_, fun c hc => ?_⟩
  · obtain ⟨y1, y2, y3, y4⟩ := x4 z
    exact ⟨y1, y2, rt_RE_cg y3 (fun c hc => (eL c hc).1) (fun _ _ => ⟨rfl, rfl, rfl⟩), fun r hr => by rw [el r hr, bk r hr]; exact y4 r hr⟩
  · rw [el r hr, rt_ak_cg (fun c hc => (eL c hc).1)]; exact x5 z r hr
  · rw [(eL c hc).1, el _ (eL c hc).2]; exact x6 c hc
theorem rt_eL {L L' : Nat → rt_Rc} {e u : Nat} {a : rt_AS} (hW : rt_WF L e a) (hcg : ∀ j, j < e → L' j = L j) (hu : u < 4) : ∀ c, c ∈ rt_ch a u → L' c = L c ∧ rt_rr (L c) < 12 := fun c hc =>
  have h := rt_Cn_mem (hW.1 u hu).1 c hc
  ⟨hcg c h.1, h.2.2.2.2⟩
theorem rt_TR_Ev {L L' : Nat → rt_Rc} {e e' t k n u : Nat} {a_state a_effect a_effect' a_locks b_state b_count : Nat → Int32} {b_least : Nat → Int64} {b_lock b_isWrite b_where b_what : Nat → Int32}
    (hW : rt_WF L e (rt_A L e)) (ht : t < 4) (hu : u < 4) (hE : rt_Ev L e L' e' t k) (hk : n + k = (rt_ch (rt_A L e) t).length) (hpr : rt_pr (rt_A L e) t = false)
    (h : rt_TR L (rt_A L e) a_state a_effect a_locks b_state b_count b_least b_lock b_isWrite b_where b_what u) (he1 : a_effect' t = nI n) (he2 : ∀ u, u ≠ t → a_effect' u = a_effect u) :
    rt_TR L' (rt_A L' e') a_state a_effect' a_locks b_state (upd b_count t (nI n)) b_least b_lock b_isWrite b_where b_what u := by
  obtain ⟨h1, h2, h3, h5, h6, h7, h8⟩ := hE
  by_cases e1 : u = t
  · subst e1
    have hx := rt_eL hW h2 ht
    obtain ⟨x1, x2, x3, x4, x5, x6⟩ := h
    have hl : ((rt_ch (rt_A L e) u).drop k).length = n := by rw [List.length_drop]; omega
    unfold rt_TR
    rw [h5, h7, h8, rt_us, hl, hpr, pk_us]
    refine ⟨x1, he1, x3, fun z => ?_, fun z => (by cases z), fun c hc => ?_⟩
    · obtain ⟨y1, y2, y3, y4⟩ := x4 z
      exact ⟨rfl, y2, rt_RE_cg (rt_RE_drop k y3) (fun c hc => (hx c (List.mem_of_mem_drop hc)).1) (fun _ _ => ⟨rfl, rfl, rfl⟩), y4⟩
    · have hc' := List.mem_of_mem_drop hc
      rw [(hx c hc').1]; exact x6 c hc'
  · exact rt_TR_cg h (by rw [h5]; exact rt_uo e1) (by rw [h8]) (by rw [h7]) (rt_eL hW h2 hu) rfl (he2 u e1) (fun _ _ => rfl) rfl (pk_un e1) rfl (fun _ _ => rfl)
theorem rt_TR_leave {L L' : Nat → rt_Rc} {e t : Nat} {a' : rt_AS} {a_state a_effect a_effect' a_locks b_state b_count b_count' : Nat → Int32} {b_least : Nat → Int64} {b_lock b_isWrite b_where b_what : Nat → Int32}
    (hW : rt_WF L e (rt_A L e)) (ht : t < 4) (hcg : ∀ j, j < e → L' j = L j) (ho : ∀ u, u ≠ t → rt_ch a' u = rt_ch (rt_A L e) u ∧ rt_nu a' u = rt_nu (rt_A L e) u ∧ rt_pr a' u = rt_pr (rt_A L e) u) (hc0 : rt_ch a' t = []) (hp0 : rt_pr a' t = false)
    (h : ∀ u, u < 4 → rt_TR L (rt_A L e) a_state a_effect a_locks b_state b_count b_least b_lock b_isWrite b_where b_what u) (he : ∀ u, u ≠ t → a_effect' u = a_effect u) (hb : ∀ u, u ≠ t → b_count' u = b_count u) :
    ∀ u, u < 4 → rt_TR L' a' (upd a_state t 0) (upd a_effect' t 0) (rt_zr a_locks t 0) (upd b_state t 0) b_count' b_least b_lock b_isWrite b_where b_what u := by
  intro u hu
  by_cases e1 : u = t
  · subst e1
    unfold rt_TR
    rw [hc0, hp0, pk_us, pk_us, pk_us]
    exact ⟨rfl, rfl, fun _ r hr => rt_zr_in hr, fun z => absurd rfl z, fun z => (by cases z), fun c hc => (by cases hc)⟩
  · exact rt_TR_cg (h u hu) (ho u e1).1 (ho u e1).2.2 (ho u e1).2.1 (rt_eL hW hcg hu) (pk_un e1) ((pk_un e1).trans (he u e1)) (fun r hr => rt_zr_out hr e1) (pk_un e1) (hb u e1) rfl (fun _ _ => rfl)
theorem rt_TX_L {a : rt_AS} {x : rt_Rc} {st un fi nu : Nat → Int32} (h : rt_TX a st un fi nu) : rt_TX (rt_apL x a) (upd st (rt_rs x) 0) (upd un (rt_rs x) (-1)) (upd fi (rt_rs x) (-1)) (upd nu (rt_rs x) 0) := by
  intro t ht
  obtain ⟨h1, h2, h3, h4, h5⟩ := h t ht
  by_cases e : t = rt_rs x
  · subst e
    rw [show rt_ch (rt_apL x a) (rt_rs x) = [] from rt_us, show rt_fi (rt_apL x a) (rt_rs x) = 0 from rt_us, show rt_nu (rt_apL x a) (rt_rs x) = 0 from rt_us, pk_us, pk_us, pk_us, pk_us]
    exact ⟨rfl, rfl, rfl, fun z => absurd rfl z, fun _ => Or.inl rfl⟩
  · rw [show rt_ch (rt_apL x a) t = rt_ch a t from rt_uo e, show rt_fi (rt_apL x a) t = rt_fi a t from rt_uo e, show rt_nu (rt_apL x a) t = rt_nu a t from rt_uo e, show rt_pr (rt_apL x a) t = rt_pr a t from rt_uo e, pk_un e, pk_un e, pk_un e, pk_un e]
    exact ⟨h1, h2, h3, h4, h5⟩
theorem rt_TX_L0 {a : rt_AS} {st un fi nu : Nat → Int32} {t : Nat} (h : rt_TX a st un fi nu) (hf : rt_fi a t = 0) (hc : rt_ch a t = []) (hn : rt_nu a t = 0) : rt_TX a (upd st t 0) (upd un t (-1)) (upd fi t (-1)) (upd nu t 0) := by
  intro u hu
  obtain ⟨h1, h2, h3, h4, h5⟩ := h u hu
  by_cases e : u = t
  · subst e
    rw [hf, hc, hn, pk_us, pk_us, pk_us, pk_us]
    exact ⟨rfl, rfl, rfl, fun z => absurd rfl z, fun _ => Or.inl rfl⟩
  · rw [pk_un e, pk_un e, pk_un e, pk_un e]
    exact ⟨h1, h2, h3, h4, h5⟩
theorem rt_LK_zr {lk : Nat → Int32} {t : Nat} (h : rt_LK lk) : rt_LK (rt_zr lk t 0) := by
  intro t1 u1 ht1 hu1 hne r hr h1 h2
  by_cases e1 : t1 = t
  · subst e1; rw [rt_zr_in hr] at h1; exact absurd rfl h1
  · rw [rt_zr_out hr e1] at h1 ⊢
    by_cases e2 : u1 = t
    · subst e2; rw [rt_zr_in hr] at h2; exact absurd rfl h2
    · rw [rt_zr_out hr e2] at h2 ⊢
      exact h t1 u1 ht1 hu1 hne r hr h1 h2
/-- a record that touches no page is behind -/
theorem rt_SY_nt {L : Nat → rt_Rc} {s e f f' c q : Nat} {a_disk a_diskLsn a_logKind a_logSlot a_logRecord a_logValue a_logBefore a_logBack a_logNumber a_checkPage a_checkState a_checkUndo a_checkFirst a_checkNumber a_page a_lsn a_since a_held : Nat → Int32} (h : rt_SY L s (e + 1) e f c q e a_disk a_diskLsn a_logKind a_logSlot a_logRecord a_logValue a_logBefore a_logBack a_logNumber a_checkPage a_checkState a_checkUndo a_checkFirst a_checkNumber a_page a_lsn a_since a_held) (hk : 4 < rt_rk (L e)) (h1 : f ≤ f') (h2 : f' ≤ e + 1) : rt_SY L s (e + 1) (e + 1) f' c q (e + 1) a_disk a_diskLsn a_logKind a_logSlot a_logRecord a_logValue a_logBefore a_logBack a_logNumber a_checkPage a_checkState a_checkUndo a_checkFirst a_checkNumber a_page a_lsn a_since a_held := by
  obtain ⟨cp, pg, ls, si, dl, ⟨hE, ⟨g1, g2, g3, g4⟩, hC, hK⟩, hcp, hTc, hfc, hR, hL, z1, z2, z3, z4, z5, z6, z7⟩ := h
  refine ⟨cp, pg, ls, si, dl, ⟨hE, ⟨h2, g2, fun p hp => ⟨by have := (g3 p hp).1; omega, (g3 p hp).2⟩, fun b hb => ?_⟩, rt_PC_sk hC (fun p hp y => ?_), hK⟩, hcp, hTc, hfc, hR, hL, z1, by omega, Nat.le_refl _, z4, z5, z6, z7⟩
  · obtain ⟨xb, yb, zb⟩ := g4 b hb
    refine ⟨xb, yb, fun p hp => ?_⟩
    obtain ⟨y1, y2, y3, y4⟩ := zb p hp
    exact ⟨by omega, y2, y3, y4⟩
  · have := y.1; omega
theorem rt_yback {post : Int32 → SY → Prop} {f_numbered : Int64} {f_down f_seen : Int32} {b_row b_state b_count b_lock b_isWrite b_where b_what : Nat → Int32} {b_least : Nat → Int64} {t : Nat} {v2 : Int32} (ht : t < 4) (hd : f_down = 0) (h2 : b_state t ≠ 1 → post 2 (f_numbered, f_down, f_seen, b_row, b_state, b_count, b_least, b_lock, b_isWrite, b_where, b_what)) (h0 : b_state t = 1 → (v2 < 0 → post 5 (f_numbered, f_down, f_seen, b_row, b_state, b_count, b_least, b_lock, b_isWrite, b_where, b_what)) ∧ (¬ v2 < 0 → ((v2 ≤ b_count t → wpY_undo (fun u => post 0 u) (f_numbered, f_down, f_seen, b_row, b_state, b_count, b_least, b_lock, b_isWrite, b_where, b_what) (nI t) v2) ∧ (¬ v2 ≤ b_count t → post 5 (f_numbered, f_down, f_seen, b_row, b_state, b_count, b_least, b_lock, b_isWrite, b_where, b_what))))) : wpY_back post (f_numbered, f_down, f_seen, b_row, b_state, b_count, b_least, b_lock, b_isWrite, b_where, b_what) (nI t) v2 := by
  have hin : vp_in (nI t) 4 := vp_in_nI ht (by omega)
  unfold wpY_back
  refine rt_yam (N := 4) (by omega) ht (br_f rt_h10 (br_t hd ?_))
  rw [nI_clamp (by omega)]
  refine ⟨hin, br_c (fun z => ?_) h2⟩
  obtain ⟨a, b⟩ := h0 z
  exact ⟨a, fun y => ⟨hin, b y⟩⟩
theorem i_vc_back {k : Nat} {u : SX} {v : SY} (I : i_Rel k u v) (hk : k + 4 ≤ 2048) (v1 : Int32) (v2 : Int32) : wpX_back (fun r u' => wpY_back (fun r' v' => r' = r ∧ i_Rel (k + 4) u' v') v v1 v2) u v1 v2 := by
  refine rt_el (P := fun u v => wpX_back (fun r u' => wpY_back (fun r' v' => r' = r ∧ i_Rel (k + 4) u' v') v v1 v2) u v1 v2) I ?_ ?_
  · intro L s e f c q la f_broken f_fuse f_found
    intro a_disk a_diskLsn a_logKind a_logSlot a_logRecord a_logValue a_logBefore a_logBack a_logNumber a_checkPage a_checkState a_checkUndo a_checkFirst a_checkNumber a_page a_lsn a_since a_held a_state a_undo a_first a_number a_effect a_locks a_lacking b_state b_count b_least b_lock b_isWrite b_where b_what h IH
    obtain ⟨hS, hT, hCE, ⟨hla, he, hq⟩, hTR, hLK⟩ := h
    have hL := rt_SY_L hS
    have hW := rt_wf hL.1 e (Nat.le_refl _)
    unfold wpX_back
    refine rt_xmiss (fun z => ?_) (fun t ht e z => absurd z rt_h10) (fun t ht e z y => ?_) (fun t ht e z y yy => ?_)
    · refine br_f (by decide) ?_
      unfold wpY_back
      exact rt_yam0 (N := 4) (by omega) z (br_t rfl ⟨rfl, IH⟩)
    · subst e
      have hs1 : b_state t ≠ 1 := by
        rw [(hTR t ht).1]
        rcases y with y | y
        · rw [y]; exact rt_h01
        · exact y.2
      exact br_f (by decide) (rt_yback ht rfl (fun _ => ⟨rfl, IH⟩) (fun w => absurd w hs1))
    · subst e
      have hs : a_state t = 1 := yy.elim (fun w => absurd w rt_h10) id
      have hs0 : a_state t ≠ 0 := y
      have hbs : b_state t = 1 := (hTR t ht).1.trans hs
      have hpr := (rt_st1 hT hW ht).2.1 hs
      have hef := (hTR t ht).2.1
      obtain ⟨y1, y2, y3, y4⟩ := (hTR t ht).2.2.2.1 hs0
      have hl10 := (hW.1 t ht).2.1
      have hin : vp_in (nI t) 4 := vp_in_nI ht (by omega)
      refine br_t rfl ?_
      by_cases hneg : v2 < 0
      · exact br_t hneg (rt_yback ht rfl (fun w => absurd hbs w) (fun _ => br_t hneg ⟨rfl, IH⟩))
      · obtain ⟨n, hn, rfl⟩ := nI_of hneg
        refine br_f hneg ⟨hin, ?_⟩
        rw [nI_clamp (show t < 2 ^ 31 by omega), hef]
        refine pk_le n (rt_ch (rt_A L e) t).length (fun hle => ?_) (fun hlt => ?_)
        · obtain ⟨d, hd⟩ : ∃ d, n + d = (rt_ch (rt_A L e) t).length := ⟨(rt_ch (rt_A L e) t).length - n, by omega⟩
          refine ⟨d + 1, rt_xback ht d hla hS hT (by rw [hd]; exact hef) hd.symm (by omega) (by omega) ?_⟩
          intro L' s' f' c' b d1 d2 d3 d4 d5 d6 d7 d8 d9 d10 d11 d12 d13 d14 d15 d16 d17 d18 d19 d20 hb hf hE hS' hT' he1 he2 hCE'
          rw [wX_back_29]
          dsimp only
          rw [nI_clamp (show t < 2 ^ 31 by omega), he1]
          refine ⟨hin, br_t (nI_le (Nat.le_refl _) (by omega)) ?_⟩
          refine rt_yback ht rfl (fun w => absurd hbs w) (fun _ => br_f hneg (br_t (by rw [y1]; exact nI_le hle (by omega)) ?_))
          refine ⟨_, rt_yundo (L := L) ht (rt_ch (rt_A L e) t) hle hl10 y1 y3 (fun c hc => (rt_Cn_mem (hW.1 t ht).1 c hc).2.2.2.2) ⟨rfl, ?_⟩⟩
          refine rt_inU (L := L') (e := e + d) ⟨hS', hT', hCE' hpr hCE, ⟨hb, by omega, by omega⟩, fun u hu => rt_TR_Ev hW ht hu hE hd hpr (hTR u hu) he1 he2, hLK⟩ ?_
          rw [hE.2.2.1, show (rt_ch (rt_A L e) t).length - n = d by omega]
        · exact rt_yback ht rfl (fun w => absurd hbs w) (fun _ => br_f hneg (br_f (by rw [y1]; exact nI_ge hlt hn) ⟨rfl, IH⟩))
  · intros; rename_i h IH
    unfold wpX_back
    refine rt_xmiss (fun z => ?_) (fun t ht e z => ?_) (fun t ht e z y => absurd rfl z) (fun t ht e z y _ => absurd rfl z)
    · refine br_f (by decide) ?_
      unfold wpY_back
      exact rt_yam0 (N := 4) (by omega) z (br_t rfl ⟨rfl, IH⟩)
    · subst e
      refine br_f (by decide) ?_
      unfold wpY_back
      exact rt_yam (N := 4) (by omega) ht (br_f rt_h10 (br_f rt_h10 ⟨rfl, IH⟩))
theorem rt_ycommit {post : Int32 → SY → Prop} {f_numbered : Int64} {f_down f_seen : Int32} {b_row b_state b_count b_lock b_isWrite b_where b_what : Nat → Int32} {b_least : Nat → Int64} {v1 : Int32} (h5 : (v1 < 0 ∨ nI 4 ≤ v1) → post 5 (f_numbered, f_down, f_seen, b_row, b_state, b_count, b_least, b_lock, b_isWrite, b_where, b_what)) (h1 : ∀ t, t < 4 → v1 = nI t → f_down ≠ 0 → post 1 (f_numbered, f_down, f_seen, b_row, b_state, b_count, b_least, b_lock, b_isWrite, b_where, b_what))
    (h2 : ∀ t, t < 4 → v1 = nI t → f_down = 0 → b_state t = 0 → post 2 (f_numbered, f_down, f_seen, b_row, b_state, b_count, b_least, b_lock, b_isWrite, b_where, b_what)) (h0 : ∀ t, t < 4 → v1 = nI t → f_down = 0 → b_state t ≠ 0 → post 0 (f_numbered, f_down, f_seen, b_row, upd b_state t 0, b_count, b_least, b_lock, b_isWrite, b_where, b_what)) : wpY_commit post (f_numbered, f_down, f_seen, b_row, b_state, b_count, b_least, b_lock, b_isWrite, b_where, b_what) v1 := by
  unfold wpY_commit
  refine rt_yending (fun z => br_f (by decide) (h5 z)) (fun t ht e z => br_f (by decide) (h1 t ht e z)) (fun t ht e z y => br_f (by decide) (h2 t ht e z y)) (fun t ht e z y => br_t rfl ?_)
  have h := h0 t ht e z y
  subst e
  refine ⟨vp_in_nI ht (by omega), ?_⟩
  rw [nI_clamp (by omega)]
  exact nm_e h
theorem rt_e0 {a : Nat} (ha : a < 2 ^ 31) : rt_e a = -1 ↔ a = 0 := rt_e_eq (b := 0) ha (by omega)
theorem i_vc_commit {k : Nat} {u : SX} {v : SY} (I : i_Rel k u v) (hk : k + 4 ≤ 2048) (v1 : Int32) : wpX_commit (fun r u' => wpY_commit (fun r' v' => r' = r ∧ i_Rel (k + 4) u' v') v v1) u v1 := by
  refine rt_el (P := fun u v => wpX_commit (fun r u' => wpY_commit (fun r' v' => r' = r ∧ i_Rel (k + 4) u' v') v v1) u v1) I ?_ ?_
  · intro L s e f c q la f_broken f_fuse f_found
    intro a_disk a_diskLsn a_logKind a_logSlot a_logRecord a_logValue a_logBefore a_logBack a_logNumber a_checkPage a_checkState a_checkUndo a_checkFirst a_checkNumber a_page a_lsn a_since a_held a_state a_undo a_first a_number a_effect a_locks a_lacking b_state b_count b_least b_lock b_isWrite b_where b_what h IH
    obtain ⟨hS, hT, hCE, ⟨hla, he, hq⟩, hTR, hLK⟩ := h
    have hL := rt_SY_L hS
    have hW := rt_wf hL.1 e (Nat.le_refl _)
    unfold wpX_commit
    refine rt_xmiss (fun z => ?_) (fun t ht e z => absurd z rt_h10) (fun t ht e z y => ?_) (fun t ht e z y yy => ?_)
    · exact br_f (by decide) (rt_ycommit (fun _ => ⟨rfl, IH⟩) (fun _ _ _ w => absurd rfl w) (fun t ht e => absurd z (by rw [e]; exact rt_ixn ht (by omega))) (fun t ht e => absurd z (by rw [e]; exact rt_ixn ht (by omega))))
    · subst e
      have y0 := y.elim id (fun y => absurd rfl y.1)
      refine br_f (by decide) (rt_ycommit (fun z => absurd z (rt_ixn ht (by omega))) (fun _ _ _ w => absurd rfl w) (fun _ _ _ _ _ => ⟨rfl, IH⟩) (fun t' ht' e _ x => ?_))
      have e' := rt_inj (by omega) ht ht' e
      subst e'
      exact absurd ((hTR t' ht).1.trans y0) x
    · subst e
      have hin : vp_in (nI t) 4 := vp_in_nI ht (by omega)
      have hc : (nI t).toNatClampNeg = t := nI_clamp (by omega)
      have hbs : b_state t ≠ 0 := by rw [(hTR t ht).1]; exact y
      have hfi : rt_fi (rt_A L e) t ≤ e := by
        by_cases z : rt_fi (rt_A L e) t = 0
        · omega
        · exact (rt_win hL.1 ht z).1
      have hY : ∀ {P : Int32 → SY → Prop}, P 0 (lN q, 0, f_found, rt_row (rt_A L e), upd b_state t 0, b_count, b_least, b_lock, b_isWrite, b_where, b_what) → wpY_commit P (lN q, 0, f_found, rt_row (rt_A L e), b_state, b_count, b_least, b_lock, b_isWrite, b_where, b_what) (nI t) := by
        intro P hP
        refine rt_ycommit (fun z => absurd z (rt_ixn ht (by omega))) (fun _ _ _ w => absurd rfl w) (fun t' ht' e _ x => ?_) (fun t' ht' e _ x => ?_)
        · have e' := rt_inj (by omega) ht ht' e
          subst e'
          exact absurd x hbs
        · have e' := rt_inj (by omega) ht ht' e
          subst e'
          exact hP
      refine br_t rfl ⟨hin, ?_⟩
      rw [hc]
      refine rt_beq (rt_fi (rt_A L e) t) 0 (hT t ht).2.1 rfl (by omega) (by omega) (fun hf => ?_) (fun hf => ?_)
      · obtain ⟨hc0, hn0, hp0⟩ := (hW.1 t ht).2.2.1 hf
        unfold wX_commit_42
        refine rt_leave ht (hY ⟨rfl, ?_⟩)
        exact rt_inU (L := L) (e := e) ⟨hS, rt_TX_L0 hT hf hc0 hn0, hCE, ⟨hla, by omega, by omega⟩, rt_TR_leave hW ht (fun _ _ => rfl) (fun _ _ => ⟨rfl, rfl, rfl⟩) hc0 hp0 hTR (fun _ _ => rfl) (fun _ _ => rfl), rt_LK_zr hLK⟩ rfl
      · have hv : rt_VL (rt_A L e) (5, t, 0, 0, 0, 0, q) := ⟨Or.inl rfl, ht, hf⟩
        refine rt_log (x := (5, t, 0, 0, 0, 0, q)) (show 5 < 16 by omega) (show 0 < 16 by omega) rfl rfl (by omega) hS hT (Or.inr (Or.inr (Or.inl hv))) ht ?_
        intro s' f' c' d1 d2 d3 d4 d5 d6 d7 d8 d9 d10 d11 d12 d13 d14 d15 hf' hS'
        have hf1 := (rt_SY_L hS').2.2.2.2.1
        unfold wX_commit_42
        refine rt_leave ht (hY ⟨rfl, ?_⟩)
        have hA : rt_A (rt_u L e (5, t, 0, 0, 0, 0, q)) (e + 1) = rt_apL (5, t, 0, 0, 0, 0, q) (rt_A L e) := by rw [rt_A_ap, rt_ap_L hv.1]
        refine rt_inU (q := q) (L := rt_u L e (5, t, 0, 0, 0, 0, q)) (e := e + 1) ⟨rt_SY_nt hS' (by rw [rt_us]; show 4 < 5; omega) hf1 (Nat.le_refl _), ?_, rt_CE_r, ⟨hla, by omega, by omega⟩, ?_, rt_LK_zr hLK⟩ ?_
        · rw [hA]; exact rt_TX_L (x := (5, t, 0, 0, 0, 0, q)) hT
        · rw [hA]
          exact rt_TR_leave hW ht (fun j hj => rt_uo (by omega)) (fun u hu => ⟨rt_uo hu, rt_uo hu, rt_uo hu⟩) rt_us rt_us hTR (fun _ _ => rfl) (fun _ _ => rfl)
        · rw [hA]; rfl
  · intros; rename_i h IH
    unfold wpX_commit
    refine rt_xmiss (fun z => ?_) (fun t ht e z => ?_) (fun t ht e z y => absurd rfl z) (fun t ht e z y _ => absurd rfl z)
    · exact br_f (by decide) (rt_ycommit (fun _ => ⟨rfl, IH⟩) (fun t ht e => absurd z (by rw [e]; exact rt_ixn ht (by omega))) (fun _ _ _ w => absurd w rt_h10) (fun _ _ _ w => absurd w rt_h10))
    · exact br_f (by decide) (rt_ycommit (fun z => absurd z (by rw [e]; exact rt_ixn ht (by omega))) (fun _ _ _ _ => ⟨rfl, IH⟩) (fun _ _ _ w => absurd w rt_h10) (fun _ _ _ w => absurd w rt_h10))
end
section
/-! ## abort -/
theorem rt_yabort {post : Int32 → SY → Prop} {f_numbered : Int64} {f_down f_seen : Int32} {b_row b_state b_count b_lock b_isWrite b_where b_what : Nat → Int32} {b_least : Nat → Int64} {L : Nat → rt_Rc} {t : Nat} {cs : List Nat} (ht : t < 4) (hd : f_down = 0) (hs : b_state t ≠ 0) (hl : cs.length ≤ 10) (hc : b_count t = nI cs.length) (hE : rt_RE L t b_isWrite b_where b_what cs) (hr : ∀ c, c ∈ cs → rt_rr (L c) < 12)
    (H : post 0 (f_numbered, f_down, f_seen, rt_ul L b_row cs, upd b_state t 0, upd b_count t 0, b_least, b_lock, b_isWrite, b_where, b_what)) : wpY_abort post (f_numbered, f_down, f_seen, b_row, b_state, b_count, b_least, b_lock, b_isWrite, b_where, b_what) (nI t) := by
  have hin : vp_in (nI t) 4 := vp_in_nI ht (by omega)
  unfold wpY_abort
  refine rt_yending (fun z => absurd z (rt_ixn ht (by omega))) (fun t' ht' e z => absurd hd z) (fun t' ht' e z y => ?_) (fun t' ht' e z y => br_t rfl ?_)
  · have e' := rt_inj (by omega) ht ht' e
    subst e'
    exact absurd y hs
  · refine ⟨_, rt_yundo (L := L) (n := 0) ht cs (Nat.zero_le _) hl hc hE hr ?_⟩
    dsimp only
    rw [nI_clamp (by omega)]
    refine ⟨hin, nm_e ?_⟩
    rw [Nat.sub_zero, List.take_length]
    exact H
theorem rt_yabort' {post : Int32 → SY → Prop} {f_numbered : Int64} {f_down f_seen : Int32} {b_row b_state b_count b_lock b_isWrite b_where b_what : Nat → Int32} {b_least : Nat → Int64} {v1 : Int32} (h5 : (v1 < 0 ∨ nI 4 ≤ v1) → post 5 (f_numbered, f_down, f_seen, b_row, b_state, b_count, b_least, b_lock, b_isWrite, b_where, b_what)) (h1 : ∀ t, t < 4 → v1 = nI t → f_down ≠ 0 → post 1 (f_numbered, f_down, f_seen, b_row, b_state, b_count, b_least, b_lock, b_isWrite, b_where, b_what))
    (h2 : ∀ t, t < 4 → v1 = nI t → f_down = 0 → b_state t = 0 → post 2 (f_numbered, f_down, f_seen, b_row, b_state, b_count, b_least, b_lock, b_isWrite, b_where, b_what)) (h0 : ∀ t, t < 4 → v1 = nI t → f_down = 0 → b_state t ≠ 0 → False) : wpY_abort post (f_numbered, f_down, f_seen, b_row, b_state, b_count, b_least, b_lock, b_isWrite, b_where, b_what) v1 := by
  unfold wpY_abort
  exact rt_yending (fun z => br_f (by decide) (h5 z)) (fun t ht e z => br_f (by decide) (h1 t ht e z)) (fun t ht e z y => br_f (by decide) (h2 t ht e z y)) (fun t ht e z y => absurd (h0 t ht e z y) (fun z => z))
theorem i_vc_abort {k : Nat} {u : SX} {v : SY} (I : i_Rel k u v) (hk : k + 4 ≤ 2048) (v1 : Int32) : wpX_abort (fun r u' => wpY_abort (fun r' v' => r' = r ∧ i_Rel (k + 4) u' v') v v1) u v1 := by
  refine rt_el (P := fun u v => wpX_abort (fun r u' => wpY_abort (fun r' v' => r' = r ∧ i_Rel (k + 4) u' v') v v1) u v1) I ?_ ?_
  · intro L s e f c q la f_broken f_fuse f_found
    intro a_disk a_diskLsn a_logKind a_logSlot a_logRecord a_logValue a_logBefore a_logBack a_logNumber a_checkPage a_checkState a_checkUndo a_checkFirst a_checkNumber a_page a_lsn a_since a_held a_state a_undo a_first a_number a_effect a_locks a_lacking b_state b_count b_least b_lock b_isWrite b_where b_what h IH
    obtain ⟨hS, hT, hCE, ⟨hla, he, hq⟩, hTR, hLK⟩ := h
    have hL := rt_SY_L hS
    have hW := rt_wf hL.1 e (Nat.le_refl _)
    unfold wpX_abort
    refine rt_xmiss (fun z => ?_) (fun t ht e z => absurd z rt_h10) (fun t ht e z y => ?_) (fun t ht e z y yy => ?_)
    · exact br_f (by decide) (rt_yabort' (fun _ => ⟨rfl, IH⟩) (fun _ _ _ w => absurd rfl w) (fun t ht e => absurd z (by rw [e]; exact rt_ixn ht (by omega))) (fun t ht e => absurd z (by rw [e]; exact rt_ixn ht (by omega))))
    · subst e
      have y0 := y.elim id (fun y => absurd rfl y.1)
      refine br_f (by decide) (rt_yabort' (fun z => absurd z (rt_ixn ht (by omega))) (fun _ _ _ w => absurd rfl w) (fun _ _ _ _ _ => ⟨rfl, IH⟩) (fun t' ht' e _ x => ?_))
      have e' := rt_inj (by omega) ht ht' e
      subst e'
      exact absurd ((hTR t' ht).1.trans y0) x
    · subst e
      have hin : vp_in (nI t) 4 := vp_in_nI ht (by omega)
      have hc : (nI t).toNatClampNeg = t := nI_clamp (by omega)
      have hs0 : a_state t ≠ 0 := y
      have hbs : b_state t ≠ 0 := by rw [(hTR t ht).1]; exact y
      have hef := (hTR t ht).2.1
      obtain ⟨y1, y2, y3, y4⟩ := (hTR t ht).2.2.2.1 hs0
      have hl10 := (hW.1 t ht).2.1
      have hfi : rt_fi (rt_A L e) t ≤ e := by
        by_cases z : rt_fi (rt_A L e) t = 0
        · omega
        · exact (rt_win hL.1 ht z).1
      have hst := rt_st1 hT hW ht
      have hY : ∀ {P : Int32 → SY → Prop}, P 0 (lN q, 0, f_found, rt_ul L (rt_row (rt_A L e)) (rt_ch (rt_A L e) t), upd b_state t 0, upd b_count t 0, b_least, b_lock, b_isWrite, b_where, b_what) → wpY_abort P (lN q, 0, f_found, rt_row (rt_A L e), b_state, b_count, b_least, b_lock, b_isWrite, b_where, b_what) (nI t) :=
        fun hP => rt_yabort (L := L) ht rfl hbs hl10 y1 y3 (fun c hc => (rt_Cn_mem (hW.1 t ht).1 c hc).2.2.2.2) hP
      refine br_t rfl ⟨(rt_ch (rt_A L e) t).length + 1, rt_xabort ht (rt_ch (rt_A L e) t).length hla hS hT (by rw [Nat.zero_add]; exact hef) (Nat.zero_add _).symm (by omega) (by omega) ?_⟩
      intro L' s' f' c' b d1 d2 d3 d4 d5 d6 d7 d8 d9 d10 d11 d12 d13 d14 d15 d16 d17 d18 d19 d20 hb hf hE hS' hT' he1 he2 hCE'
      generalize hlen : (rt_ch (rt_A L e) t).length = len at *
      obtain ⟨E1, E2, E3, E4, E5, E6, E7⟩ := hE
      rw [← hlen, List.take_length] at E3
      rw [← hlen, List.drop_length] at E4
      have hch' : rt_ch (rt_A L' (e + len)) t = [] := by rw [hlen] at E4; rw [E4]; exact rt_us
      have hL' := rt_SY_L hS'
      rw [hlen] at E3 E4
      have ho : ∀ u, u ≠ t → rt_ch (rt_A L' (e + len)) u = rt_ch (rt_A L e) u ∧ rt_nu (rt_A L' (e + len)) u = rt_nu (rt_A L e) u ∧ rt_pr (rt_A L' (e + len)) u = rt_pr (rt_A L e) u :=
        fun u hu => ⟨by rw [E4]; exact rt_uo hu, by rw [E6], by rw [E7]⟩
      rw [wX_abort_13]
      dsimp only
      rw [hc, he1]
      refine ⟨hin, br_t (nI_le (a := 0) (b := 0) (by omega) (by omega)) ⟨hin, ?_⟩⟩
      have hT'1 := (hT' t ht).2.1
      refine rt_beq (rt_fi (rt_A L' (e + len)) t) 0 hT'1 rfl (by rw [E5]; omega) (by omega) (fun hf0 => ?_) (fun hf0 => ?_)
      · have hf0' : rt_fi (rt_A L e) t = 0 := by rw [E5] at hf0; exact hf0
        obtain ⟨hc0, hn0, hp0⟩ := (hW.1 t ht).2.2.1 hf0'
        have hs1 : ¬ a_state t = 2 := fun z => (hst.2.2.2 z).2 hf0'
        unfold wX_abort_52
        rw [hc]
        refine ⟨hin, br_f hs1 ?_⟩
        unfold wX_abort_70
        refine rt_leave ht (hY ⟨rfl, ?_⟩)
        exact rt_inU (L := L') (e := e + len) ⟨hS', rt_TX_L0 hT' hf0 hch' (by rw [E6]; exact hn0), hCE' hp0 hCE, ⟨hb, by omega, by omega⟩, rt_TR_leave hW ht E2 ho hch' (by rw [E7]; exact hp0) hTR he2 (fun u hu => pk_un hu), rt_LK_zr hLK⟩ E3.symm
      · have hv : rt_VL (rt_A L' (e + len)) (6, t, 0, 0, 0, 0, q) := ⟨Or.inr rfl, ht, hf0⟩
        refine rt_log (x := (6, t, 0, 0, 0, 0, q)) (show 6 < 16 by omega) (show 0 < 16 by omega) rfl rfl (by omega) hS' hT' (Or.inr (Or.inr (Or.inl hv))) ht ?_
        intro s2 f2 c2 g1 g2 g3 g4 g5 g6 g7 g8 g9 g10 g11 g12 g13 g14 g15 hf2 hS2
        have hf1 := (rt_SY_L hS2).2.2.2.2.1
        have hA : rt_A (rt_u L' (e + len) (6, t, 0, 0, 0, 0, q)) (e + len + 1) = rt_apL (6, t, 0, 0, 0, 0, q) (rt_A L' (e + len)) := by rw [rt_A_ap, rt_ap_L hv.1]
        have hTX := rt_TX_L (x := (6, t, 0, 0, 0, 0, q)) hT'
        rw [← hA] at hTX
        have hTR' := rt_TR_leave (L' := rt_u L' (e + len) (6, t, 0, 0, 0, 0, q)) (a' := rt_apL (6, t, 0, 0, 0, 0, q) (rt_A L' (e + len))) (b_count' := upd b_count t 0) hW ht (fun j hj => (rt_uo (by omega)).trans (E2 j hj)) (fun u hu => ⟨(rt_uo hu).trans (ho u hu).1, (rt_uo hu).trans (ho u hu).2.1, (rt_uo hu).trans (ho u hu).2.2⟩) rt_us rt_us hTR he2 (fun u hu => pk_un hu)
        rw [← hA] at hTR'
        have hrow : rt_ul L (rt_row (rt_A L e)) (rt_ch (rt_A L e) t) = rt_row (rt_A (rt_u L' (e + len) (6, t, 0, 0, 0, 0, q)) (e + len + 1)) := by rw [hA]; exact E3.symm
        dsimp only
        unfold wX_abort_52
        rw [hc]
        refine ⟨hin, br_c (fun hs2 => ?_) (fun hs2 => ?_)⟩
        · unfold wX_abort_70
          refine rt_leave ht (hY ⟨rfl, ?_⟩)
          exact rt_inU (q := q) (L := rt_u L' (e + len) (6, t, 0, 0, 0, 0, q)) (e := e + len + 1) ⟨rt_SY_nt hS2 (by rw [rt_us]; show 4 < 6; omega) hf1 (Nat.le_refl _), hTX, rt_CE_r, ⟨hb, by omega, by omega⟩, hTR', rt_LK_zr hLK⟩ hrow
        · have hp0 : rt_pr (rt_A L e) t = false := by
            cases hp : rt_pr (rt_A L e) t with
            | true => exact absurd (hst.2.2.1 hp) hs2
            | false => rfl
          unfold wX_abort_70
          refine rt_leave ht (hY ⟨rfl, ?_⟩)
          exact rt_inU (q := q) (L := rt_u L' (e + len) (6, t, 0, 0, 0, 0, q)) (e := e + len + 1) ⟨rt_SY_nt hS2 (by rw [rt_us]; show 4 < 6; omega) (Nat.le_refl _) hf1, hTX, rt_CE_le (rt_CE_L hL'.1 (hCE' hp0 hCE) hv hch' (by rw [E7]; exact hp0)) hf2, ⟨hb, by omega, by omega⟩, hTR', rt_LK_zr hLK⟩ hrow
  · intros; rename_i h IH
    unfold wpX_abort
    refine rt_xmiss (fun z => ?_) (fun t ht e z => ?_) (fun t ht e z y => absurd rfl z) (fun t ht e z y _ => absurd rfl z)
    · exact br_f (by decide) (rt_yabort' (fun _ => ⟨rfl, IH⟩) (fun t ht e => absurd z (by rw [e]; exact rt_ixn ht (by omega))) (fun _ _ _ w => absurd w rt_h10) (fun _ _ _ w => absurd w rt_h10))
    · exact br_f (by decide) (rt_yabort' (fun z => absurd z (by rw [e]; exact rt_ixn ht (by omega))) (fun _ _ _ _ => ⟨rfl, IH⟩) (fun _ _ _ w => absurd w rt_h10) (fun _ _ _ w => absurd w rt_h10))
end
section
/-! ## relock, prepare -/
theorem rt_ak_ex {L : Nat → rt_Rc} {r : Nat} : ∀ {cs : List Nat}, (rt_ak L r cs ≠ 0 → ∃ c, c ∈ cs ∧ rt_rr (L c) = r) ∧ (rt_ak L r cs = 3 → ∃ c, c ∈ cs ∧ rt_rr (L c) = r ∧ rt_rk (L c) = 1) := by
  intro cs
  induction cs with
  | nil => exact ⟨fun z => absurd rfl z, fun z => (by cases z)⟩
  | cons c cs ih =>
    unfold rt_ak
    by_cases h : rt_rr (L c) = r
    · rw [if_pos h]
      refine ⟨fun _ => ⟨c, List.mem_cons_self, h⟩, fun z => ?_⟩
      by_cases hk : rt_rk (L c) = 1
      · exact ⟨c, List.mem_cons_self, h, hk⟩
      · rw [if_neg hk] at z
        obtain ⟨d, d1, d2⟩ := ih.2 (by omega)
        exact ⟨d, List.mem_cons_of_mem _ d1, d2⟩
    · rw [if_neg h]
      refine ⟨fun z => ?_, fun z => ?_⟩
      · obtain ⟨d, d1, d2⟩ := ih.1 z
        exact ⟨d, List.mem_cons_of_mem _ d1, d2⟩
      · obtain ⟨d, d1, d2⟩ := ih.2 z
        exact ⟨d, List.mem_cons_of_mem _ d1, d2⟩
theorem rt_ak_c {L : Nat → rt_Rc} {r c : Nat} {cs : List Nat} : rt_ak L r (c :: cs) = if rt_rr (L c) = r then max (if rt_rk (L c) = 1 then 3 else 2) (rt_ak L r cs) else rt_ak L r cs := rfl
theorem rt_rl40 {post : SX → Prop} {f_logStart f_logEnd f_forced f_checkLsn f_latest f_up f_broken f_fuse f_accepted f_found : Int32} {a_disk a_diskLsn a_logKind a_logSlot a_logRecord a_logValue a_logBefore a_logBack a_logNumber a_checkPage a_checkState a_checkUndo a_checkFirst a_checkNumber a_page a_lsn a_since a_held a_state a_undo a_first a_number a_lacking : Nat → Int32} {L : Nat → rt_Rc} {s e t fi : Nat} (ht : t < 4) (hR : rt_RG L s e a_logKind a_logSlot a_logRecord a_logValue a_logBefore a_logBack a_logNumber) (he : e < 1073741824) (hsf : s < fi) :
    ∀ (cs : List Nat) (m : Nat) (ef lk : Nat → Int32) (acc : Nat → Nat), rt_Cn L e t fi cs → m + cs.length ≤ 10 → ef t = nI m → (∀ r, r < 12 → lk (12 * t + r) = nI (acc r) ∧ (acc r = 0 ∨ acc r = 2 ∨ acc r = 3)) →
    (∀ ef' lk', ef' t = nI (m + cs.length) → (∀ u, u ≠ t → ef' u = ef u) → (∀ r, r < 12 → lk' (12 * t + r) = nI (max (acc r) (rt_ak L r cs))) → (∀ u r, u ≠ t → r < 12 → lk' (12 * u + r) = lk (12 * u + r)) → post (f_logStart, f_logEnd, f_forced, f_checkLsn, f_latest, f_up, f_broken, f_fuse, f_accepted, f_found, a_disk, a_diskLsn, a_logKind, a_logSlot, a_logRecord, a_logValue, a_logBefore, a_logBack, a_logNumber, a_checkPage, a_checkState, a_checkUndo, a_checkFirst, a_checkNumber, a_page, a_lsn, a_since, a_held, a_state, a_undo, a_first, a_number, ef', lk', a_lacking)) →
    wX_relock_40 post (nI t) f_logStart f_logEnd f_forced f_checkLsn f_latest f_up f_broken f_fuse f_accepted f_found (cs.length + 1) (rt_e (rt_hd cs)) a_disk a_diskLsn a_logKind a_logSlot a_logRecord a_logValue a_logBefore a_logBack a_logNumber a_checkPage a_checkState a_checkUndo a_checkFirst a_checkNumber a_page a_lsn a_since a_held a_state a_undo a_first a_number ef lk a_lacking := by
  have hin : vp_in (nI t) 4 := vp_in_nI ht (by omega)
  have hc : (nI t).toNatClampNeg = t := nI_clamp (by omega)
  intro cs
  induction cs with
  | nil =>
    intro m ef lk acc _ _ hef hlk H
    refine br_t rfl (H ef lk hef (fun _ _ => rfl) (fun r hr => ?_) (fun _ _ _ _ => rfl))
    show _ = nI (max (acc r) 0)
    rw [Nat.max_eq_left (Nat.zero_le _)]
    exact (hlk r hr).1
  | cons d ds ih =>
    intro m ef lk acc hCn hm hef hlk H
    obtain ⟨⟨c1, c2, c3, c4, c5, c6⟩, hCn'⟩ := hCn
    rw [List.length_cons] at hm H ⊢
    obtain ⟨r1, r2, r3, r4, r5, r6, r7⟩ := hR d (by omega) c1
    have hi : vp_in (nI (d % 256)) 256 := vp_in_nI (by omega) (by omega)
    have hci : (nI (d % 256)).toNatClampNeg = d % 256 := nI_clamp (by omega)
    have hi48 : vp_in (nI (12 * t + rt_rr (L d))) 48 := vp_in_nI (by omega) (by omega)
    have hc48 : (nI (12 * t + rt_rr (L d))).toNatClampNeg = 12 * t + rt_rr (L d) := nI_clamp (by omega)
    rw [wX_relock_40]
    dsimp only
    show ((rt_e (d + 1) = -1 → _) ∧ _)
    refine br_f (fun z => ?_) ?_
    · have := (rt_e0 (a := d + 1) (by omega)).mp z; omega
    show vp_in (nI d &&& 255) 256 ∧ _
    have ed : rt_e (rt_hd (d :: ds)) = nI d := rfl
    rw [ed, rt_a255 (by omega), hci, r1, r3, rt_12]
    refine ⟨hi, nm_e ⟨hi, ?_⟩⟩
    rw [hc48, rt_nb3, rt_nb2, (hlk _ c5).1]
    have fin : ∀ (lk1 : Nat → Int32) (w : Nat), (w = 2 ∨ w = 3) → lk1 (12 * t + rt_rr (L d)) = nI w → (∀ j, j ≠ 12 * t + rt_rr (L d) → lk1 j = lk j) → max (acc (rt_rr (L d))) (if rt_rk (L d) = 1 then 3 else 2) = w →
        wX_relock_101 post (wX_relock_40 post (nI t) f_logStart f_logEnd f_forced f_checkLsn f_latest f_up f_broken f_fuse f_accepted f_found (ds.length + 1)) (nI t) (nI d) f_logStart f_logEnd f_forced f_checkLsn f_latest f_up f_broken f_fuse f_accepted f_found a_disk a_diskLsn a_logKind a_logSlot a_logRecord a_logValue a_logBefore a_logBack a_logNumber a_checkPage a_checkState a_checkUndo a_checkFirst a_checkNumber a_page a_lsn a_since a_held a_state a_undo a_first a_number ef lk1 a_lacking := by
      intro lk1 w hw hl1 hl2 hmax
      unfold wX_relock_101
      rw [hc, rt_a255 (by omega), hci, r6, c6, hef, nI_1, rt_nb8 (by omega)]
      refine ⟨hin, hin, nm_e ⟨hi, nm_e ?_⟩⟩
      refine ih (m + 1) _ _ (rt_u acc (rt_rr (L d)) w) hCn' (by omega) pk_us (fun r hr => ?_) ?_
      · by_cases er : r = rt_rr (L d)
        · subst er; rw [rt_us, hl1]; exact ⟨rfl, Or.inr hw⟩
        · rw [rt_uo er, hl2 _ (by omega)]; exact hlk r hr
      · intro ef' lk' q1 q2 q3 q4
        refine H ef' lk' (by rw [q1]; congr 1; omega) (fun u hu => by rw [q2 u hu, pk_un hu]) (fun r hr => ?_) (fun u r hu hr => ?_)
        · rw [q3 r hr]
          rw [rt_ak_c]
          by_cases er : rt_rr (L d) = r
          · subst er
            rw [rt_us, if_pos rfl, ← hmax]
            congr 1; omega
          · rw [rt_uo (fun z => er z.symm), if_neg er]
        · rw [q4 u r hu hr]; exact hl2 _ (by omega)
    obtain ⟨_, hacc⟩ := hlk _ c5
    refine pk_eq (rt_rk (L d)) 1 (fun z => ⟨hi48, nm_e (fin _ 3 (Or.inr rfl) pk_us (fun j hj => pk_un hj) (by rw [if_pos z]; omega))⟩) (fun z => ⟨hi48, ?_⟩)
    refine pk_eq (acc (rt_rr (L d))) 0 (fun z0 => ⟨hi48, nm_e (fin _ 2 (Or.inl rfl) pk_us (fun j hj => pk_un hj) (by rw [if_neg z]; omega))⟩) (fun z0 => ?_)
    refine fin lk (acc (rt_rr (L d))) (by omega) (hlk _ c5).1 (fun j hj => rfl) (by rw [if_neg z]; omega)
theorem rt_rl2 {post : SX → Prop} {f_logStart f_logEnd f_forced f_checkLsn f_latest f_up f_broken f_fuse f_accepted f_found : Int32} {a_disk a_diskLsn a_logKind a_logSlot a_logRecord a_logValue a_logBefore a_logBack a_logNumber a_checkPage a_checkState a_checkUndo a_checkFirst a_checkNumber a_page a_lsn a_since a_held a_state a_undo a_first a_number a_effect a_lacking : Nat → Int32} {t x : Nat} (ht : t < 4) (hun : a_undo t = rt_e x) : ∀ (d i : Nat) (lk : Nat → Int32), i + d = 12 →
    (∃ n40 : Nat, wX_relock_40 post (nI t) f_logStart f_logEnd f_forced f_checkLsn f_latest f_up f_broken f_fuse f_accepted f_found n40 (rt_e x) a_disk a_diskLsn a_logKind a_logSlot a_logRecord a_logValue a_logBefore a_logBack a_logNumber a_checkPage a_checkState a_checkUndo a_checkFirst a_checkNumber a_page a_lsn a_since a_held a_state a_undo a_first a_number (upd a_effect t 0) (rt_zr lk t i) a_lacking) → wX_relock_2 post (nI t) f_logStart f_logEnd f_forced f_checkLsn f_latest f_up f_broken f_fuse f_accepted f_found (d + 1) (nI i) a_disk a_diskLsn a_logKind a_logSlot a_logRecord a_logValue a_logBefore a_logBack a_logNumber a_checkPage a_checkState a_checkUndo a_checkFirst a_checkNumber a_page a_lsn a_since a_held a_state a_undo a_first a_number a_effect lk a_lacking := by
  have hin : vp_in (nI t) 4 := vp_in_nI ht (by omega)
  have hc : (nI t).toNatClampNeg = t := nI_clamp (by omega)
  intro d
  induction d with
  | zero =>
    intro i lk hi H
    have e12 : i = 12 := by omega
    subst e12
    rw [rt_zr_12] at H
    exact br_t (nI_le (a := 12) (b := 12) (by omega) (by omega)) ⟨hin, nm_r (e' := upd a_effect t 0) (by rw [hc, rt_nb0]) ⟨hin, nm_r (e' := rt_e x) (by rw [hc, hun]) H⟩⟩
  | succ d ih =>
    intro i lk hi H
    refine br_f (nI_ge (b := 12) (by omega) (by omega)) ⟨?_, nm_r (e' := upd lk (12 * t + i) 0) ?_ (nm_r (nI_1 i) (ih (i + 1) _ (by omega) ?_))⟩
    · rw [rt_12]; exact vp_in_nI (by omega) (by omega)
    · rw [rt_12, nI_clamp (by omega), rt_nb0]
    · rw [rt_zr_s (by omega)]; exact H
theorem rt_relock {post : SX → Prop} {f_logStart f_logEnd f_forced f_checkLsn f_latest f_up f_broken f_fuse f_accepted f_found : Int32} {a_disk a_diskLsn a_logKind a_logSlot a_logRecord a_logValue a_logBefore a_logBack a_logNumber a_checkPage a_checkState a_checkUndo a_checkFirst a_checkNumber a_page a_lsn a_since a_held a_state a_undo a_first a_number a_effect a_locks a_lacking : Nat → Int32} {L : Nat → rt_Rc} {s e t fi : Nat} {cs : List Nat} (ht : t < 4) (hR : rt_RG L s e a_logKind a_logSlot a_logRecord a_logValue a_logBefore a_logBack a_logNumber) (he : e < 1073741824) (hsf : s < fi) (hCn : rt_Cn L e t fi cs) (hl : cs.length ≤ 10) (hun : a_undo t = rt_e (rt_hd cs))
    (H : ∀ ef' lk', ef' t = nI cs.length → (∀ u, u ≠ t → ef' u = a_effect u) → (∀ r, r < 12 → lk' (12 * t + r) = nI (rt_ak L r cs)) → (∀ u r, u ≠ t → r < 12 → lk' (12 * u + r) = a_locks (12 * u + r)) → post (f_logStart, f_logEnd, f_forced, f_checkLsn, f_latest, f_up, f_broken, f_fuse, f_accepted, f_found, a_disk, a_diskLsn, a_logKind, a_logSlot, a_logRecord, a_logValue, a_logBefore, a_logBack, a_logNumber, a_checkPage, a_checkState, a_checkUndo, a_checkFirst, a_checkNumber, a_page, a_lsn, a_since, a_held, a_state, a_undo, a_first, a_number, ef', lk', a_lacking)) : wpX_relock post (f_logStart, f_logEnd, f_forced, f_checkLsn, f_latest, f_up, f_broken, f_fuse, f_accepted, f_found, a_disk, a_diskLsn, a_logKind, a_logSlot, a_logRecord, a_logValue, a_logBefore, a_logBack, a_logNumber, a_checkPage, a_checkState, a_checkUndo, a_checkFirst, a_checkNumber, a_page, a_lsn, a_since, a_held, a_state, a_undo, a_first, a_number, a_effect, a_locks, a_lacking) (nI t) := by
  refine ⟨13, rt_rl2 ht hun 12 0 _ (by omega) ⟨cs.length + 1, ?_⟩⟩
  refine rt_rl40 ht hR he hsf cs 0 _ _ (fun _ => 0) hCn (by omega) pk_us (fun r hr => ⟨rt_zr_in hr, Or.inl rfl⟩) ?_
  intro ef' lk' q1 q2 q3 q4
  refine H ef' lk' (by rw [q1, Nat.zero_add]) (fun u hu => by rw [q2 u hu, pk_un hu]) (fun r hr => ?_) (fun u r hu hr => by rw [q4 u r hu hr, rt_zr_out hr hu])
  rw [q3 r hr, Nat.max_eq_right (Nat.zero_le _)]
/-- what the reference asks for -/
theorem rt_yasked {post : Int32 → Prop} {f_numbered : Int64} {f_down f_seen : Int32} {b_row b_state b_count b_lock b_isWrite b_where b_what : Nat → Int32} {b_least : Nat → Int64} {L : Nat → rt_Rc} {t r : Nat} {cs : List Nat} (ht : t < 4) (hr : r < 12) (hl : cs.length ≤ 10) (hc : b_count t = nI cs.length) (hE : rt_RE L t b_isWrite b_where b_what cs) (hrr : ∀ c, c ∈ cs → rt_rr (L c) < 12)
    (H : post (nI (rt_ak L r cs))) : ∀ d j : Nat, j + d = cs.length → wY_asked_8 post (nI t) (nI r) f_numbered f_down f_seen b_row b_state b_count b_least b_lock b_isWrite b_where b_what (d + 1) (nI (rt_ak L r (cs.drop d))) (nI (10 * t + j)) := by
  have hin : vp_in (nI t) 4 := vp_in_nI ht (by omega)
  have hct : (nI t).toNatClampNeg = t := nI_clamp (by omega)
  intro d
  induction d with
  | zero =>
    intro j hj
    rw [wY_asked_8]
    dsimp only
    rw [hct, hc, rt_10']
    exact ⟨hin, br_t (nI_le (by omega) (by omega)) H⟩
  | succ d ih =>
    intro j hj
    have hd : d < cs.length := by omega
    have edrop : cs.drop d = cs[d] :: cs.drop (d + 1) := List.drop_eq_getElem_cons hd
    have hRE := rt_RE_drop d hE
    rw [edrop] at hRE
    obtain ⟨⟨w1, w2, w3⟩, _⟩ := hRE
    have elen : (cs.drop (d + 1)).length = j := by rw [List.length_drop]; omega
    rw [elen] at w1 w2 w3
    have hrc := hrr cs[d] (List.getElem_mem hd)
    have ih' := ih (j + 1) (by omega)
    rw [edrop, rt_ak_c] at ih'
    have h023 := rt_ak_023 (L := L) (r := r) (cs.drop (d + 1))
    generalize rt_ak L r (cs.drop (d + 1)) = m at *
    have hin40 : vp_in (nI (10 * t + j)) 40 := vp_in_nI (by omega) (by omega)
    have hc40 : (nI (10 * t + j)).toNatClampNeg = 10 * t + j := nI_clamp (by omega)
    rw [wY_asked_8]
    dsimp only
    rw [hct, hc, rt_10', hc40, w1, w2]
    refine ⟨hin, br_f (nI_ge (by omega) (by omega)) ⟨hin40, ?_⟩⟩
    refine pk_eq (rt_rr (L cs[d])) r (fun z => ⟨hin40, ?_⟩) (fun z => ?_)
    · rw [if_pos z] at ih'
      by_cases hk : rt_rk (L cs[d]) = 1
      · rw [if_pos hk] at w1 ih' ⊢
        refine br_f rt_h10 ?_
        unfold wY_asked_49
        rw [hc40, w1]
        refine ⟨hin40, br_f rt_h10 (nm_r (nI_1 _) ?_)⟩
        rw [show max 3 m = 3 by omega] at ih'
        exact ih'
      · rw [if_neg hk] at w1 ih' ⊢
        refine br_t rfl ?_
        refine pk_eq m 0 (fun z0 => ?_) (fun z0 => nm_r (nI_1 _) ?_)
        · unfold wY_asked_49
          rw [hc40, w1]
          refine ⟨hin40, br_t rfl (nm_r (nI_1 _) ?_)⟩
          rw [show max 2 m = 2 by omega] at ih'
          exact ih'
        · rw [show max 2 m = m by omega] at ih'
          exact ih'
    · rw [if_neg z] at ih'
      exact nm_r (nI_1 _) ih'
def rt_sl (lk : Nat → Int32) (t i : Nat) (g : Nat → Int32) : Nat → Int32 := fun j => if 12 * t + i ≤ j ∧ j < 12 * t + 12 then g (j - 12 * t) else lk j
theorem rt_sl_12 {lk : Nat → Int32} {t : Nat} {g : Nat → Int32} : rt_sl lk t 12 g = lk := by
  funext j; exact if_neg (by omega)
theorem rt_sl_s {lk : Nat → Int32} {t i : Nat} {g : Nat → Int32} (hi : i < 12) : rt_sl (upd lk (12 * t + i) (g i)) t (i + 1) g = rt_sl lk t i g := by
  funext j
  unfold rt_sl
  by_cases e : j = 12 * t + i
  · subst e
    rw [if_neg (by omega), if_pos (by omega), pk_us, Nat.add_sub_cancel_left]
  · rw [pk_un e]
    by_cases h : 12 * t + (i + 1) ≤ j ∧ j < 12 * t + 12
    · rw [if_pos h, if_pos (by omega)]
    · rw [if_neg h, if_neg (by omega)]
theorem rt_sl_in {lk : Nat → Int32} {t k : Nat} {g : Nat → Int32} (hk : k < 12) : rt_sl lk t 0 g (12 * t + k) = g k := by
  unfold rt_sl
  rw [if_pos (by omega), Nat.add_sub_cancel_left]
theorem rt_sl_out {lk : Nat → Int32} {t u k : Nat} {g : Nat → Int32} (hk : k < 12) (hu : u ≠ t) : rt_sl lk t 0 g (12 * u + k) = lk (12 * u + k) := if_neg (by omega)
theorem rt_yprep45 {post : Int32 → SY → Prop} {f_numbered : Int64} {f_down f_seen : Int32} {b_row b_state b_count b_isWrite b_where b_what : Nat → Int32} {b_least : Nat → Int64} {L : Nat → rt_Rc} {t : Nat} {cs : List Nat} (ht : t < 4) (hl : cs.length ≤ 10) (hc : b_count t = nI cs.length) (hE : rt_RE L t b_isWrite b_where b_what cs) (hrr : ∀ c, c ∈ cs → rt_rr (L c) < 12) :
    ∀ (d i : Nat) (lk : Nat → Int32), i + d = 12 → post 0 (f_numbered, f_down, f_seen, b_row, upd b_state t 2, b_count, b_least, rt_sl lk t i (fun r => nI (rt_ak L r cs)), b_isWrite, b_where, b_what) → wY_prepare_45 post (nI t) f_numbered f_down f_seen (d + 1) (nI i) b_row b_state b_count b_least lk b_isWrite b_where b_what := by
  have hin : vp_in (nI t) 4 := vp_in_nI ht (by omega)
  have hct : (nI t).toNatClampNeg = t := nI_clamp (by omega)
  intro d
  induction d with
  | zero =>
    intro i lk hi H
    have e : i = 12 := by omega
    subst e
    rw [rt_sl_12] at H
    exact br_t (nI_le (a := 12) (b := 12) (by omega) (by omega)) ⟨hin, nm_r (e' := upd b_state t 2) (by rw [hct]) H⟩
  | succ d ih =>
    intro i lk hi H
    refine br_f (nI_ge (b := 12) (by omega) (by omega)) ?_
    unfold wpY_asked
    refine nm_r (e' := nI (10 * t + 0)) (by rw [← rt_10', nI_0, Int32.add_zero]) ⟨cs.length + 1, ?_⟩
    have hd0 : nI (rt_ak L i (cs.drop cs.length)) = 0 := by rw [List.drop_length]; rfl
    rw [← hd0]
    refine rt_yasked (L := L) (cs := cs) ht (by omega) hl hc hE hrr ?_ cs.length 0 (by omega)
    rw [rt_12', nI_clamp (by omega)]
    refine ⟨vp_in_nI (by omega) (by omega), nm_e (nm_r (nI_1 i) (ih (i + 1) _ (by omega) ?_))⟩
    have := rt_sl_s (lk := lk) (t := t) (g := fun r => nI (rt_ak L r cs)) (show i < 12 by omega)
    rw [this]
    exact H
end
section
/-! ## prepare; crash -/
theorem rt_TX_P {a : rt_AS} {x : rt_Rc} {st un fi nu : Nat → Int32} (h : rt_TX a st un fi nu) (hf : rt_fi a (rt_rs x) ≠ 0) : rt_TX (rt_apP x a) (upd st (rt_rs x) 2) un fi nu := by
  intro t ht
  obtain ⟨h1, h2, h3, h4, h5⟩ := h t ht
  by_cases e : t = rt_rs x
  · subst e
    rw [show rt_pr (rt_apP x a) (rt_rs x) = true from rt_us, pk_us]
    exact ⟨h1, h2, h3, fun _ => rfl, fun z => absurd z hf⟩
  · rw [show rt_pr (rt_apP x a) t = rt_pr a t from rt_uo e, pk_un e]
    exact ⟨h1, h2, h3, h4, h5⟩
theorem rt_SY_R {L : Nat → rt_Rc} {s e m f c q n : Nat} {a_disk a_diskLsn a_logKind a_logSlot a_logRecord a_logValue a_logBefore a_logBack a_logNumber a_checkPage a_checkState a_checkUndo a_checkFirst a_checkNumber a_page a_lsn a_since a_held : Nat → Int32} (h : rt_SY L s e m f c q n a_disk a_diskLsn a_logKind a_logSlot a_logRecord a_logValue a_logBefore a_logBack a_logNumber a_checkPage a_checkState a_checkUndo a_checkFirst a_checkNumber a_page a_lsn a_since a_held) : rt_RG L s e a_logKind a_logSlot a_logRecord a_logValue a_logBefore a_logBack a_logNumber ∧ (∀ n, c ≤ n → ∀ t, t < 4 → rt_fi (rt_A L n) t ≠ 0 → s < rt_fi (rt_A L n) t) := by
  obtain ⟨cp, pg, ls, si, dl, hB, hcp, hTc, hfc, hR, hL, z1, z2, z3, z4, z5, z6, z7⟩ := h
  exact ⟨hR, rt_fi_lo z1 hfc⟩
theorem rt_nIle {a b : Nat} (h : b ≤ a) (ha : a = 0 ∨ a = 2 ∨ a = 3) (hb : b = 2 ∨ b = 3) : (b = 3 → nI a = 3) ∧ (nI a = 3 ∨ nI a = 2) := by
  have : a = 2 ∨ a = 3 := by omega
  rcases this with rfl | rfl
  · exact ⟨fun z => by omega, Or.inr rfl⟩
  · exact ⟨fun _ => rfl, Or.inl rfl⟩
theorem rt_yprepare {post : Int32 → SY → Prop} {f_numbered : Int64} {f_down f_seen : Int32} {b_row b_state b_count b_lock b_isWrite b_where b_what : Nat → Int32} {b_least : Nat → Int64} {t : Nat} (ht : t < 4) (hd : f_down = 0) (h2 : b_state t ≠ 1 → post 2 (f_numbered, f_down, f_seen, b_row, b_state, b_count, b_least, b_lock, b_isWrite, b_where, b_what)) (h5 : b_state t = 1 → b_count t = 0 → post 5 (f_numbered, f_down, f_seen, b_row, b_state, b_count, b_least, b_lock, b_isWrite, b_where, b_what)) (h0 : b_state t = 1 → b_count t ≠ 0 → ∃ n45 : Nat, wY_prepare_45 post (nI t) f_numbered f_down f_seen n45 0 b_row b_state b_count b_least b_lock b_isWrite b_where b_what) : wpY_prepare post (f_numbered, f_down, f_seen, b_row, b_state, b_count, b_least, b_lock, b_isWrite, b_where, b_what) (nI t) := by
  have hin : vp_in (nI t) 4 := vp_in_nI ht (by omega)
  unfold wpY_prepare
  refine rt_yam (N := 4) (by omega) ht (br_f rt_h10 (br_t hd ?_))
  rw [nI_clamp (by omega)]
  exact ⟨hin, br_c (fun z => ⟨hin, br_c (fun y => h5 z y) (fun y => h0 z y)⟩) h2⟩
theorem i_vc_prepare {k : Nat} {u : SX} {v : SY} (I : i_Rel k u v) (hk : k + 4 ≤ 2048) (v1 : Int32) : wpX_prepare (fun r u' => wpY_prepare (fun r' v' => r' = r ∧ i_Rel (k + 4) u' v') v v1) u v1 := by
  refine rt_el (P := fun u v => wpX_prepare (fun r u' => wpY_prepare (fun r' v' => r' = r ∧ i_Rel (k + 4) u' v') v v1) u v1) I ?_ ?_
  · intro L s e f c q la f_broken f_fuse f_found
    intro a_disk a_diskLsn a_logKind a_logSlot a_logRecord a_logValue a_logBefore a_logBack a_logNumber a_checkPage a_checkState a_checkUndo a_checkFirst a_checkNumber a_page a_lsn a_since a_held a_state a_undo a_first a_number a_effect a_locks a_lacking b_state b_count b_least b_lock b_isWrite b_where b_what h IH
    obtain ⟨hS, hT, hCE, ⟨hla, he, hq⟩, hTR, hLK⟩ := h
    have hL := rt_SY_L hS
    have hW := rt_wf hL.1 e (Nat.le_refl _)
    unfold wpX_prepare
    refine rt_xmiss (fun z => ?_) (fun t ht e z => absurd z rt_h10) (fun t ht e z y => ?_) (fun t ht e z y yy => ?_)
    · refine br_f (by decide) ?_
      unfold wpY_prepare
      exact rt_yam0 (N := 4) (by omega) z (br_t rfl ⟨rfl, IH⟩)
    · subst e
      have hs1 : b_state t ≠ 1 := by
        rw [(hTR t ht).1]
        rcases y with y | y
        · rw [y]; exact rt_h01
        · exact y.2
      exact br_f (by decide) (rt_yprepare ht rfl (fun _ => ⟨rfl, IH⟩) (fun w => absurd w hs1) (fun w => absurd w hs1))
    · subst e
      have hs : a_state t = 1 := yy.elim (fun w => absurd w rt_h10) id
      have hbs : b_state t = 1 := (hTR t ht).1.trans hs
      have hpr := (rt_st1 hT hW ht).2.1 hs
      have hef := (hTR t ht).2.1
      obtain ⟨y1, y2, y3, y4⟩ := (hTR t ht).2.2.2.1 y
      have hl10 := (hW.1 t ht).2.1
      have hin : vp_in (nI t) 4 := vp_in_nI ht (by omega)
      have hc : (nI t).toNatClampNeg = t := nI_clamp (by omega)
      refine br_t rfl ⟨hin, ?_⟩
      rw [hc, hef, (hT t ht).1]
      refine pk_eq (rt_ch (rt_A L e) t).length 0 (fun z => ?_) (fun z => ⟨hin, ?_⟩)
      · exact rt_yprepare ht rfl (fun w => absurd hbs w) (fun _ _ => ⟨rfl, IH⟩) (fun _ w => absurd (by rw [y1, z]; rfl) w)
      · have hf0 : rt_fi (rt_A L e) t ≠ 0 := fun w => z (by rw [((hW.1 t ht).2.2.1 w).1]; rfl)
        have hv : rt_VP (rt_A L e) (7, t, 0, 0, 0, rt_hd (rt_ch (rt_A L e) t), q) := ⟨rfl, ht, hf0, hpr⟩
        refine rt_log (x := (7, t, 0, 0, 0, rt_hd (rt_ch (rt_A L e) t), q)) (show 7 < 16 by omega) (show 0 < 16 by omega) rfl rfl (by omega) hS hT (Or.inr (Or.inr (Or.inr hv))) ht ?_
        intro s' f' c' d1 d2 d3 d4 d5 d6 d7 d8 d9 d10 d11 d12 d13 d14 d15 hf' hS'
        have hL' := rt_SY_L hS'
        have hR' := rt_SY_R hS'
        have hA : rt_A (rt_u L e (7, t, 0, 0, 0, rt_hd (rt_ch (rt_A L e) t), q)) (e + 1) = rt_apP (7, t, 0, 0, 0, rt_hd (rt_ch (rt_A L e) t), q) (rt_A L e) := by rw [rt_A_ap, rt_ap_P hv.1]
        have hW' := rt_wf hL'.1 (e + 1) (Nat.le_refl _)
        have hfl := hR'.2 (e + 1) (by omega) t ht
        rw [hA] at hW' hfl
        have hCn := (hW'.1 t ht).1
        dsimp only
        refine ⟨hin, nm_r (e' := upd a_state t 2) (by rw [rt_nb2]) ?_⟩
        refine rt_relock ht hR'.1 hL'.2.2.2.1 (hfl hf0) hCn hl10 (hT t ht).1 ?_
        intro ef' lk' q1 q2 q3 q4
        dsimp only
        refine rt_yprepare ht rfl (fun w => absurd hbs w) (fun _ w => absurd ?_ z) (fun _ _ => ⟨13, rt_yprep45 (L := L) ht hl10 y1 y3 (fun c hc => (rt_Cn_mem (hW.1 t ht).1 c hc).2.2.2.2) 12 0 _ (by omega) ⟨rfl, ?_⟩⟩)
        · rw [y1] at w; exact (nI_eq (b := 0) (by omega) (by omega)).mp w
        have hcg : ∀ j, j < e → rt_u L e (7, t, 0, 0, 0, rt_hd (rt_ch (rt_A L e) t), q) j = L j := fun j hj => rt_uo (by omega)
        have heL := rt_eL hW hcg ht
        have hakc : ∀ r, rt_ak (rt_u L e (7, t, 0, 0, 0, rt_hd (rt_ch (rt_A L e) t), q)) r (rt_ch (rt_A L e) t) = rt_ak L r (rt_ch (rt_A L e) t) := fun r => rt_ak_cg (fun c hc => (heL c hc).1)
        have q3' : ∀ r, r < 12 → lk' (12 * t + r) = nI (rt_ak L r (rt_ch (rt_A L e) t)) := fun r hr => by rw [q3 r hr]; exact congrArg nI (hakc r)
        refine rt_inU (q := q) (L := rt_u L e (7, t, 0, 0, 0, rt_hd (rt_ch (rt_A L e) t), q)) (e := e + 1) ⟨rt_SY_nt hS' (by rw [rt_us]; show 4 < 7; omega) hL'.2.2.2.2.1 (Nat.le_refl _), ?_, rt_CE_r, ⟨hla, by omega, by omega⟩, fun u hu => ?_, ?_⟩ (by rw [hA]; rfl)
        · rw [hA]; exact rt_TX_P (x := (7, t, 0, 0, 0, rt_hd (rt_ch (rt_A L e) t), q)) hT hf0
        · rw [hA]
          by_cases eu : u = t
          · subst eu
            obtain ⟨x1, x2, x3, x4, x5, x6⟩ := hTR u hu
            refine ⟨by rw [pk_us, pk_us], q1, fun w => ?_, fun _ => ⟨y1, y2, rt_RE_cg y3 (fun c hc => (heL c hc).1) (fun _ _ => ⟨rfl, rfl, rfl⟩), fun r hr => ?_⟩, fun _ r hr => ?_, fun c0 hc0 => ?_⟩
            · rw [pk_us] at w; exact absurd w rt_h20
            · rw [rt_sl_in hr, q3' r hr]
            · rw [q3' r hr]; exact congrArg nI (hakc r).symm
            · have hc1 : c0 ∈ rt_ch (rt_A L e) u := hc0
              rw [(heL c0 hc1).1, q3' _ (heL c0 hc1).2]
              have hm := rt_ak_mem (L := L) hc1
              have h023 := rt_ak_023 (L := L) (r := rt_rr (L c0)) (rt_ch (rt_A L e) u)
              rcases (rt_Cn_mem (hW.1 u ht).1 c0 hc1).2.2.2.1 with k1 | k1
              · rw [if_pos k1] at hm
                exact Or.inl ((rt_nIle hm h023 (Or.inr rfl)).1 rfl)
              · rw [if_neg (by omega)] at hm
                exact (rt_nIle hm h023 (Or.inl rfl)).2.elim Or.inl (fun w => Or.inr ⟨k1, w⟩)
          · exact rt_TR_cg (hTR u hu) rfl (rt_uo eu) rfl (rt_eL hW hcg hu) (pk_un eu) (q2 u eu) (fun r hr => q4 u r eu hr) (pk_un eu) rfl rfl (fun r hr => rt_sl_out hr eu)
        · have key : ∀ u r, u < 4 → u ≠ t → r < 12 → nI (rt_ak L r (rt_ch (rt_A L e) t)) ≠ 0 → a_locks (12 * u + r) ≠ 0 → nI (rt_ak L r (rt_ch (rt_A L e) t)) = a_locks (12 * u + r) ∧ nI (rt_ak L r (rt_ch (rt_A L e) t)) ≠ 3 := by
            intro u r hu hne hr n1 n2
            have h023 := rt_ak_023 (L := L) (r := r) (rt_ch (rt_A L e) t)
            have hex := rt_ak_ex (L := L) (r := r) (cs := rt_ch (rt_A L e) t)
            have hLC := (hTR t ht).2.2.2.2.2
            rcases h023 with w | w | w
            · rw [w] at n1; exact absurd rfl n1
            · obtain ⟨c0, c1, c2⟩ := hex.1 (by omega)
              have hl := hLC c0 c1
              rw [c2] at hl
              rcases hl with hl | ⟨_, hl⟩
              · exact absurd hl (hLK t u ht hu (fun z => hne z.symm) r hr (by rw [hl]; decide) n2).2
              · have := (hLK t u ht hu (fun z => hne z.symm) r hr (by rw [hl]; decide) n2).1
                rw [w, ← this, hl]
                exact ⟨rfl, by decide⟩
            · obtain ⟨c0, c1, c2, c3⟩ := hex.2 w
              have hl := hLC c0 c1
              rw [c2] at hl
              rcases hl with hl | ⟨hl, _⟩
              · exact absurd hl (hLK t u ht hu (fun z => hne z.symm) r hr (by rw [hl]; decide) n2).2
              · omega
          intro t1 u1 ht1 hu1 hne r hr n1 n2
          by_cases e1 : t1 = t
          · subst e1
            rw [q3' r hr] at n1 ⊢
            rw [q4 u1 r (fun z => hne z.symm) hr] at n2 ⊢
            exact key u1 r hu1 (fun z => hne z.symm) hr n1 n2
          · rw [q4 t1 r e1 hr] at n1 ⊢
            by_cases e2 : u1 = t
            · subst e2
              rw [q3' r hr] at n2 ⊢
              have := key t1 r ht1 e1 hr n2 n1
              exact ⟨this.1.symm, by rw [← this.1]; exact this.2⟩
            · rw [q4 u1 r e2 hr] at n2 ⊢
              exact hLK t1 u1 ht1 hu1 hne r hr n1 n2
  · intros; rename_i h IH
    unfold wpX_prepare
    refine rt_xmiss (fun z => ?_) (fun t ht e z => ?_) (fun t ht e z y => absurd rfl z) (fun t ht e z y _ => absurd rfl z)
    · refine br_f (by decide) ?_
      unfold wpY_prepare
      exact rt_yam0 (N := 4) (by omega) z (br_t rfl ⟨rfl, IH⟩)
    · subst e
      refine br_f (by decide) ?_
      unfold wpY_prepare
      exact rt_yam (N := 4) (by omega) ht (br_f rt_h10 (br_f rt_h10 ⟨rfl, IH⟩))
/-! crash -/
def rt_sfd (L : Nat → rt_Rc) (a : rt_AS) : Nat → Nat → (Nat → Int32) → (Nat → Int32)
  | 0, _, row => row
  | d + 1, i, row => rt_sfd L a d (i + 1) (rt_st L a row i)
theorem rt_ycrash11 {post : Int32 → SY → Prop} {L : Nat → rt_Rc} {a : rt_AS} : ∀ (d i : Nat) {f_numbered : Int64} {f_down f_seen : Int32} {b_row b_state b_count b_lock b_isWrite b_where b_what : Nat → Int32} {b_least : Nat → Int64}, i + d = 4 →
    (∀ t, t < 4 → i ≤ t → (b_state t = 1 → rt_pr a t = false ∧ b_count t = nI (rt_ch a t).length ∧ rt_RE L t b_isWrite b_where b_what (rt_ch a t) ∧ (rt_ch a t).length ≤ 10 ∧ ∀ c, c ∈ rt_ch a t → rt_rr (L c) < 12) ∧ (b_state t ≠ 1 → ∀ row, rt_st L a row t = row)) →
    (∀ b_row' b_state' b_count', b_row' = rt_sfd L a d i b_row → (∀ t, t < 4 → (i ≤ t → b_state' t = if b_state t = 1 then 0 else b_state t) ∧ (t < i → b_state' t = b_state t)) → (∀ t, t < 4 → (t < i ∨ b_state t ≠ 1) → b_count' t = b_count t) →
      post 1 (f_numbered, 1, f_seen, b_row', b_state', b_count', b_least, b_lock, b_isWrite, b_where, b_what)) → wY_crash_11 post (d + 1) (nI i) f_numbered f_down f_seen b_row b_state b_count b_least b_lock b_isWrite b_where b_what := by
  intro d
  induction d with
  | zero =>
    intro i
    intros
    rename_i hi hS H
    have e : i = 4 := by omega
    subst e
    exact br_t (nI_le (a := 4) (b := 4) (by omega) (by omega)) (H _ _ _ rfl (fun t ht => ⟨fun z => by omega, fun _ => rfl⟩) (fun _ _ _ => rfl))
  | succ d ih =>
    intro i
    intro f_numbered f_down f_seen b_row b_state b_count b_lock b_isWrite b_where b_what b_least hi hS H
    have hi4 : i < 4 := by omega
    have hin : vp_in (nI i) 4 := vp_in_nI hi4 (by omega)
    have hc : (nI i).toNatClampNeg = i := nI_clamp (by omega)
    obtain ⟨h1, h2⟩ := hS i hi4 (Nat.le_refl _)
    refine br_f (nI_ge (b := 4) (by omega) (by omega)) ⟨hin, ?_⟩
    rw [hc]
    refine br_c (fun z => ?_) (fun z => ?_)
    · obtain ⟨p1, p2, p3, p4, p5⟩ := h1 z
      refine ⟨_, rt_yundo (L := L) (n := 0) hi4 (rt_ch a i) (Nat.zero_le _) p4 p2 p3 p5 ?_⟩
      dsimp only
      refine ⟨hin, nm_e (nm_r (nI_1 i) ?_)⟩
      refine ih (i + 1) (by omega) (fun t ht hit => ?_) ?_
      · rw [pk_un (show t ≠ i by omega), pk_un (show t ≠ i by omega)]
        exact hS t ht (by omega)
      · intro r' s' c' q1 q2 q3
        refine H r' s' c' ?_ (fun t ht => ⟨fun hit => ?_, fun hit => ?_⟩) (fun t ht hz => ?_)
        · rw [q1, Nat.sub_zero, List.take_length]
          show _ = rt_sfd L a d (i + 1) (rt_st L a b_row i)
          unfold rt_st
          rw [if_neg (by rw [p1]; decide)]
        · by_cases e : t = i
          · subst e
            rw [(q2 t ht).2 (by omega), pk_us, if_pos z]
          · rw [(q2 t ht).1 (by omega), pk_un e]
        · rw [(q2 t ht).2 (by omega), pk_un (by omega)]
        · have e : t ≠ i := fun e => by subst e; exact hz.elim (fun y => by omega) (fun y => y z)
          rw [q3 t ht ?_, pk_un e]
          rw [pk_un e]
          exact hz.elim (fun y => Or.inl (by omega)) Or.inr
    · refine nm_r (nI_1 i) (ih (i + 1) (by omega) (fun t ht hit => hS t ht (by omega)) ?_)
      intro r' s' c' q1 q2 q3
      refine H r' s' c' ?_ (fun t ht => ⟨fun hit => ?_, fun hit => ?_⟩) (fun t ht hz => ?_)
      · rw [q1]
        show _ = rt_sfd L a d (i + 1) (rt_st L a b_row i)
        rw [h2 z]
      · by_cases e : t = i
        · subst e
          rw [(q2 t ht).2 (by omega), if_neg z]
        · exact (q2 t ht).1 (by omega)
      · exact (q2 t ht).2 (by omega)
      · exact q3 t ht (hz.elim (fun y => Or.inl (by omega)) Or.inr)
theorem rt_ac_mo {L : Nat → rt_Rc} {e : Nat} (h : rt_LV L e) : ∀ d n, n + d = e → rt_ac (rt_A L n) ≤ rt_ac (rt_A L e) := by
  intro d
  induction d with
  | zero => intro n hn; have : n = e := by omega
            subst this; exact Nat.le_refl _
  | succ d ih =>
    intro n hn
    refine Nat.le_trans ?_ (ih (n + 1) (by omega))
    show rt_ac (rt_A L n) ≤ rt_ac (rt_ap n (L n) (rt_A L n))
    rcases h n (by omega) with v | v | v | v
    · rw [rt_ap_C v.1]; show _ ≤ rt_rn (L n); exact Nat.le_of_lt v.2.2.2.2.2.2.2.1
    · rw [rt_ap_U (rt_VU_k v)]; exact Nat.le_refl _
    · rw [rt_ap_L v.1]; exact Nat.le_refl _
    · rw [rt_ap_P v.1]; exact Nat.le_refl _
theorem rt_SY_lose {L : Nat → rt_Rc} {s e m f c q n : Nat} {a_disk a_diskLsn a_logKind a_logSlot a_logRecord a_logValue a_logBefore a_logBack a_logNumber a_checkPage a_checkState a_checkUndo a_checkFirst a_checkNumber a_page a_lsn a_since a_held p1 s1 : Nat → Int32} (h : rt_SY L s e m f c q n a_disk a_diskLsn a_logKind a_logSlot a_logRecord a_logValue a_logBefore a_logBack a_logNumber a_checkPage a_checkState a_checkUndo a_checkFirst a_checkNumber a_page a_lsn a_since a_held) (hp : ∀ b, b < 2 → p1 b = -1 ∧ s1 b = -1) : rt_SY L s f f f c q 0 a_disk a_diskLsn a_logKind a_logSlot a_logRecord a_logValue a_logBefore a_logBack a_logNumber a_checkPage a_checkState a_checkUndo a_checkFirst a_checkNumber p1 a_lsn s1 a_held := by
  obtain ⟨cp, pg, ls, si, dl, ⟨⟨E1, E2⟩, ⟨g1, g2, g3, g4⟩, hC, hK⟩, hcp, hTc, hfc, hR, hL, z1, z2, z3, z4, z5, z6, z7⟩ := h
  refine ⟨cp, fun _ => 0, ls, fun _ => 0, dl, ⟨⟨E1, fun b hb => ⟨(hp b hb).1, (E2 b hb).2.1, (hp b hb).2⟩⟩, ⟨Nat.le_refl _, fun _ => rfl, g3, fun b hb => ⟨Nat.zero_le _, fun _ => rfl, fun p z => (by cases z)⟩⟩, fun p hp j _ z => by omega, hK⟩, hcp, hTc, hfc, rt_RG_mo hR (Nat.le_refl _) (by omega), rt_LV_le hL (by omega), z1, z2, Nat.le_refl _, by omega, by omega, ?_, z7⟩
  have := rt_ac_mo hL (e - f) f (by omega)
  omega
/-- a loss, at a state whose forced log tells the same core -/
theorem rt_DF_lose {k : Nat} {L : Nat → rt_Rc} {s e m f c q n la : Nat} {a_disk a_diskLsn a_logKind a_logSlot a_logRecord a_logValue a_logBefore a_logBack a_logNumber a_checkPage a_checkState a_checkUndo a_checkFirst a_checkNumber a_page a_lsn a_since a_held p1 s1 t1 t2 t3 t4 t5 t6 b_state b_count : Nat → Int32} {b_least : Nat → Int64} {b_lock b_isWrite b_where b_what : Nat → Int32} (h : rt_SY L s e m f c q n a_disk a_diskLsn a_logKind a_logSlot a_logRecord a_logValue a_logBefore a_logBack a_logNumber a_checkPage a_checkState a_checkUndo a_checkFirst a_checkNumber a_page a_lsn a_since a_held) (hCE : rt_CE L f e) (hla : la < 2) (hf : f ≤ 60 * k) (hq : q ≤ k)
    (hp : ∀ b, b < 2 → p1 b = -1 ∧ s1 b = -1) (ht : ∀ t, t < 4 → t1 t = 0 ∧ t2 t = -1 ∧ t3 t = -1 ∧ t4 t = 0 ∧ t5 t = 0 ∧ ∀ r, r < 12 → t6 (12 * t + r) = 0)
    (hb : ∀ t, t < 4 → b_state t = (if rt_pr (rt_A L e) t = true then 2 else 0) ∧ (rt_pr (rt_A L e) t = true → rt_PT L (rt_A L e) b_count b_least b_lock b_isWrite b_where b_what t)) :
    rt_DF k L s f c q la a_disk a_diskLsn a_logKind a_logSlot a_logRecord a_logValue a_logBefore a_logBack a_logNumber a_checkPage a_checkState a_checkUndo a_checkFirst a_checkNumber p1 a_lsn s1 a_held t1 t2 t3 t4 t5 t6 b_state b_count b_least b_lock b_isWrite b_where b_what ∧ rt_co L (rt_A L e) = rt_co L (rt_A L f) := by
  have hcq := hCE f (Nat.le_refl _) (rt_SY_L h).2.2.2.2.1
  refine ⟨⟨rt_SY_lose h hp, hp, ht, ⟨hla, hf, hq⟩, fun t ht' => ?_⟩, hcq.1.symm⟩
  obtain ⟨h1, h2⟩ := hb t ht'
  have e1 := (hcq.2 t ht').1
  rw [e1]
  refine ⟨h1, fun z => ?_⟩
  obtain ⟨e2, e3⟩ := (hcq.2 t ht').2 (e1.trans z)
  unfold rt_PT
  rw [e2, e3]
  exact h2 z
theorem i_vc_crash {k : Nat} {u : SX} {v : SY} (I : i_Rel k u v) (hk : k + 4 ≤ 2048) : wpX_crash (fun r u' => wpY_crash (fun r' v' => r' = r ∧ i_Rel (k + 4) u' v') v) u := by
  refine rt_el (P := fun u v => wpX_crash (fun r u' => wpY_crash (fun r' v' => r' = r ∧ i_Rel (k + 4) u' v') v) u) I ?_ ?_
  · intro L s e f c q la f_broken f_fuse f_found
    intro a_disk a_diskLsn a_logKind a_logSlot a_logRecord a_logValue a_logBefore a_logBack a_logNumber a_checkPage a_checkState a_checkUndo a_checkFirst a_checkNumber a_page a_lsn a_since a_held a_state a_undo a_first a_number a_effect a_locks a_lacking b_state b_count b_least b_lock b_isWrite b_where b_what h IH
    obtain ⟨hS, hT, hCE, ⟨hla, he, hq⟩, hTR, hLK⟩ := h
    have hL := rt_SY_L hS
    have hW := rt_wf hL.1 e (Nat.le_refl _)
    refine br_f rt_h10 (rt_lose ?_)
    intro p1 s1 t1 t2 t3 t4 t5 t6 hp ht
    refine br_t rfl ⟨5, rt_ycrash11 (L := L) (a := rt_A L e) 4 0 (by omega) (fun t ht' _ => ?_) ?_⟩
    · obtain ⟨w1, w2, w3, w4⟩ := rt_st1 hT hW ht'
      rw [(hTR t ht').1]
      refine ⟨fun z => ?_, fun z row => ?_⟩
      · obtain ⟨y1, y2, y3, y4⟩ := (hTR t ht').2.2.2.1 (by rw [z]; exact rt_h10)
        exact ⟨w2 z, y1, y3, (hW.1 t ht').2.1, fun c hc => (rt_Cn_mem (hW.1 t ht').1 c hc).2.2.2.2⟩
      · unfold rt_st
        cases hp : rt_pr (rt_A L e) t with
        | true => rw [if_pos rfl]
        | false =>
          rw [if_neg (by decide)]
          have hf0 : rt_fi (rt_A L e) t = 0 := by
            by_cases y : rt_fi (rt_A L e) t = 0
            · exact y
            · have := (hT t ht').2.2.2.1 y
              rw [hp] at this
              exact absurd this z
          rw [((hW.1 t ht').2.2.1 hf0).1]
          rfl
    · intro r' s' c' q1 q2 q3
      have hD := rt_DF_lose (k := k + 4) (la := la) (b_state := s') (b_count := c') (b_least := b_least) (b_lock := b_lock) (b_isWrite := b_isWrite) (b_where := b_where) (b_what := b_what) hS hCE hla (by omega) (by omega) hp ht (fun t ht' => ?_)
      · refine ⟨rfl, ?_⟩
        exact rt_inD hD.1 (by rw [q1, ← hD.2]; rfl)
      · obtain ⟨w1, w2, w3, w4⟩ := rt_st1 hT hW ht'
        rw [(q2 t ht').1 (by omega), (hTR t ht').1]
        cases hp : rt_pr (rt_A L e) t with
        | true =>
          have hs2 := w3 hp
          rw [hs2, if_neg rt_h21, if_pos rfl]
          refine ⟨rfl, fun _ => ?_⟩
          have hs0 : a_state t ≠ 0 := by rw [hs2]; exact rt_h20
          obtain ⟨y1, y2, y3, y4⟩ := (hTR t ht').2.2.2.1 hs0
          refine ⟨?_, y2, y3, fun r hr => ?_⟩
          · rw [q3 t ht' (Or.inr (by rw [(hTR t ht').1, hs2]; exact rt_h21))]; exact y1
          · rw [y4 r hr]; exact (hTR t ht').2.2.2.2.1 hp r hr
        | false =>
          refine ⟨?_, fun z => by cases z⟩
          rw [if_neg (show ¬ false = true by decide)]
          by_cases y : a_state t = 1
          · rw [if_pos y]
          · rw [if_neg y]
            by_cases yf : rt_fi (rt_A L e) t = 0
            · exact ((hT t ht').2.2.2.2 yf).elim id (fun x => absurd x y)
            · have := (hT t ht').2.2.2.1 yf
              rw [hp] at this
              exact absurd this y
  · intros; rename_i h IH
    exact br_t rfl (br_f rt_h10 ⟨rfl, IH⟩)
end
section
/-! ## restart: burn, note -/
theorem rt_burn {post : SX → Prop} {f_logStart f_logEnd f_forced f_checkLsn f_latest f_up f_broken f_fuse f_accepted f_found : Int32} {a_disk a_diskLsn a_logKind a_logSlot a_logRecord a_logValue a_logBefore a_logBack a_logNumber a_checkPage a_checkState a_checkUndo a_checkFirst a_checkNumber a_page a_lsn a_since a_held a_state a_undo a_first a_number a_effect a_locks a_lacking : Nat → Int32} (H : ∀ br fu : Int32, (f_fuse = 0 → fu = 0 ∧ br = f_broken) → post (f_logStart, f_logEnd, f_forced, f_checkLsn, f_latest, f_up, br, fu, f_accepted, f_found, a_disk, a_diskLsn, a_logKind, a_logSlot, a_logRecord, a_logValue, a_logBefore, a_logBack, a_logNumber, a_checkPage, a_checkState, a_checkUndo, a_checkFirst, a_checkNumber, a_page, a_lsn, a_since, a_held, a_state, a_undo, a_first, a_number, a_effect, a_locks, a_lacking)) : wpX_burn post (f_logStart, f_logEnd, f_forced, f_checkLsn, f_latest, f_up, f_broken, f_fuse, f_accepted, f_found, a_disk, a_diskLsn, a_logKind, a_logSlot, a_logRecord, a_logValue, a_logBefore, a_logBack, a_logNumber, a_checkPage, a_checkState, a_checkUndo, a_checkFirst, a_checkNumber, a_page, a_lsn, a_since, a_held, a_state, a_undo, a_first, a_number, a_effect, a_locks, a_lacking) := by
  have hz : ¬ f_fuse ≤ 0 → f_fuse = 0 → False := fun h z => h (by rw [z]; decide)
  exact br_c (fun _ => H _ _ (fun z => ⟨z, rfl⟩)) (fun h => nm_e (br_c (fun _ => H _ _ (fun z => absurd z (hz h))) (fun _ => H _ _ (fun z => absurd z (hz h)))))
/-- what note does to the lacking pages -/
def rt_NL (x : rt_Rc) (n : Nat) (la la' : Nat → Int32) : Prop := ∀ p, p < 3 → (rt_tc x p → la p = -1 → la' p = nI n) ∧ ((¬ rt_tc x p ∨ la p ≠ -1) → la' p = la p)
theorem rt_nt130 {post : SX → Prop} {f_logStart f_logEnd f_forced f_checkLsn f_latest f_up f_broken f_fuse f_accepted f_found : Int32} {a_disk a_diskLsn a_logKind a_logSlot a_logRecord a_logValue a_logBefore a_logBack a_logNumber a_checkPage a_checkState a_checkUndo a_checkFirst a_checkNumber a_page a_lsn a_since a_held a_state a_undo a_first a_number a_effect a_locks a_lacking : Nat → Int32} {x : rt_Rc} {n t : Nat} {z0 : Int32} (hn : n < 1073741824) (ht : t < 4) (hk : rt_rk x ≤ 4) (hr : rt_rr x < 12) (er : a_logRecord (n % 256) = nI (rt_rr x))
    (H : ∀ la', rt_NL x n a_lacking la' → post (f_logStart, f_logEnd, f_forced, f_checkLsn, f_latest, f_up, f_broken, f_fuse, f_accepted, f_found, a_disk, a_diskLsn, a_logKind, a_logSlot, a_logRecord, a_logValue, a_logBefore, a_logBack, a_logNumber, a_checkPage, a_checkState, a_checkUndo, a_checkFirst, a_checkNumber, a_page, a_lsn, a_since, a_held, a_state, upd a_undo t z0, a_first, a_number, a_effect, a_locks, la')) : wX_note_130 post (nI n) z0 (nI t) f_logStart f_logEnd f_forced f_checkLsn f_latest f_up f_broken f_fuse f_accepted f_found a_disk a_diskLsn a_logKind a_logSlot a_logRecord a_logValue a_logBefore a_logBack a_logNumber a_checkPage a_checkState a_checkUndo a_checkFirst a_checkNumber a_page a_lsn a_since a_held a_state a_undo a_first a_number a_effect a_locks a_lacking := by
  have hin : vp_in (nI t) 4 := vp_in_nI ht (by omega)
  have hc : (nI t).toNatClampNeg = t := nI_clamp (by omega)
  have hi : vp_in (nI (n % 256)) 256 := vp_in_nI (by omega) (by omega)
  have hci : (nI (n % 256)).toNatClampNeg = n % 256 := nI_clamp (by omega)
  have hip : vp_in (nI (rt_rr x / 4)) 3 := vp_in_nI (by omega) (by omega)
  have hcp : (nI (rt_rr x / 4)).toNatClampNeg = rt_rr x / 4 := nI_clamp (by omega)
  unfold wX_note_130
  rw [hc, rt_a255 (by omega), hci, er, rt_sh (by omega)]
  refine ⟨hin, nm_e ⟨hi, nm_e ?_⟩⟩
  rw [hcp]
  refine ⟨hip, br_c (fun z => ⟨hip, nm_e (H _ (fun p hp => ⟨fun w y => ?_, fun w => ?_⟩))⟩) (fun z => H _ (fun p hp => ⟨fun w y => ?_, fun w => rfl⟩))⟩
  · rw [← w.2, pk_us]
  · by_cases e : p = rt_rr x / 4
    · rw [e] at w
      exact w.elim (fun y => absurd ⟨hk, rfl⟩ y) (fun y => absurd z y)
    · exact pk_un e
  · rw [← w.2] at y; exact absurd y z
theorem rt_TX_o {a : rt_AS} {st un fi nu : Nat → Int32} {t : Nat} (h : rt_TX a st un fi nu) (hs : st t = 0) : rt_TX a (upd st t 1) un fi nu := by
  intro u hu
  obtain ⟨h1, h2, h3, h4, h5⟩ := h u hu
  by_cases e : u = t
  · subst e
    rw [pk_us]
    refine ⟨h1, h2, h3, fun z => ?_, fun _ => Or.inr rfl⟩
    have := h4 z
    rw [hs] at this
    split at this
    · exact absurd this (by decide)
    · exact absurd this (by decide)
  · rw [pk_un e]; exact ⟨h1, h2, h3, h4, h5⟩
def rt_ZL (ef lk : Nat → Int32) : Prop := ∀ t, t < 4 → ef t = 0 ∧ ∀ r, r < 12 → lk (12 * t + r) = 0
theorem rt_note {post : SX → Prop} {f_logStart f_logEnd f_forced f_checkLsn f_latest f_up f_broken f_fuse f_accepted f_found : Int32} {a_disk a_diskLsn a_logKind a_logSlot a_logRecord a_logValue a_logBefore a_logBack a_logNumber a_checkPage a_checkState a_checkUndo a_checkFirst a_checkNumber a_page a_lsn a_since a_held a_state a_undo a_first a_number a_effect a_locks a_lacking : Nat → Int32} {L : Nat → rt_Rc} {s e n : Nat} (hR : rt_RG L s e a_logKind a_logSlot a_logRecord a_logValue a_logBefore a_logBack a_logNumber) (hs : s ≤ n) (hn : n < e) (he : e < 1073741824)
    (hW : rt_WF L n (rt_A L n)) (hv : rt_Vd L (rt_A L n) (L n)) (hT : rt_TX (rt_A L n) a_state a_undo a_first a_number) (hnu : ∀ t, t < 4 → rt_nu (rt_A L n) t < 1073741824)
    (H : ∀ a_state' a_undo' a_first' a_number' a_effect' a_locks' a_lacking', rt_TX (rt_A L (n + 1)) a_state' a_undo' a_first' a_number' → (rt_ZL a_effect a_locks → rt_ZL a_effect' a_locks') → rt_NL (L n) n a_lacking a_lacking' →
      post (f_logStart, f_logEnd, f_forced, f_checkLsn, f_latest, f_up, f_broken, f_fuse, f_accepted, f_found, a_disk, a_diskLsn, a_logKind, a_logSlot, a_logRecord, a_logValue, a_logBefore, a_logBack, a_logNumber, a_checkPage, a_checkState, a_checkUndo, a_checkFirst, a_checkNumber, a_page, a_lsn, a_since, a_held, a_state', a_undo', a_first', a_number', a_effect', a_locks', a_lacking')) : wpX_note post (f_logStart, f_logEnd, f_forced, f_checkLsn, f_latest, f_up, f_broken, f_fuse, f_accepted, f_found, a_disk, a_diskLsn, a_logKind, a_logSlot, a_logRecord, a_logValue, a_logBefore, a_logBack, a_logNumber, a_checkPage, a_checkState, a_checkUndo, a_checkFirst, a_checkNumber, a_page, a_lsn, a_since, a_held, a_state, a_undo, a_first, a_number, a_effect, a_locks, a_lacking) (nI n) (nI (rt_rk (L n))) (nI (rt_rs (L n))) := by
  obtain ⟨r1, r2, r3, r4, r5, r6, r7⟩ := hR n hs hn
  have hA : rt_A L (n + 1) = rt_ap n (L n) (rt_A L n) := rfl
  have hfi : ∀ t, t < 4 → rt_fi (rt_A L n) t < 1073741824 := by
    intro t ht
    by_cases z : rt_fi (rt_A L n) t = 0
    · omega
    · have := ((hW.1 t ht).2.2.2 z).1; omega
  have hi : vp_in (nI (n % 256)) 256 := vp_in_nI (by omega) (by omega)
  have hci : (nI (n % 256)).toNatClampNeg = n % 256 := nI_clamp (by omega)
  generalize hx : L n = x at *
  rcases hv with v | v | v | v
  · have hA' : rt_A L (n + 1) = rt_apC n x (rt_A L n) := by rw [hA, rt_ap_C v.1]
    obtain ⟨hk, ht, hr, hp, _⟩ := v
    have hin : vp_in (nI (rt_rs x)) 4 := vp_in_nI ht (by omega)
    have hc : (nI (rt_rs x)).toNatClampNeg = rt_rs x := nI_clamp (by omega)
    obtain ⟨t1, t2, t3, t4, t5⟩ := hT _ ht
    have key : ∀ st', rt_TX (rt_A L n) st' a_undo a_first a_number → st' (rt_rs x) = 1 → wX_note_33 post (nI n) (nI (rt_rk x)) (nI (rt_rs x)) f_logStart f_logEnd f_forced f_checkLsn f_latest f_up f_broken f_fuse f_accepted f_found a_disk a_diskLsn a_logKind a_logSlot a_logRecord a_logValue a_logBefore a_logBack a_logNumber a_checkPage a_checkState a_checkUndo a_checkFirst a_checkNumber a_page a_lsn a_since a_held st' a_undo a_first a_number a_effect a_locks a_lacking := by
      intro st' hT' hs1
      have k50 : ∀ fi', (fi' = if rt_fi (rt_A L n) (rt_rs x) = 0 then upd a_first (rt_rs x) (nI n) else a_first) → wX_note_50 post (nI n) (nI (rt_rk x)) (nI (rt_rs x)) f_logStart f_logEnd f_forced f_checkLsn f_latest f_up f_broken f_fuse f_accepted f_found a_disk a_diskLsn a_logKind a_logSlot a_logRecord a_logValue a_logBefore a_logBack a_logNumber a_checkPage a_checkState a_checkUndo a_checkFirst a_checkNumber a_page a_lsn a_since a_held st' a_undo fi' a_number a_effect a_locks a_lacking := by
        intro fi' hfi'
        have k106 : ∀ nu', (nu' = if rt_nu (rt_A L n) (rt_rs x) = 0 then upd a_number (rt_rs x) (nI (rt_rn x)) else a_number) → wX_note_106 post (nI n) (nI (rt_rs x)) 1 f_logStart f_logEnd f_forced f_checkLsn f_latest f_up f_broken f_fuse f_accepted f_found a_disk a_diskLsn a_logKind a_logSlot a_logRecord a_logValue a_logBefore a_logBack a_logNumber a_checkPage a_checkState a_checkUndo a_checkFirst a_checkNumber a_page a_lsn a_since a_held st' a_undo fi' nu' a_effect a_locks a_lacking := by
          intro nu' hnu'
          refine br_f rt_h10 (rt_nt130 (x := x) (by omega) ht (by omega) hr r3 ?_)
          intro la' hla
          refine H _ _ _ _ _ _ la' ?_ (fun z => z) hla
          rw [hA']
          exact rt_TX_C hW hT' ht hs1 hp hfi' hnu'
        refine pk_eq (rt_rk x) 7 (fun z => by omega) (fun _ => ?_)
        refine pk_lt 2 (rt_rk x) (fun z => by omega) (fun _ => ?_)
        refine br_f rt_h10 ⟨hin, ?_⟩
        rw [hc, rt_a255 (by omega), hci, r7]
        exact pk_eq (rt_nu (rt_A L n) (rt_rs x)) 0 (fun z => ⟨hi, hin, nm_e (k106 _ (by rw [if_pos z]))⟩) (fun z => k106 _ (by rw [if_neg z])) t3 rfl (by have := hnu _ ht; omega)
      unfold wX_note_33
      rw [hc]
      exact ⟨hin, rt_beq (rt_fi (rt_A L n) (rt_rs x)) 0 t2 rfl (by have := hfi _ ht; omega) (by omega) (fun z => ⟨hin, nm_e (k50 _ (by rw [if_pos z]))⟩) (fun z => k50 _ (by rw [if_neg z]))⟩
    unfold wpX_note
    refine pk_eq (rt_rk x) 5 (fun z => by omega) (fun _ => pk_eq (rt_rk x) 6 (fun z => by omega) (fun _ => ⟨hin, ?_⟩))
    rw [hc]
    refine br_c (fun z => ⟨hin, nm_r (e' := upd a_state (rt_rs x) 1) (by rw [rt_nb1]) (key _ (rt_TX_o hT z) pk_us)⟩) (fun z => key _ hT ?_)
    by_cases y : rt_fi (rt_A L n) (rt_rs x) = 0
    · exact (t5 y).elim (fun w => absurd w z) id
    · have := t4 y; rw [hp] at this; exact this
  · have hA' : rt_A L (n + 1) = rt_apU x (rt_A L n) := by rw [hA, rt_ap_U (rt_VU_k v)]
    have hk := rt_VU_k v
    obtain ⟨ht, c, cs, hch, hkx, hrx, hlx, hvx⟩ := v
    have hin : vp_in (nI (rt_rs x)) 4 := vp_in_nI ht (by omega)
    have hc : (nI (rt_rs x)).toNatClampNeg = rt_rs x := nI_clamp (by omega)
    obtain ⟨t1, t2, t3, t4, t5⟩ := hT _ ht
    have hf0 : rt_fi (rt_A L n) (rt_rs x) ≠ 0 := fun z => by have := ((hW.1 _ ht).2.2.1 z).1; rw [hch] at this; cases this
    have hr : rt_rr x < 12 := by
      rw [hrx]; exact (rt_Cn_mem (hW.1 _ ht).1 c (by rw [hch]; exact List.mem_cons_self)).2.2.2.2
    have hs0 : ¬ a_state (rt_rs x) = 0 := by
      rw [t4 hf0]; split <;> decide
    have hff : ¬ a_first (rt_rs x) = -1 := by
      rw [t2]; intro z; exact hf0 ((rt_e0 (by have := hfi _ ht; omega)).mp z)
    unfold wpX_note
    refine pk_eq (rt_rk x) 5 (fun z => by omega) (fun _ => pk_eq (rt_rk x) 6 (fun z => by omega) (fun _ => ⟨hin, ?_⟩))
    rw [hc]
    refine br_f hs0 ?_
    unfold wX_note_33
    rw [hc]
    refine ⟨hin, br_f hff ?_⟩
    refine pk_eq (rt_rk x) 7 (fun z => by omega) (fun _ => ?_)
    refine pk_lt 2 (rt_rk x) (fun _ => ?_) (fun z => by omega)
    refine br_t rfl (br_t rfl ?_)
    rw [rt_a255 (by omega), hci, r6, hlx]
    refine ⟨hi, rt_nt130 (x := x) (by omega) ht (by omega) hr r3 ?_⟩
    intro la' hla
    refine H _ _ _ _ _ _ la' ?_ (fun z => z) hla
    rw [hA']
    exact rt_TX_U (L := L) hT hch
  · have hA' : rt_A L (n + 1) = rt_apL x (rt_A L n) := by rw [hA, rt_ap_L v.1]
    obtain ⟨hk, ht, hf0⟩ := v
    have hl : wX_note_11 post (nI (rt_rs x)) f_logStart f_logEnd f_forced f_checkLsn f_latest f_up f_broken f_fuse f_accepted f_found a_disk a_diskLsn a_logKind a_logSlot a_logRecord a_logValue a_logBefore a_logBack a_logNumber a_checkPage a_checkState a_checkUndo a_checkFirst a_checkNumber a_page a_lsn a_since a_held a_state a_undo a_first a_number a_effect a_locks a_lacking := by
      unfold wX_note_11
      refine rt_leave ht (H _ _ _ _ _ _ _ ?_ (fun z u hu => ?_) (fun p hp => ⟨fun w => ?_, fun _ => rfl⟩))
      · rw [hA']; exact rt_TX_L hT
      · by_cases e1 : u = rt_rs x
        · subst e1; exact ⟨pk_us, fun r hr => rt_zr_in hr⟩
        · rw [pk_un e1]; exact ⟨(z u hu).1, fun r hr => by rw [rt_zr_out hr e1]; exact (z u hu).2 r hr⟩
      · have := w.1; omega
    unfold wpX_note
    exact pk_eq (rt_rk x) 5 (fun _ => hl) (fun z => pk_eq (rt_rk x) 6 (fun _ => hl) (fun z' => by omega))
  · have hA' : rt_A L (n + 1) = rt_apP x (rt_A L n) := by rw [hA, rt_ap_P v.1]
    obtain ⟨hk, ht, hf0, hp⟩ := v
    have hin : vp_in (nI (rt_rs x)) 4 := vp_in_nI ht (by omega)
    have hc : (nI (rt_rs x)).toNatClampNeg = rt_rs x := nI_clamp (by omega)
    obtain ⟨t1, t2, t3, t4, t5⟩ := hT _ ht
    have hs0 : ¬ a_state (rt_rs x) = 0 := by
      rw [t4 hf0]; split <;> decide
    have hff : ¬ a_first (rt_rs x) = -1 := by
      rw [t2]; intro z; exact hf0 ((rt_e0 (by have := hfi _ ht; omega)).mp z)
    unfold wpX_note
    refine pk_eq (rt_rk x) 5 (fun z => by omega) (fun _ => pk_eq (rt_rk x) 6 (fun z => by omega) (fun _ => ⟨hin, ?_⟩))
    rw [hc]
    refine br_f hs0 ?_
    unfold wX_note_33
    rw [hc]
    refine ⟨hin, br_f hff ?_⟩
    unfold wX_note_50
    rw [hc, rt_nb2]
    refine pk_eq (rt_rk x) 7 (fun _ => ⟨hin, nm_e (H _ _ _ _ _ _ _ ?_ (fun z => z) (fun p hp => ⟨fun w => ?_, fun _ => rfl⟩))⟩) (fun z => by omega)
    · rw [hA']; exact rt_TX_P hT hf0
    · have := w.1; omega
end
section
/-! ## restart: analysis -/
theorem rt_CK_n {L : Nat → rt_Rc} {s n : Nat} {dl la : Nat → Nat} {A A' : Nat → Int32} (h : rt_CK L s n dl la) (hs : s ≤ n) (hn : n < 1073741824) (hA : ∀ p, p < 3 → A p = rt_e (la p)) (hN : rt_NL (L n) n A A') : ∃ la', (∀ p, p < 3 → A' p = rt_e (la' p)) ∧ rt_CK L s (n + 1) dl la' := by
  refine ⟨fun p => if (rt_rk (L n) ≤ 4 ∧ rt_rr (L n) / 4 = p) ∧ la p = 0 then n + 1 else la p, fun p hp => ?_, fun p hp => ?_⟩
  · obtain ⟨n1, n2⟩ := hN p hp
    have hlp : la p ≤ n := by
      by_cases z : la p = 0
      · omega
      · exact ((h p hp).2 z).2.1
    dsimp only
    by_cases z : (rt_rk (L n) ≤ 4 ∧ rt_rr (L n) / 4 = p) ∧ la p = 0
    · rw [if_pos z, n1 z.1 (by rw [hA p hp, z.2]; rfl)]; rfl
    · rw [if_neg z, ← hA p hp]
      refine n2 ?_
      by_cases y : rt_tc (L n) p
      · refine Or.inr (fun w => z ⟨y, ?_⟩)
        rw [hA p hp] at w
        exact (rt_e0 (by omega)).mp w
      · exact Or.inl y
  · obtain ⟨c1, c2⟩ := h p hp
    dsimp only
    by_cases z : (rt_rk (L n) ≤ 4 ∧ rt_rr (L n) / 4 = p) ∧ la p = 0
    · rw [if_pos z]
      exact ⟨fun y => by omega, fun _ => ⟨by omega, Nat.le_refl _, c1 z.2⟩⟩
    · rw [if_neg z]
      refine ⟨fun y j a b => ?_, fun y => ⟨(c2 y).1, by have := (c2 y).2.1; omega, (c2 y).2.2⟩⟩
      by_cases e : j = n
      · subst e; exact fun w => z ⟨w, y⟩
      · exact c1 y j a (by omega)
theorem rt_an91 {post : SX → Prop} {L : Nat → rt_Rc} {s e : Nat} {dl : Nat → Nat} (hL : rt_LV L e) (he : e < 1073741824) (hnu : ∀ n, n ≤ e → ∀ t, t < 4 → rt_nu (rt_A L n) t < 1073741824) : ∀ (d n : Nat) {la : Nat → Nat} {f_logStart f_forced f_checkLsn f_latest f_up f_broken f_fuse f_accepted f_found : Int32} {a_disk a_diskLsn a_logKind a_logSlot a_logRecord a_logValue a_logBefore a_logBack a_logNumber a_checkPage a_checkState a_checkUndo a_checkFirst a_checkNumber a_page a_lsn a_since a_held a_state a_undo a_first a_number a_effect a_locks a_lacking : Nat → Int32}, n + d = e → s ≤ n →
    rt_RG L s e a_logKind a_logSlot a_logRecord a_logValue a_logBefore a_logBack a_logNumber → rt_TX (rt_A L n) a_state a_undo a_first a_number → (∀ p, p < 3 → a_lacking p = rt_e (la p)) → rt_CK L s n dl la → rt_ZL a_effect a_locks →
    (∀ br fu a_state' a_undo' a_first' a_number' a_effect' a_locks' a_lacking', (f_fuse = 0 → fu = 0 ∧ br = f_broken) → (br = 0 → rt_TX (rt_A L e) a_state' a_undo' a_first' a_number' ∧ rt_ZL a_effect' a_locks' ∧ ∃ la', (∀ p, p < 3 → a_lacking' p = rt_e (la' p)) ∧ rt_CK L s e dl la') →
      post (f_logStart, (nI e), f_forced, f_checkLsn, f_latest, f_up, br, fu, f_accepted, f_found, a_disk, a_diskLsn, a_logKind, a_logSlot, a_logRecord, a_logValue, a_logBefore, a_logBack, a_logNumber, a_checkPage, a_checkState, a_checkUndo, a_checkFirst, a_checkNumber, a_page, a_lsn, a_since, a_held, a_state', a_undo', a_first', a_number', a_effect', a_locks', a_lacking')) → wX_analyse_91 post (d + 1) (nI n) f_logStart (nI e) f_forced f_checkLsn f_latest f_up f_broken f_fuse f_accepted f_found a_disk a_diskLsn a_logKind a_logSlot a_logRecord a_logValue a_logBefore a_logBack a_logNumber a_checkPage a_checkState a_checkUndo a_checkFirst a_checkNumber a_page a_lsn a_since a_held a_state a_undo a_first a_number a_effect a_locks a_lacking := by
  intro d
  induction d with
  | zero =>
    intro n la
    intros
    rename_i hn hs hR hT hA hK hZ H
    have e1 : n = e := by omega
    subst e1
    exact br_t (nI_le (Nat.le_refl _) (by omega)) (H _ _ _ _ _ _ _ _ _ (fun z => ⟨z, rfl⟩) (fun _ => ⟨hT, hZ, la, hA, hK⟩))
  | succ d ih =>
    intro n la
    intros
    rename_i hn hs hR hT hA hK hZ H
    have hi : vp_in (nI (n % 256)) 256 := vp_in_nI (by omega) (by omega)
    have hci : (nI (n % 256)).toNatClampNeg = n % 256 := nI_clamp (by omega)
    obtain ⟨r1, r2, r3, r4, r5, r6, r7⟩ := hR n hs (by omega)
    refine br_f (nI_ge (by omega) (by omega)) (br_c (fun hb => ?_) (fun hb => H _ _ _ _ _ _ _ _ _ (fun z => ⟨z, rfl⟩) (fun z => absurd z hb)))
    rw [rt_a255 (by omega), hci, r1, r2]
    refine ⟨hi, hi, ?_⟩
    refine rt_note hR hs (by omega) he (rt_wf hL n (by omega)) (hL n (by omega)) hT (hnu n (by omega)) ?_
    intro s1 s2 s3 s4 s5 s6 s7 hT' hZ' hN
    obtain ⟨la', hA', hK'⟩ := rt_CK_n hK hs (by omega) hA hN
    refine rt_burn ?_
    intro br fu hbf
    dsimp only
    refine nm_r (nI_1 n) (ih (n + 1) (by omega) (by omega) hR hT' hA' hK' (hZ' hZ) ?_)
    intro br' fu' g1 g2 g3 g4 g5 g6 g7 hbf' hF
    refine H br' fu' g1 g2 g3 g4 g5 g6 g7 (fun z => ?_) hF
    obtain ⟨z1, z2⟩ := hbf z
    obtain ⟨z3, z4⟩ := hbf' z1
    exact ⟨z3, z4.trans z2⟩
theorem rt_an27 {post : SX → Prop} {f_logStart f_logEnd f_forced f_checkLsn f_latest f_up f_broken f_fuse f_accepted f_found : Int32} {a_disk a_diskLsn a_logKind a_logSlot a_logRecord a_logValue a_logBefore a_logBack a_logNumber a_checkPage a_checkState a_checkUndo a_checkFirst a_checkNumber a_page a_lsn a_since a_held a_effect a_locks a_lacking : Nat → Int32} {a : rt_AS} (hT : rt_TX a a_checkState a_checkUndo a_checkFirst a_checkNumber)
    (K : ∀ st un fi nu, rt_TX a st un fi nu → ∃ n91 : Nat, wX_analyse_91 post n91 f_checkLsn f_logStart f_logEnd f_forced f_checkLsn f_latest f_up f_broken f_fuse f_accepted f_found a_disk a_diskLsn a_logKind a_logSlot a_logRecord a_logValue a_logBefore a_logBack a_logNumber a_checkPage a_checkState a_checkUndo a_checkFirst a_checkNumber a_page a_lsn a_since a_held st un fi nu a_effect a_locks a_lacking) :
    ∀ (d i : Nat) (st un fi nu : Nat → Int32), i + d = 4 → (∀ t, t < i → st t = a_checkState t ∧ un t = a_checkUndo t ∧ fi t = a_checkFirst t ∧ nu t = a_checkNumber t) →
    wX_analyse_27 post f_logStart f_logEnd f_forced f_checkLsn f_latest f_up f_broken f_fuse f_accepted f_found (d + 1) (nI i) a_disk a_diskLsn a_logKind a_logSlot a_logRecord a_logValue a_logBefore a_logBack a_logNumber a_checkPage a_checkState a_checkUndo a_checkFirst a_checkNumber a_page a_lsn a_since a_held st un fi nu a_effect a_locks a_lacking := by
  intro d
  induction d with
  | zero =>
    intro i st un fi nu hi hd
    have e : i = 4 := by omega
    subst e
    exact br_t (nI_le (a := 4) (b := 4) (by omega) (by omega)) (K st un fi nu (rt_TX_cg hT (fun t ht => hd t ht)))
  | succ d ih =>
    intro i st un fi nu hi hd
    have hi4 : i < 4 := by omega
    have hin : vp_in (nI i) 4 := vp_in_nI hi4 (by omega)
    have hc : (nI i).toNatClampNeg = i := nI_clamp (by omega)
    rw [wX_analyse_27]
    dsimp only
    rw [hc, rt_TX_nar hT hi4]
    refine br_f (nI_ge (b := 4) (by omega) (by omega)) ⟨hin, hin, nm_e ⟨hin, hin, nm_e ⟨hin, hin, nm_e ⟨hin, hin, nm_e (nm_r (nI_1 i) (ih (i + 1) _ _ _ _ (by omega) ?_))⟩⟩⟩⟩
    intro t ht
    by_cases e : t = i
    · subst e; rw [pk_us, pk_us, pk_us, pk_us]; exact ⟨rfl, rfl, rfl, rfl⟩
    · rw [pk_un e, pk_un e, pk_un e, pk_un e]; exact hd t (by omega)
theorem rt_an2 {post : SX → Prop} {f_logStart f_logEnd f_forced f_checkLsn f_latest f_up f_broken f_fuse f_accepted f_found : Int32} {a_disk a_diskLsn a_logKind a_logSlot a_logRecord a_logValue a_logBefore a_logBack a_logNumber a_checkPage a_checkState a_checkUndo a_checkFirst a_checkNumber a_page a_lsn a_since a_held a_state a_undo a_first a_number a_effect a_locks a_lacking : Nat → Int32} (K : ∀ lac, (∀ p, p < 3 → lac p = a_checkPage p) → ∃ n27 : Nat, wX_analyse_27 post f_logStart f_logEnd f_forced f_checkLsn f_latest f_up f_broken f_fuse f_accepted f_found n27 0 a_disk a_diskLsn a_logKind a_logSlot a_logRecord a_logValue a_logBefore a_logBack a_logNumber a_checkPage a_checkState a_checkUndo a_checkFirst a_checkNumber a_page a_lsn a_since a_held a_state a_undo a_first a_number a_effect a_locks lac) : wpX_analyse post (f_logStart, f_logEnd, f_forced, f_checkLsn, f_latest, f_up, f_broken, f_fuse, f_accepted, f_found, a_disk, a_diskLsn, a_logKind, a_logSlot, a_logRecord, a_logValue, a_logBefore, a_logBack, a_logNumber, a_checkPage, a_checkState, a_checkUndo, a_checkFirst, a_checkNumber, a_page, a_lsn, a_since, a_held, a_state, a_undo, a_first, a_number, a_effect, a_locks, a_lacking) := by
  have hin : ∀ p, p < 3 → vp_in (nI p) 3 := fun p hp => vp_in_nI hp (by omega)
  refine ⟨4, ?_⟩
  refine br_f (nI_ge (a := 0) (b := 3) (by omega) (by omega)) ⟨hin 0 (by omega), hin 0 (by omega), nm_r (e' := upd a_lacking 0 (a_checkPage 0)) rfl (nm_r (nI_1 0) ?_)⟩
  refine br_f (nI_ge (a := 1) (b := 3) (by omega) (by omega)) ⟨hin 1 (by omega), hin 1 (by omega), nm_r (e' := upd (upd a_lacking 0 (a_checkPage 0)) 1 (a_checkPage 1)) rfl (nm_r (nI_1 1) ?_)⟩
  refine br_f (nI_ge (a := 2) (b := 3) (by omega) (by omega)) ⟨hin 2 (by omega), hin 2 (by omega), nm_r (e' := upd (upd (upd a_lacking 0 (a_checkPage 0)) 1 (a_checkPage 1)) 2 (a_checkPage 2)) rfl (nm_r (nI_1 2) ?_)⟩
  refine br_t (nI_le (a := 3) (b := 3) (by omega) (by omega)) (K _ ?_)
  intro p hp
  have h3 : p = 0 ∨ p = 1 ∨ p = 2 := by omega
  rcases h3 with rfl | rfl | rfl <;> rfl
theorem rt_nu_all {L : Nat → rt_Rc} {e q : Nat} (hL : rt_LV L e) (hq : rt_ac (rt_A L e) ≤ q) (hq' : q < 1073741824) : ∀ n, n ≤ e → ∀ t, t < 4 → rt_nu (rt_A L n) t < 1073741824 := by
  intro n hn t ht
  have h1 := rt_ac_mo hL (e - n) n (by omega)
  have h2 := rt_nu_le (rt_wf hL n hn) ht (Nat.le_refl _)
  omega
theorem rt_analyse {post : SX → Prop} {f_latest f_up f_broken f_fuse f_accepted f_found : Int32} {a_disk a_diskLsn a_logKind a_logSlot a_logRecord a_logValue a_logBefore a_logBack a_logNumber a_checkPage a_checkState a_checkUndo a_checkFirst a_checkNumber a_page a_lsn a_since a_held a_state a_undo a_first a_number a_effect a_locks a_lacking : Nat → Int32} {L : Nat → rt_Rc} {s e c q : Nat} {cp pg ls si dl : Nat → Nat} (hB : rt_BX L s e e c 0 cp pg ls si dl a_disk a_diskLsn a_page a_lsn a_since a_held) (hcp : ∀ p, p < 3 → a_checkPage p = rt_e (cp p)) (hTc : rt_TX (rt_A L c) a_checkState a_checkUndo a_checkFirst a_checkNumber)
    (hR : rt_RG L s e a_logKind a_logSlot a_logRecord a_logValue a_logBefore a_logBack a_logNumber) (hL : rt_LV L e) (hsc : s ≤ c) (hce : c ≤ e) (he : e < 1073741824) (hq : rt_ac (rt_A L e) ≤ q) (hq' : q < 1073741824) (hZ : rt_ZL a_effect a_locks)
    (H : ∀ br fu a_state' a_undo' a_first' a_number' a_effect' a_locks' a_lacking', (f_fuse = 0 → fu = 0 ∧ br = f_broken) → (br = 0 → rt_TX (rt_A L e) a_state' a_undo' a_first' a_number' ∧ rt_ZL a_effect' a_locks' ∧ ∃ la', (∀ p, p < 3 → a_lacking' p = rt_e (la' p)) ∧ rt_CK L s e dl la') →
      post ((nI s), (nI e), (nI e), (nI c), f_latest, f_up, br, fu, f_accepted, f_found, a_disk, a_diskLsn, a_logKind, a_logSlot, a_logRecord, a_logValue, a_logBefore, a_logBack, a_logNumber, a_checkPage, a_checkState, a_checkUndo, a_checkFirst, a_checkNumber, a_page, a_lsn, a_since, a_held, a_state', a_undo', a_first', a_number', a_effect', a_locks', a_lacking')) : wpX_analyse post ((nI s), (nI e), (nI e), (nI c), f_latest, f_up, f_broken, f_fuse, f_accepted, f_found, a_disk, a_diskLsn, a_logKind, a_logSlot, a_logRecord, a_logValue, a_logBefore, a_logBack, a_logNumber, a_checkPage, a_checkState, a_checkUndo, a_checkFirst, a_checkNumber, a_page, a_lsn, a_since, a_held, a_state, a_undo, a_first, a_number, a_effect, a_locks, a_lacking) := by
  refine rt_an2 ?_
  intro lac hlac
  refine ⟨5, rt_an27 hTc ?_ 4 0 _ _ _ _ (by omega) (fun t ht => by omega)⟩
  intro st un fi nu hT
  obtain ⟨d, hd⟩ : ∃ d, c + d = e := ⟨e - c, by omega⟩
  exact ⟨d + 1, rt_an91 hL he (rt_nu_all hL hq hq') d c hd hsc hR hT (fun p hp => by rw [hlac p hp]; exact hcp p hp) hB.2.2.2 hZ H⟩
end
section
/-! ## restart: history repeated -/
theorem rt_BX_sk {L : Nat → rt_Rc} {s m f c n : Nat} {cp pg ls si dl : Nat → Nat} {a_disk a_diskLsn a_page a_lsn a_since a_held : Nat → Int32} (h : rt_BX L s m f c n cp pg ls si dl a_disk a_diskLsn a_page a_lsn a_since a_held) (hr : ∀ p, p < 3 → rt_tc (L n) p → n < rt_cu pg ls dl p) : rt_BX L s m f c (n + 1) cp pg ls si dl a_disk a_diskLsn a_page a_lsn a_since a_held :=
  ⟨h.1, h.2.1, rt_PC_sk h.2.2.1 hr, h.2.2.2⟩
theorem rt_Vd_r {L : Nat → rt_Rc} {n : Nat} {a : rt_AS} {x : rt_Rc} (hW : rt_WF L n a) (v : rt_Vd L a x) (hk : rt_rk x ≤ 4) : rt_rr x < 12 ∧ (rt_rk x = 1 ∨ rt_rk x = 2 ∨ rt_rk x = 3 ∨ rt_rk x = 4) := by
  rcases v with v | v | v | v
  · exact ⟨v.2.2.1, v.1.elim Or.inl (fun z => Or.inr (Or.inl z))⟩
  · have hk' := rt_VU_k v
    obtain ⟨ht, c, cs, hch, hkx, hrx, _⟩ := v
    refine ⟨?_, Or.inr (Or.inr hk')⟩
    rw [hrx]; exact (rt_Cn_mem (hW.1 _ ht).1 c (by rw [hch]; exact List.mem_cons_self)).2.2.2.2
  · have := v.1; omega
  · have := v.1; omega
theorem rt_Vd_k {L : Nat → rt_Rc} {a : rt_AS} {x : rt_Rc} (v : rt_Vd L a x) : rt_rk x < 8 := by
  rcases v with v | v | v | v
  · have := v.1; omega
  · have := rt_VU_k v; omega
  · have := v.1; omega
  · have := v.1; omega
theorem rt_rp47 {post : SX → Prop} {L : Nat → rt_Rc} {s e c : Nat} {cp dl0 la : Nat → Nat} (hL : rt_LV L e) (he : e < 1073741824) (hK0 : rt_CK L s e dl0 la) : ∀ (d n : Nat) {lt : Nat} {pg ls si dl : Nat → Nat} {f_logStart f_checkLsn f_up f_broken f_fuse f_accepted f_found : Int32} {a_disk a_diskLsn a_logKind a_logSlot a_logRecord a_logValue a_logBefore a_logBack a_logNumber a_checkPage a_checkState a_checkUndo a_checkFirst a_checkNumber a_page a_lsn a_since a_held a_state a_undo a_first a_number a_effect a_locks a_lacking : Nat → Int32}, n + d = e → s ≤ n → lt < 2 →
    rt_RG L s e a_logKind a_logSlot a_logRecord a_logValue a_logBefore a_logBack a_logNumber → (∀ p, p < 3 → a_lacking p = rt_e (la p)) → rt_BX L s e e c n cp pg ls si dl a_disk a_diskLsn a_page a_lsn a_since a_held → (∀ p, p < 3 → dl0 p ≤ rt_cu pg ls dl p) →
    (∀ br fu lt' n' pg' ls' si' dl' a_disk' a_diskLsn' a_page' a_lsn' a_since' a_held', lt' < 2 → (f_fuse = 0 → fu = 0 ∧ br = f_broken) → rt_BX L s e e c n' cp pg' ls' si' dl' a_disk' a_diskLsn' a_page' a_lsn' a_since' a_held' → (br = 0 → n' = e) →
      post (f_logStart, (nI e), (nI e), f_checkLsn, nI lt', f_up, br, fu, f_accepted, f_found, a_disk', a_diskLsn', a_logKind, a_logSlot, a_logRecord, a_logValue, a_logBefore, a_logBack, a_logNumber, a_checkPage, a_checkState, a_checkUndo, a_checkFirst, a_checkNumber, a_page', a_lsn', a_since', a_held', a_state, a_undo, a_first, a_number, a_effect, a_locks, a_lacking)) → wX_repeat_47 post (d + 1) (nI n) f_logStart (nI e) (nI e) f_checkLsn (nI lt) f_up f_broken f_fuse f_accepted f_found a_disk a_diskLsn a_logKind a_logSlot a_logRecord a_logValue a_logBefore a_logBack a_logNumber a_checkPage a_checkState a_checkUndo a_checkFirst a_checkNumber a_page a_lsn a_since a_held a_state a_undo a_first a_number a_effect a_locks a_lacking := by
  intro d
  induction d with
  | zero =>
    intro n lt pg ls si dl
    intros
    rename_i hn hs hlt hR hA hB hD H
    have e1 : n = e := by omega
    subst e1
    exact br_t (nI_le (Nat.le_refl _) (by omega)) (H _ _ lt n pg ls si dl _ _ _ _ _ _ hlt (fun z => ⟨z, rfl⟩) hB (fun _ => rfl))
  | succ d ih =>
    intro n lt pg ls si dl f_logStart f_checkLsn f_up f_broken f_fuse f_accepted f_found a_disk a_diskLsn a_logKind a_logSlot a_logRecord a_logValue a_logBefore a_logBack a_logNumber a_checkPage a_checkState a_checkUndo a_checkFirst a_checkNumber a_page a_lsn a_since a_held a_state a_undo a_first a_number a_effect a_locks a_lacking
    intro hn hs hlt hR hA hB hD H
    have hi : vp_in (nI (n % 256)) 256 := vp_in_nI (by omega) (by omega)
    have hci : (nI (n % 256)).toNatClampNeg = n % 256 := nI_clamp (by omega)
    obtain ⟨r1, r2, r3, r4, r5, r6, r7⟩ := hR n hs (by omega)
    have hv := hL n (by omega)
    have hk8 := rt_Vd_k hv
    have hW := rt_wf hL n (by omega)
    rw [wX_repeat_47]
    dsimp only
    refine br_f (nI_ge (by omega) (by omega)) (br_c (fun hb => ?_) (fun hb => H _ _ lt n pg ls si dl _ _ _ _ _ _ hlt (fun z => ⟨z, rfl⟩) hB (fun z => absurd z hb)))
    have skip : (∀ p, p < 3 → rt_tc (L n) p → n < rt_cu pg ls dl p) → wX_repeat_47 post (d + 1) (nI (n + 1)) f_logStart (nI e) (nI e) f_checkLsn (nI lt) f_up f_broken f_fuse f_accepted f_found a_disk a_diskLsn a_logKind a_logSlot a_logRecord a_logValue a_logBefore a_logBack a_logNumber a_checkPage a_checkState a_checkUndo a_checkFirst a_checkNumber a_page a_lsn a_since a_held a_state a_undo a_first a_number a_effect a_locks a_lacking :=
      fun hz => ih (n + 1) (by omega) (by omega) hlt hR hA (rt_BX_sk hB hz) hD H
    rw [rt_a255 (by omega), hci, r1, r3]
    refine ⟨hi, nm_e ⟨hi, ?_⟩⟩
    refine pk_lt 4 (rt_rk (L n)) (fun z => nm_r (nI_1 n) (skip (fun p hp w => by have := w.1; omega))) (fun z => ?_)
    obtain ⟨hr, hk4⟩ := rt_Vd_r hW hv z
    have hp3 : rt_rr (L n) / 4 < 3 := by omega
    have hip : vp_in (nI (rt_rr (L n) / 4)) 3 := vp_in_nI (by omega) (by omega)
    have hcp : (nI (rt_rr (L n) / 4)).toNatClampNeg = rt_rr (L n) / 4 := nI_clamp (by omega)
    rw [rt_sh (by omega), hcp]
    have hDp := hD _ hp3
    obtain ⟨k1, k2⟩ := hK0 _ hp3
    have hlp : la (rt_rr (L n) / 4) ≤ e := by
      by_cases y : la (rt_rr (L n) / 4) = 0
      · omega
      · exact (k2 y).2.1
    have skip2 : (∀ j, rt_cu pg ls dl (rt_rr (L n) / 4) ≤ j → j = n → ¬ rt_tc (L n) (rt_rr (L n) / 4)) → wX_repeat_47 post (d + 1) (nI (n + 1)) f_logStart (nI e) (nI e) f_checkLsn (nI lt) f_up f_broken f_fuse f_accepted f_found a_disk a_diskLsn a_logKind a_logSlot a_logRecord a_logValue a_logBefore a_logBack a_logNumber a_checkPage a_checkState a_checkUndo a_checkFirst a_checkNumber a_page a_lsn a_since a_held a_state a_undo a_first a_number a_effect a_locks a_lacking := by
      intro hz
      refine skip (fun p hp w => ?_)
      have ep := w.2
      subst ep
      by_cases y : rt_cu pg ls dl (rt_rr (L n) / 4) ≤ n
      · exact absurd w (hz n y rfl)
      · omega
    refine ⟨hip, rt_beq (la (rt_rr (L n) / 4)) 0 (hA _ hp3) rfl (by omega) (by omega) (fun z0 => nm_r (nI_1 n) (skip2 (fun j hj ej => ?_))) (fun z0 => ⟨hip, ?_⟩)⟩
    · subst ej; exact k1 z0 j (by omega) (by omega)
    refine rt_ble (la (rt_rr (L n) / 4)) (n + 1) (hA _ hp3) rfl (by omega) (by omega) (fun z1 => ?_) (fun z1 => nm_r (nI_1 n) (skip2 (fun j hj ej => ?_)))
    · refine rt_ft hlt hp3 he hB ?_
      intro b f' pg' ls' si' dl' d1 d2 d3 d4 d5 d6 hb' hf hB' hpb hcu
      have ef : f' = e := by have := hB'.2.1.1; omega
      subst ef
      have hib : vp_in (nI b) 2 := vp_in_nI hb' (by omega)
      have hPb := hB'.2.1.2.2.2 b hb'
      have hlsb := (hPb.2.2 _ hpb).1
      have ecu := rt_cu_b (ls := ls') (dl := dl') hb' hpb hB'.2.1.2.1
      have elsn := (hB'.1.2 b hb').2.1
      have nxt : ∀ {lt1 : Nat} {pg1 ls1 si1 dl1 : Nat → Nat} {g1 g2 g3 g4 g5 g6 : Nat → Int32}, lt1 < 2 → rt_BX L s f' f' c (n + 1) cp pg1 ls1 si1 dl1 g1 g2 g3 g4 g5 g6 → (∀ p, p < 3 → dl0 p ≤ rt_cu pg1 ls1 dl1 p) →
          wX_repeat_135 post (wX_repeat_47 post (d + 1)) (nI n) f_logStart (nI f') (nI f') f_checkLsn (nI lt1) f_up f_broken f_fuse f_accepted f_found g1 g2 a_logKind a_logSlot a_logRecord a_logValue a_logBefore a_logBack a_logNumber a_checkPage a_checkState a_checkUndo a_checkFirst a_checkNumber g3 g4 g5 g6 a_state a_undo a_first a_number a_effect a_locks a_lacking := by
        intro lt1 pg1 ls1 si1 dl1 g1 g2 g3 g4 g5 g6 hlt1 hB1 hD1
        unfold wX_repeat_135
        refine rt_burn ?_
        intro br fu hbf
        dsimp only
        refine nm_r (nI_1 n) (ih (n + 1) (by omega) (by omega) hlt1 hR hA hB1 hD1 ?_)
        intro br' fu' lt' n' pg2 ls2 si2 dl2 q1 q2 q3 q4 q5 q6 hlt' hbf' hB2 hn'
        refine H br' fu' lt' n' pg2 ls2 si2 dl2 q1 q2 q3 q4 q5 q6 hlt' (fun z => ?_) hB2 hn'
        obtain ⟨z1, z2⟩ := hbf z
        obtain ⟨z3, z4⟩ := hbf' z1
        exact ⟨z3, z4.trans z2⟩
      dsimp only
      rw [nI_clamp (show b < 2 ^ 31 by omega)]
      refine ⟨hib, rt_ble (n + 1) (ls' b) rfl elsn (by omega) (by omega) (fun z2 => ?_) (fun z2 => ?_)⟩
      · refine nxt hb' (rt_BX_sk hB' (fun p hp w => ?_)) (fun p hp => by rw [hcu p hp]; exact hD p hp)
        have ep := w.2
        subst ep
        rw [ecu]; omega
      · refine rt_perform (L := L) (m' := f') hb' he hB' (Nat.le_refl _) (by omega) hs hk4 hr (by rw [ecu]; omega) r1 r3 r4 ?_
        intro b1 f1 pg1 ls1 si1 dl1 g1 g2 g3 g4 g5 g6 hb1 hf1 hB1 hmo
        have ef1 : f1 = f' := by have := hB1.2.1.1; omega
        subst ef1
        exact nxt hb1 hB1 (fun p hp => Nat.le_trans (by rw [hcu p hp]; exact hD p hp) (hmo p hp))
    · subst ej; exact (k2 z0).2.2 j (by omega) (by omega)
theorem rt_rp7 {post : SX → Prop} {f_logStart f_checkLsn f_latest f_up f_broken f_fuse f_accepted f_found : Int32} {a_disk a_diskLsn a_logKind a_logSlot a_logRecord a_logValue a_logBefore a_logBack a_logNumber a_checkPage a_checkState a_checkUndo a_checkFirst a_checkNumber a_page a_lsn a_since a_held a_state a_undo a_first a_number a_effect a_locks a_lacking : Nat → Int32} {s e : Nat} {la : Nat → Nat} (he : e < 1073741824) (hA : ∀ p, p < 3 → a_lacking p = rt_e (la p)) (hla : ∀ p, p < 3 → la p ≠ 0 → s < la p ∧ la p ≤ e) :
    ∀ d i w : Nat, i + d = 3 → s ≤ w → w ≤ e → (∀ w', s ≤ w' → w' ≤ w → (∀ p, p < 3 → i ≤ p → la p ≠ 0 → w' + 1 ≤ la p) → ∃ n47 : Nat, wX_repeat_47 post n47 (nI w') f_logStart (nI e) (nI e) f_checkLsn f_latest f_up f_broken f_fuse f_accepted f_found a_disk a_diskLsn a_logKind a_logSlot a_logRecord a_logValue a_logBefore a_logBack a_logNumber a_checkPage a_checkState a_checkUndo a_checkFirst a_checkNumber a_page a_lsn a_since a_held a_state a_undo a_first a_number a_effect a_locks a_lacking) → wX_repeat_7 post f_logStart (nI e) (nI e) f_checkLsn f_latest f_up f_broken f_fuse f_accepted f_found a_disk a_diskLsn a_logKind a_logSlot a_logRecord a_logValue a_logBefore a_logBack a_logNumber a_checkPage a_checkState a_checkUndo a_checkFirst a_checkNumber a_page a_lsn a_since a_held a_state a_undo a_first a_number a_effect a_locks a_lacking (d + 1) (nI w) (nI i) := by
  intro d
  induction d with
  | zero =>
    intro i w hi hsw hwe K
    have e3 : i = 3 := by omega
    subst e3
    exact br_t (nI_le (a := 3) (b := 3) (by omega) (by omega)) (K w hsw (Nat.le_refl _) (fun p hp z => by omega))
  | succ d ih =>
    intro i w hi hsw hwe K
    have hi3 : i < 3 := by omega
    have hin : vp_in (nI i) 3 := vp_in_nI hi3 (by omega)
    have hlp : la i ≤ e := by
      by_cases z : la i = 0
      · omega
      · exact (hla i hi3 z).2
    refine br_f (nI_ge (b := 3) (by omega) (by omega)) ⟨hin, ?_⟩
    rw [nI_clamp (by omega)]
    have skip : (la i = 0 ∨ w + 1 ≤ la i) → wX_repeat_7 post f_logStart (nI e) (nI e) f_checkLsn f_latest f_up f_broken f_fuse f_accepted f_found a_disk a_diskLsn a_logKind a_logSlot a_logRecord a_logValue a_logBefore a_logBack a_logNumber a_checkPage a_checkState a_checkUndo a_checkFirst a_checkNumber a_page a_lsn a_since a_held a_state a_undo a_first a_number a_effect a_locks a_lacking (d + 1) (nI w) (nI (i + 1)) := by
      intro hz
      refine ih (i + 1) w (by omega) hsw hwe (fun w' h1 h2 h3 => K w' h1 h2 (fun p hp hip hl0 => ?_))
      by_cases e1 : p = i
      · subst e1; exact hz.elim (fun y => absurd y hl0) (fun y => by omega)
      · exact h3 p hp (by omega) hl0
    refine rt_beq (la i) 0 (hA i hi3) rfl (by omega) (by omega) (fun z => nm_r (nI_1 i) (skip (Or.inl z))) (fun z => ⟨hin, ?_⟩)
    refine rt_ble (w + 1) (la i) rfl (hA i hi3) (by omega) (by omega) (fun y => nm_r (nI_1 i) (skip (Or.inr y))) (fun y => ⟨hin, ?_⟩)
    obtain ⟨g, hg⟩ : ∃ g, la i = g + 1 := ⟨la i - 1, by omega⟩
    have := hla i hi3 z
    refine nm_r (e' := nI g) (by rw [hA i hi3, hg]; rfl) (nm_r (nI_1 i) (ih (i + 1) g (by omega) (by omega) (by omega) (fun w' h1 h2 h3 => K w' h1 (by omega) (fun p hp hip hlp => ?_))))
    by_cases e1 : p = i
    · subst e1; omega
    · exact h3 p hp (by omega) hlp
theorem rt_rp7b {post : SX → Prop} {f_logStart f_logEnd f_forced f_checkLsn f_latest f_up f_broken f_fuse f_accepted f_found : Int32} {a_disk a_diskLsn a_logKind a_logSlot a_logRecord a_logValue a_logBefore a_logBack a_logNumber a_checkPage a_checkState a_checkUndo a_checkFirst a_checkNumber a_page a_lsn a_since a_held a_state a_undo a_first a_number a_effect a_locks a_lacking : Nat → Int32} (hb : f_broken ≠ 0) (H : post (f_logStart, f_logEnd, f_forced, f_checkLsn, f_latest, f_up, f_broken, f_fuse, f_accepted, f_found, a_disk, a_diskLsn, a_logKind, a_logSlot, a_logRecord, a_logValue, a_logBefore, a_logBack, a_logNumber, a_checkPage, a_checkState, a_checkUndo, a_checkFirst, a_checkNumber, a_page, a_lsn, a_since, a_held, a_state, a_undo, a_first, a_number, a_effect, a_locks, a_lacking)) :
    ∀ (d i : Nat) (x1 : Int32), i + d = 3 → wX_repeat_7 post f_logStart f_logEnd f_forced f_checkLsn f_latest f_up f_broken f_fuse f_accepted f_found a_disk a_diskLsn a_logKind a_logSlot a_logRecord a_logValue a_logBefore a_logBack a_logNumber a_checkPage a_checkState a_checkUndo a_checkFirst a_checkNumber a_page a_lsn a_since a_held a_state a_undo a_first a_number a_effect a_locks a_lacking (d + 1) x1 (nI i) := by
  intro d
  induction d with
  | zero =>
    intro i x1 hi
    have e3 : i = 3 := by omega
    subst e3
    exact br_t (nI_le (a := 3) (b := 3) (by omega) (by omega)) ⟨1, br_c (fun _ => H) (fun _ => br_f hb H)⟩
  | succ d ih =>
    intro i x1 hi
    have hin : vp_in (nI i) 3 := vp_in_nI (by omega) (by omega)
    exact br_f (nI_ge (b := 3) (by omega) (by omega)) ⟨hin, br_c (fun _ => nm_r (nI_1 i) (ih (i + 1) _ (by omega))) (fun _ => ⟨hin, br_c (fun _ => nm_r (nI_1 i) (ih (i + 1) _ (by omega))) (fun _ => ⟨hin, nm_e (nm_r (nI_1 i) (ih (i + 1) _ (by omega)))⟩)⟩)⟩
theorem rt_repeat {post : SX → Prop} {f_logStart f_checkLsn f_up f_broken f_fuse f_accepted f_found : Int32} {a_disk a_diskLsn a_logKind a_logSlot a_logRecord a_logValue a_logBefore a_logBack a_logNumber a_checkPage a_checkState a_checkUndo a_checkFirst a_checkNumber a_page a_lsn a_since a_held a_state a_undo a_first a_number a_effect a_locks a_lacking : Nat → Int32} {L : Nat → rt_Rc} {s e c lt n : Nat} {cp pg ls si dl la : Nat → Nat} (hL : rt_LV L e) (he : e < 1073741824) (hlt : lt < 2) (hse : s ≤ e) (hR : rt_RG L s e a_logKind a_logSlot a_logRecord a_logValue a_logBefore a_logBack a_logNumber) (hB : rt_BX L s e e c n cp pg ls si dl a_disk a_diskLsn a_page a_lsn a_since a_held)
    (hpg : ∀ b, b < 2 → a_page b = -1) (hF : f_broken = 0 → (∀ p, p < 3 → a_lacking p = rt_e (la p)) ∧ rt_CK L s e dl la)
    (H : ∀ br fu lt' n' pg' ls' si' dl' a_disk' a_diskLsn' a_page' a_lsn' a_since' a_held', lt' < 2 → (f_fuse = 0 → fu = 0 ∧ br = f_broken) → rt_BX L s e e c n' cp pg' ls' si' dl' a_disk' a_diskLsn' a_page' a_lsn' a_since' a_held' → (br = 0 → n' = e ∧ f_broken = 0) →
      post (f_logStart, (nI e), (nI e), f_checkLsn, nI lt', f_up, br, fu, f_accepted, f_found, a_disk', a_diskLsn', a_logKind, a_logSlot, a_logRecord, a_logValue, a_logBefore, a_logBack, a_logNumber, a_checkPage, a_checkState, a_checkUndo, a_checkFirst, a_checkNumber, a_page', a_lsn', a_since', a_held', a_state, a_undo, a_first, a_number, a_effect, a_locks, a_lacking)) : wpX_repeat post (f_logStart, (nI e), (nI e), f_checkLsn, (nI lt), f_up, f_broken, f_fuse, f_accepted, f_found, a_disk, a_diskLsn, a_logKind, a_logSlot, a_logRecord, a_logValue, a_logBefore, a_logBack, a_logNumber, a_checkPage, a_checkState, a_checkUndo, a_checkFirst, a_checkNumber, a_page, a_lsn, a_since, a_held, a_state, a_undo, a_first, a_number, a_effect, a_locks, a_lacking) := by
  by_cases hb : f_broken = 0
  · obtain ⟨hA, hK⟩ := hF hb
    have hla : ∀ p, p < 3 → la p ≠ 0 → s < la p ∧ la p ≤ e := fun p hp z => ⟨((hK p hp).2 z).1, ((hK p hp).2 z).2.1⟩
    refine ⟨4, rt_rp7 (s := s) he hA hla 3 0 e (by omega) hse (Nat.le_refl _) ?_⟩
    intro w h1 h2 h3
    obtain ⟨d, hd⟩ : ∃ d, w + d = e := ⟨e - w, by omega⟩
    have hpg0 : ∀ b, b < 2 → pg b = 0 := by
      intro b hb'
      have e1 := hpg b hb'
      rw [(hB.1.2 b hb').1] at e1
      exact (rt_e0 (by have := (hB.2.1.2.2.2 b hb').1; omega)).mp e1
    have hcu : ∀ p, rt_cu pg ls dl p = dl p := by
      intro p
      unfold rt_cu
      rw [if_neg (by rw [hpg0 0 (by omega)]; omega), if_neg (by rw [hpg0 1 (by omega)]; omega)]
    refine ⟨d + 1, rt_rp47 hL he hK d w hd h1 hlt hR hA ⟨hB.1, hB.2.1, fun p hp => ?_, hB.2.2.2⟩ (fun p hp => by rw [hcu p]; exact Nat.le_refl _) ?_⟩
    · rw [hcu p]
      by_cases z : la p = 0
      · exact rt_Qt_mo ((hK p hp).1 z) (Nat.le_refl _) h2
      · have := h3 p hp (by omega) z
        exact rt_Qt_mo ((hK p hp).2 z).2.2 (Nat.le_refl _) (by omega)
    · intro br fu lt' n' pg' ls' si' dl' q1 q2 q3 q4 q5 q6 g1 g2 g3 g4
      exact H br fu lt' n' pg' ls' si' dl' q1 q2 q3 q4 q5 q6 g1 g2 g3 (fun z => ⟨g4 z, hb⟩)
  · exact ⟨4, rt_rp7b hb (H f_broken f_fuse lt n pg ls si dl _ _ _ _ _ _ hlt (fun z => ⟨z, rfl⟩) hB (fun z => absurd z hb)) 3 0 _ (by omega)⟩
end
section
/-! ## restart: what was open is undone -/
def rt_HB (L : Nat → rt_Rc) (a : rt_AS) (b_state b_count : Nat → Int32) (b_least : Nat → Int64) (b_lock b_isWrite b_where b_what : Nat → Int32) : Prop :=
  ∀ t, t < 4 → b_state t = (if rt_pr a t = true then 2 else 0) ∧ (rt_pr a t = true → rt_PT L a b_count b_least b_lock b_isWrite b_where b_what t)
theorem rt_HB_s {L : Nat → rt_Rc} {e : Nat} {x : rt_Rc} {b_state b_count : Nat → Int32} {b_least : Nat → Int64} {b_lock b_isWrite b_where b_what : Nat → Int32} (hL : rt_LV L e) (hq : rt_CE (rt_u L e x) e (e + 1)) (h : rt_HB L (rt_A L e) b_state b_count b_least b_lock b_isWrite b_where b_what) :
    rt_HB (rt_u L e x) (rt_A (rt_u L e x) (e + 1)) b_state b_count b_least b_lock b_isWrite b_where b_what ∧ rt_co (rt_u L e x) (rt_A (rt_u L e x) (e + 1)) = rt_co L (rt_A L e) := by
  have k := hq e (Nat.le_refl _) (by omega)
  rw [rt_A_lo (Nat.le_refl _)] at k
  refine ⟨fun t ht => ?_, by rw [← k.1, rt_co_lo hL (Nat.le_refl _)]⟩
  obtain ⟨h1, h2⟩ := h t ht
  obtain ⟨k1, k2⟩ := k.2 t ht
  rw [← k1]
  refine ⟨h1, fun z => ?_⟩
  obtain ⟨k3, k4⟩ := k2 z
  obtain ⟨y1, y2, y3, y4⟩ := h2 z
  have cg : ∀ c, c ∈ rt_ch (rt_A L e) t → rt_u L e x c = L c := fun c hc => rt_uo (by have := (rt_Cn_mem ((rt_wf hL e (Nat.le_refl _)).1 t ht).1 c hc).1; omega)
  unfold rt_PT
  rw [← k3, ← k4]
  exact ⟨y1, y2, rt_RE_cg y3 cg (fun _ _ => ⟨rfl, rfl, rfl⟩), fun r hr => by rw [rt_ak_cg cg]; exact y4 r hr⟩
theorem rt_uo19 {post : SX → Prop} {J2 : Int32 → Int32 → Int32 → Int32 → Int32 → Int32 → Int32 → Int32 → Int32 → Int32 → Int32 → (Nat → Int32) → (Nat → Int32) → (Nat → Int32) → (Nat → Int32) → (Nat → Int32) → (Nat → Int32) → (Nat → Int32) → (Nat → Int32) → (Nat → Int32) → (Nat → Int32) → (Nat → Int32) → (Nat → Int32) → (Nat → Int32) → (Nat → Int32) → (Nat → Int32) → (Nat → Int32) → (Nat → Int32) → (Nat → Int32) → (Nat → Int32) → (Nat → Int32) → (Nat → Int32) → (Nat → Int32) → (Nat → Int32) → (Nat → Int32) → (Nat → Int32) → Prop} {x1 : Int32} {f_logStart f_logEnd f_forced f_checkLsn f_latest f_up f_broken f_fuse f_accepted f_found : Int32} {a_disk a_diskLsn a_logKind a_logSlot a_logRecord a_logValue a_logBefore a_logBack a_logNumber a_checkPage a_checkState a_checkUndo a_checkFirst a_checkNumber a_page a_lsn a_since a_held a_state a_undo a_first a_number a_effect a_locks a_lacking : Nat → Int32}
    (K : ∀ x2 : Int32, ((x2 = -1 ∧ ∀ t, t < 4 → a_state t ≠ 1) ∨ (∃ t, t < 4 ∧ x2 = nI t ∧ a_state t = 1)) → wX_undoOpen_19 post J2 x1 f_logStart f_logEnd f_forced f_checkLsn f_latest f_up f_broken f_fuse f_accepted f_found a_disk a_diskLsn a_logKind a_logSlot a_logRecord a_logValue a_logBefore a_logBack a_logNumber a_checkPage a_checkState a_checkUndo a_checkFirst a_checkNumber a_page a_lsn a_since a_held a_state a_undo a_first a_number a_effect a_locks a_lacking 1 x2 (nI 4)) :
    ∀ (d i : Nat) (x2 : Int32), i + d = 4 → ((x2 = -1 ∧ ∀ t, t < i → a_state t ≠ 1) ∨ (∃ t, t < 4 ∧ x2 = nI t ∧ a_state t = 1)) → wX_undoOpen_19 post J2 x1 f_logStart f_logEnd f_forced f_checkLsn f_latest f_up f_broken f_fuse f_accepted f_found a_disk a_diskLsn a_logKind a_logSlot a_logRecord a_logValue a_logBefore a_logBack a_logNumber a_checkPage a_checkState a_checkUndo a_checkFirst a_checkNumber a_page a_lsn a_since a_held a_state a_undo a_first a_number a_effect a_locks a_lacking (d + 1) x2 (nI i) := by
  intro d
  induction d with
  | zero =>
    intro i x2 hi hz
    have e : i = 4 := by omega
    subst e
    exact K x2 hz
  | succ d ih =>
    intro i x2 hi hz
    have hi4 : i < 4 := by omega
    have hin : vp_in (nI i) 4 := vp_in_nI hi4 (by omega)
    have hc : (nI i).toNatClampNeg = i := nI_clamp (by omega)
    refine br_f (nI_ge (b := 4) (by omega) (by omega)) ⟨hin, ?_⟩
    rw [hc]
    refine br_c (fun z => br_c (fun y => nm_r (nI_1 i) (ih (i + 1) _ (by omega) (Or.inr ⟨i, hi4, rfl, z⟩))) (fun y => ⟨hin, ?_⟩)) (fun z => nm_r (nI_1 i) (ih (i + 1) _ (by omega) ?_))
    · rcases hz with hz | ⟨t, ht, e1, hs⟩
      · exact absurd hz.1 y
      · subst e1
        exact ⟨vp_in_nI ht (by omega), br_c (fun _ => nm_r (nI_1 i) (ih (i + 1) _ (by omega) (Or.inr ⟨t, ht, rfl, hs⟩))) (fun _ => nm_r (nI_1 i) (ih (i + 1) _ (by omega) (Or.inr ⟨i, hi4, rfl, z⟩)))⟩
    · rcases hz with ⟨h1, h2⟩ | hz
      · refine Or.inl ⟨h1, fun t ht => ?_⟩
        by_cases e : t = i
        · subst e; exact z
        · exact h2 t (by omega)
      · exact Or.inr hz
def rt_mt (st : Nat → Int32) (a : rt_AS) (t : Nat) : Nat := if st t = 1 then (rt_ch a t).length + 1 else 0
def rt_mu (st : Nat → Int32) (a : rt_AS) : Nat := rt_mt st a 0 + rt_mt st a 1 + rt_mt st a 2 + rt_mt st a 3
theorem rt_mu_s {st st' : Nat → Int32} {a a' : rt_AS} {t : Nat} (ht : t < 4) (ho : ∀ u, u ≠ t → st' u = st u ∧ rt_ch a' u = rt_ch a u) : rt_mu st' a' + rt_mt st a t = rt_mu st a + rt_mt st' a' t :=
  rt_s4 (f := rt_mt st a) (g := rt_mt st' a') ht (fun u hu => by unfold rt_mt; rw [(ho u hu).1, (ho u hu).2])
theorem rt_mu_0 {st : Nat → Int32} {a : rt_AS} (h : rt_mu st a = 0) : ∀ t, t < 4 → st t ≠ 1 := by
  have key : ∀ t, rt_mt st a t = 0 → st t ≠ 1 := by
    intro t h z
    unfold rt_mt at h
    rw [if_pos z] at h
    omega
  unfold rt_mu at h
  intro t ht
  have h4 : t = 0 ∨ t = 1 ∨ t = 2 ∨ t = 3 := by omega
  rcases h4 with rfl | rfl | rfl | rfl <;> exact key _ (by omega)
theorem rt_mu_le {st : Nat → Int32} {L : Nat → rt_Rc} {n : Nat} {a : rt_AS} (hW : rt_WF L n a) : rt_mu st a ≤ 44 := by
  have key : ∀ t, t < 4 → rt_mt st a t ≤ 11 := by
    intro t ht
    have := (hW.1 t ht).2.1
    unfold rt_mt
    split <;> omega
  have h0 := key 0 (by omega); have h1 := key 1 (by omega); have h2 := key 2 (by omega); have h3 := key 3 (by omega)
  unfold rt_mu
  omega
/-- locks none, counts none but of open transactions -/
def rt_ZO (st ef lk : Nat → Int32) : Prop := ∀ t, t < 4 → (st t ≠ 1 → ef t = 0) ∧ ∀ r, r < 12 → lk (12 * t + r) = 0
theorem rt_hd0 {cs : List Nat} (h : rt_hd cs = 0) : cs = [] := by
  cases cs with
  | nil => rfl
  | cons c cs => exact absurd h (Nat.succ_ne_zero c)
theorem rt_uo2 {post : SX → Prop} {q : Nat} {b_row b_state b_count : Nat → Int32} {b_least : Nat → Int64} {b_lock b_isWrite b_where b_what : Nat → Int32} : ∀ (N k : Nat) {L : Nat → rt_Rc} {s e f c la : Nat} {f_up f_broken f_fuse f_found : Int32} {a_disk a_diskLsn a_logKind a_logSlot a_logRecord a_logValue a_logBefore a_logBack a_logNumber a_checkPage a_checkState a_checkUndo a_checkFirst a_checkNumber a_page a_lsn a_since a_held a_state a_undo a_first a_number a_effect a_locks a_lacking : Nat → Int32}, k + N = 60 → la < 2 → rt_SY L s e e f c q e a_disk a_diskLsn a_logKind a_logSlot a_logRecord a_logValue a_logBefore a_logBack a_logNumber a_checkPage a_checkState a_checkUndo a_checkFirst a_checkNumber a_page a_lsn a_since a_held → rt_TX (rt_A L e) a_state a_undo a_first a_number → rt_CE L f e →
    rt_HB L (rt_A L e) b_state b_count b_least b_lock b_isWrite b_where b_what → b_row = rt_co L (rt_A L e) → rt_ZO a_state a_effect a_locks → rt_mu a_state (rt_A L e) ≤ N → e + N < 1073741824 →
    (∀ br fu L' s' e' f' c' la' a_disk' a_diskLsn' a_logKind' a_logSlot' a_logRecord' a_logValue' a_logBefore' a_logBack' a_logNumber' a_checkPage' a_checkState' a_checkUndo' a_checkFirst' a_checkNumber' a_page' a_lsn' a_since' a_held' a_state' a_undo' a_first' a_number' a_effect' a_locks', (f_fuse = 0 → fu = 0 ∧ br = f_broken) → la' < 2 → e' ≤ e + N →
      rt_SY L' s' e' e' f' c' q e' a_disk' a_diskLsn' a_logKind' a_logSlot' a_logRecord' a_logValue' a_logBefore' a_logBack' a_logNumber' a_checkPage' a_checkState' a_checkUndo' a_checkFirst' a_checkNumber' a_page' a_lsn' a_since' a_held' →
      rt_CE L' f' e' → rt_HB L' (rt_A L' e') b_state b_count b_least b_lock b_isWrite b_where b_what → b_row = rt_co L' (rt_A L' e') →
      (br = 0 → rt_TX (rt_A L' e') a_state' a_undo' a_first' a_number' ∧ rt_ZO a_state' a_effect' a_locks' ∧ ∀ t, t < 4 → a_state' t ≠ 1) →
      post (nI s', nI e', nI f', nI c', nI la', f_up, br, fu, (nI q), f_found, a_disk', a_diskLsn', a_logKind', a_logSlot', a_logRecord', a_logValue', a_logBefore', a_logBack', a_logNumber', a_checkPage', a_checkState', a_checkUndo', a_checkFirst', a_checkNumber', a_page', a_lsn', a_since', a_held', a_state', a_undo', a_first', a_number', a_effect', a_locks', a_lacking)) →
    wX_undoOpen_2 post (N + 1) (nI k) (nI s) (nI e) (nI f) (nI c) (nI la) f_up f_broken f_fuse (nI q) f_found a_disk a_diskLsn a_logKind a_logSlot a_logRecord a_logValue a_logBefore a_logBack a_logNumber a_checkPage a_checkState a_checkUndo a_checkFirst a_checkNumber a_page a_lsn a_since a_held a_state a_undo a_first a_number a_effect a_locks a_lacking := by
  intro N
  induction N with
  | zero =>
    intro k L s e f c la
    intros
    rename_i hk hla hS hT hCE hHB hrow hZ hmu he H
    have e1 : k = 60 := by omega
    subst e1
    exact br_t (nI_le (a := 60) (b := 60) (by omega) (by omega)) (H _ _ L s e f c la _ _ _ _ _ _ _ _ _ _ _ _ _ _ _ _ _ _ _ _ _ _ _ _ (fun z => ⟨z, rfl⟩) hla (by omega) hS hCE hHB hrow (fun _ => ⟨hT, hZ, rt_mu_0 (Nat.le_zero.mp hmu)⟩))
  | succ N ih =>
    intro k L s e f c la f_up f_broken f_fuse f_found a_disk a_diskLsn a_logKind a_logSlot a_logRecord a_logValue a_logBefore a_logBack a_logNumber a_checkPage a_checkState a_checkUndo a_checkFirst a_checkNumber a_page a_lsn a_since a_held a_state a_undo a_first a_number a_effect a_locks a_lacking
    intro hk hla hS hT hCE hHB hrow hZ hmu he H
    have hL := rt_SY_L hS
    have hW := rt_wf hL.1 e (Nat.le_refl _)
    refine br_f (nI_ge (a := k) (b := 60) (by omega) (by omega)) (br_c (fun hb => ?_) (fun hb => H _ _ L s e f c la _ _ _ _ _ _ _ _ _ _ _ _ _ _ _ _ _ _ _ _ _ _ _ _ (fun z => ⟨z, rfl⟩) hla (by omega) hS hCE hHB hrow (fun z => absurd z hb)))
    refine ⟨5, rt_uo19 ?_ 4 0 (-1) (by omega) (Or.inl ⟨rfl, fun t ht => by omega⟩)⟩
    intro x2 hx
    rcases hx with ⟨rfl, hno⟩ | ⟨t, ht, rfl, hs⟩
    · exact br_t (nI_le (a := 4) (b := 4) (by omega) (by omega)) (br_t rfl (H _ _ L s e f c la _ _ _ _ _ _ _ _ _ _ _ _ _ _ _ _ _ _ _ _ _ _ _ _ (fun z => ⟨z, rfl⟩) hla (by omega) hS hCE hHB hrow (fun _ => ⟨hT, hZ, hno⟩)))
    · have hin : vp_in (nI t) 4 := vp_in_nI ht (by omega)
      have hc : (nI t).toNatClampNeg = t := nI_clamp (by omega)
      obtain ⟨t1, t2, t3, t4, t5⟩ := hT t ht
      have hpr := (rt_st1 hT hW ht).2.1 hs
      have hfi : rt_fi (rt_A L e) t ≤ e := by
        by_cases z : rt_fi (rt_A L e) t = 0
        · omega
        · exact (rt_win hL.1 ht z).1
      have hhd : rt_hd (rt_ch (rt_A L e) t) < 1073741824 := by
        cases hch : rt_ch (rt_A L e) t with
        | nil => show 0 < 1073741824; omega
        | cons d ds =>
          have := (rt_Cn_mem (hW.1 t ht).1 d (by rw [hch]; exact List.mem_cons_self)).1
          show d + 1 < 1073741824; omega
      -- the next round
      have nxt : ∀ {L' : Nat → rt_Rc} {s' e' f' c' la' : Nat} {g1 g2 g3 g4 g5 g6 g7 g8 g9 g10 g11 g12 g13 g14 g15 g16 g17 g18 st' un' fi' nu' ef' lk' : Nat → Int32}, la' < 2 → e' ≤ e + 1 → rt_SY L' s' e' e' f' c' q e' g1 g2 g3 g4 g5 g6 g7 g8 g9 g10 g11 g12 g13 g14 g15 g16 g17 g18 → rt_TX (rt_A L' e') st' un' fi' nu' → rt_CE L' f' e' →
          rt_HB L' (rt_A L' e') b_state b_count b_least b_lock b_isWrite b_where b_what → b_row = rt_co L' (rt_A L' e') → rt_ZO st' ef' lk' → rt_mu st' (rt_A L' e') ≤ N →
          wX_undoOpen_113 post (wX_undoOpen_2 post (N + 1)) (nI k) (nI s') (nI e') (nI f') (nI c') (nI la') f_up f_broken f_fuse (nI q) f_found g1 g2 g3 g4 g5 g6 g7 g8 g9 g10 g11 g12 g13 g14 g15 g16 g17 g18 st' un' fi' nu' ef' lk' a_lacking := by
        intro L' s' e' f' c' la' g1 g2 g3 g4 g5 g6 g7 g8 g9 g10 g11 g12 g13 g14 g15 g16 g17 g18 st' un' fi' nu' ef' lk' w1 w2 w3 w4 w5 w6 w7 w8 w9
        unfold wX_undoOpen_113
        refine rt_burn ?_
        intro br fu hbf
        dsimp only
        refine nm_r (nI_1 k) (ih (k + 1) (by omega) w1 w3 w4 w5 w6 w7 w8 w9 (by omega) ?_)
        intro br' fu' L2 s2 e2 f2 c2 la2 m1 m2 m3 m4 m5 m6 m7 m8 m9 m10 m11 m12 m13 m14 m15 m16 m17 m18 n1 n2 n3 n4 n5 n6 hbf' v1 v2 v3 v4 v5 v6 v7
        refine H br' fu' L2 s2 e2 f2 c2 la2 m1 m2 m3 m4 m5 m6 m7 m8 m9 m10 m11 m12 m13 m14 m15 m16 m17 m18 n1 n2 n3 n4 n5 n6 (fun z => ?_) v1 (by omega) v3 v4 v5 v6 v7
        obtain ⟨z1, z2⟩ := hbf z
        obtain ⟨z3, z4⟩ := hbf' z1
        exact ⟨z3, z4.trans z2⟩
      have hmt : rt_mt a_state (rt_A L e) t = (rt_ch (rt_A L e) t).length + 1 := by unfold rt_mt; rw [if_pos hs]
      have hZl : rt_ZO (upd a_state t 0) (upd a_effect t 0) (rt_zr a_locks t 0) := by
        intro u hu
        by_cases e1 : u = t
        · subst e1; exact ⟨fun _ => pk_us, fun r hr => rt_zr_in hr⟩
        · rw [pk_un e1, pk_un e1]; exact ⟨(hZ u hu).1, fun r hr => by rw [rt_zr_out hr e1]; exact (hZ u hu).2 r hr⟩
      have hmt0 : ∀ a', rt_mt (upd a_state t 0) a' t = 0 := fun a' => by unfold rt_mt; rw [pk_us, if_neg rt_h01]
      rw [wX_undoOpen_19]
      dsimp only
      rw [hc]
      refine br_t (nI_le (a := 4) (b := 4) (by omega) (by omega)) (br_f (fun z => ?_) ⟨hin, ?_⟩)
      · have := (rt_e0 (a := t + 1) (by omega)).mp z; omega
      refine rt_beq (rt_hd (rt_ch (rt_A L e) t)) 0 t1 rfl (by omega) (by omega) (fun z => ⟨hin, ?_⟩) (fun z => ?_)
      · have hch := rt_hd0 z
        refine rt_beq (rt_fi (rt_A L e) t) 0 t2 rfl (by omega) (by omega) (fun z2 => ?_) (fun z2 => ?_)
        · unfold wX_undoOpen_108
          refine rt_leave ht ?_
          have hmu' := rt_mu_s (st := a_state) (st' := upd a_state t 0) (a := rt_A L e) (a' := rt_A L e) ht (fun u hu => ⟨pk_un hu, rfl⟩)
          have := hmt0 (rt_A L e)
          exact nxt hla (by omega) hS (rt_TX_L0 hT z2 hch ((hW.1 t ht).2.2.1 z2).2.1) hCE hHB hrow hZl (by omega)
        · have hv : rt_VL (rt_A L e) (6, t, 0, 0, 0, 0, q) := ⟨Or.inr rfl, ht, z2⟩
          refine rt_log (x := (6, t, 0, 0, 0, 0, q)) (show 6 < 16 by omega) (show 0 < 16 by omega) rfl rfl (by omega) hS hT (Or.inr (Or.inr (Or.inl hv))) ht ?_
          intro s2 f2 c2 g1 g2 g3 g4 g5 g6 g7 g8 g9 g10 g11 g12 g13 g14 g15 hf2 hS2
          have hA : rt_A (rt_u L e (6, t, 0, 0, 0, 0, q)) (e + 1) = rt_apL (6, t, 0, 0, 0, 0, q) (rt_A L e) := by rw [rt_A_ap, rt_ap_L hv.1]
          have hTX := rt_TX_L (x := (6, t, 0, 0, 0, 0, q)) hT
          rw [← hA] at hTX
          have hCE' := rt_CE_L hL.1 (rt_CE_r (L := L) (e := e)) hv hch hpr
          have hHB' := rt_HB_s hL.1 hCE' hHB
          have hmu' := rt_mu_s (st := a_state) (st' := upd a_state t 0) (a := rt_A L e) (a' := rt_A (rt_u L e (6, t, 0, 0, 0, 0, q)) (e + 1)) ht (fun u hu => ⟨pk_un hu, by rw [hA]; exact rt_uo hu⟩)
          have := hmt0 (rt_A (rt_u L e (6, t, 0, 0, 0, 0, q)) (e + 1))
          dsimp only
          unfold wX_undoOpen_108
          refine rt_leave ht ?_
          exact nxt hla (Nat.le_refl _) (rt_SY_nt hS2 (by rw [rt_us]; show 4 < 6; omega) (Nat.le_refl _) (rt_SY_L hS2).2.2.2.2.1) hTX (rt_CE_le (rt_CE_L hL.1 hCE hv hch hpr) hf2) hHB'.1 (by rw [hHB'.2]; exact hrow) hZl (by omega)
      · obtain ⟨d, ds, hch⟩ : ∃ d ds, rt_ch (rt_A L e) t = d :: ds := by
          cases hc0 : rt_ch (rt_A L e) t with
          | nil => rw [hc0] at z; exact absurd rfl z
          | cons d ds => exact ⟨d, ds, rfl⟩
        refine rt_undoOne hla hS hT ht hch (by omega) ?_
        intro x s1 f1 c1 b1 d1 d2 d3 d4 d5 d6 d7 d8 d9 d10 d11 d12 d13 d14 d15 d16 d17 d18 hb1 hf hv hx hS1 hT1
        have hk34 := rt_VU_k hv
        have hA : rt_A (rt_u L e x) (e + 1) = rt_apU x (rt_A L e) := by rw [rt_A_ap, rt_ap_U hk34]
        have hCE' := rt_CE_U hL.1 (rt_CE_r (L := L) (e := e)) hv (by rw [hx]; exact hpr)
        have hHB' := rt_HB_s hL.1 hCE' hHB
        have ech : rt_ch (rt_A (rt_u L e x) (e + 1)) t = ds := by
          rw [hA]
          show rt_u (rt_ch (rt_A L e)) (rt_rs x) (rt_ch (rt_A L e) (rt_rs x)).tail t = ds
          rw [hx, rt_us, hch]; rfl
        have hmu' := rt_mu_s (st := a_state) (st' := a_state) (a := rt_A L e) (a' := rt_A (rt_u L e x) (e + 1)) ht (fun u hu => ⟨rfl, by rw [hA]; exact rt_uo (by rw [hx]; exact hu)⟩)
        have hmt' : rt_mt a_state (rt_A (rt_u L e x) (e + 1)) t = ds.length + 1 := by unfold rt_mt; rw [if_pos hs, ech]
        have hlc : (rt_ch (rt_A L e) t).length = ds.length + 1 := by rw [hch]; rfl
        dsimp only
        refine nxt hb1 (Nat.le_refl _) hS1 hT1 (rt_CE_le (rt_CE_U hL.1 hCE hv (by rw [hx]; exact hpr)) hf) hHB'.1 (by rw [hHB'.2]; exact hrow) (fun u hu => ⟨fun w => ?_, (hZ u hu).2⟩) (by omega)
        have e1 : u ≠ t := fun e1 => by subst e1; exact w hs
        rw [pk_un e1]; exact (hZ u hu).1 w
end
section
/-! ## restart -/
/-- after a restart's success, before the locks -/
def rt_RD (k : Nat) (L : Nat → rt_Rc) (s e f c q la : Nat) (a_disk a_diskLsn a_logKind a_logSlot a_logRecord a_logValue a_logBefore a_logBack a_logNumber a_checkPage a_checkState a_checkUndo a_checkFirst a_checkNumber a_page a_lsn a_since a_held a_state a_undo a_first a_number a_effect a_locks b_state b_count : Nat → Int32) (b_least : Nat → Int64) (b_lock b_isWrite b_where b_what : Nat → Int32) : Prop :=
  rt_SY L s e e f c q e a_disk a_diskLsn a_logKind a_logSlot a_logRecord a_logValue a_logBefore a_logBack a_logNumber a_checkPage a_checkState a_checkUndo a_checkFirst a_checkNumber a_page a_lsn a_since a_held ∧ rt_TX (rt_A L e) a_state a_undo a_first a_number ∧ rt_CE L f e ∧ (la < 2 ∧ e ≤ 60 * k ∧ q ≤ k) ∧ (∀ t, t < 4 → a_state t ≠ 1 ∧ a_effect t = 0 ∧ ∀ r, r < 12 → a_locks (12 * t + r) = 0) ∧
  rt_HB L (rt_A L e) b_state b_count b_least b_lock b_isWrite b_where b_what
theorem rt_undoOpenB {post : SX → Prop} {f_logStart f_logEnd f_forced f_checkLsn f_latest f_up f_broken f_fuse f_accepted f_found : Int32} {a_disk a_diskLsn a_logKind a_logSlot a_logRecord a_logValue a_logBefore a_logBack a_logNumber a_checkPage a_checkState a_checkUndo a_checkFirst a_checkNumber a_page a_lsn a_since a_held a_state a_undo a_first a_number a_effect a_locks a_lacking : Nat → Int32} (hb : f_broken ≠ 0) (H : post (f_logStart, f_logEnd, f_forced, f_checkLsn, f_latest, f_up, f_broken, f_fuse, f_accepted, f_found, a_disk, a_diskLsn, a_logKind, a_logSlot, a_logRecord, a_logValue, a_logBefore, a_logBack, a_logNumber, a_checkPage, a_checkState, a_checkUndo, a_checkFirst, a_checkNumber, a_page, a_lsn, a_since, a_held, a_state, a_undo, a_first, a_number, a_effect, a_locks, a_lacking)) : wpX_undoOpen post (f_logStart, f_logEnd, f_forced, f_checkLsn, f_latest, f_up, f_broken, f_fuse, f_accepted, f_found, a_disk, a_diskLsn, a_logKind, a_logSlot, a_logRecord, a_logValue, a_logBefore, a_logBack, a_logNumber, a_checkPage, a_checkState, a_checkUndo, a_checkFirst, a_checkNumber, a_page, a_lsn, a_since, a_held, a_state, a_undo, a_first, a_number, a_effect, a_locks, a_lacking) := ⟨1, br_f (nI_ge (a := 0) (b := 60) (by omega) (by omega)) (br_f hb H)⟩
theorem rt_rs42 {post : Int32 → SX → Prop} {J : Int32 → Int32 → Int32 → Int32 → Int32 → Int32 → Int32 → Int32 → Int32 → Int32 → Int32 → (Nat → Int32) → (Nat → Int32) → (Nat → Int32) → (Nat → Int32) → (Nat → Int32) → (Nat → Int32) → (Nat → Int32) → (Nat → Int32) → (Nat → Int32) → (Nat → Int32) → (Nat → Int32) → (Nat → Int32) → (Nat → Int32) → (Nat → Int32) → (Nat → Int32) → (Nat → Int32) → (Nat → Int32) → (Nat → Int32) → (Nat → Int32) → (Nat → Int32) → (Nat → Int32) → (Nat → Int32) → (Nat → Int32) → (Nat → Int32) → (Nat → Int32) → Prop} {f_broken f_fuse f_found : Int32} {a_disk a_diskLsn a_logKind a_logSlot a_logRecord a_logValue a_logBefore a_logBack a_logNumber a_checkPage a_checkState a_checkUndo a_checkFirst a_checkNumber a_page a_lsn a_since a_held a_state a_undo a_first a_number a_effect a_locks a_lacking : Nat → Int32}
    {k a : Nat} {x1 z0 : Int32} {L : Nat → rt_Rc} {s e c q la : Nat} {b_row b_state b_count : Nat → Int32} {b_least : Nat → Int64} {b_lock b_isWrite b_where b_what : Nat → Int32} (hk : k ≤ 2100)
    (h : rt_DF k L s e c q la a_disk a_diskLsn a_logKind a_logSlot a_logRecord a_logValue a_logBefore a_logBack a_logNumber a_checkPage a_checkState a_checkUndo a_checkFirst a_checkNumber a_page a_lsn a_since a_held a_state a_undo a_first a_number a_effect a_locks b_state b_count b_least b_lock b_isWrite b_where b_what) (hrow : b_row = rt_co L (rt_A L e))
    (HD : z0 ≠ 0 → ∀ L' s' e' c' la' br fu a_disk' a_diskLsn' a_logKind' a_logSlot' a_logRecord' a_logValue' a_logBefore' a_logBack' a_logNumber' a_checkPage' a_checkState' a_checkUndo' a_checkFirst' a_checkNumber' a_page' a_lsn' a_since' a_held' a_state' a_undo' a_first' a_number' a_effect' a_locks' a_lacking', rt_DF (k + 1) L' s' e' c' q la' a_disk' a_diskLsn' a_logKind' a_logSlot' a_logRecord' a_logValue' a_logBefore' a_logBack' a_logNumber' a_checkPage' a_checkState' a_checkUndo' a_checkFirst' a_checkNumber' a_page' a_lsn' a_since' a_held' a_state' a_undo' a_first' a_number' a_effect' a_locks' b_state b_count b_least b_lock b_isWrite b_where b_what → b_row = rt_co L' (rt_A L' e') →
      J (nI (a + 1)) (nI s') (nI e') (nI e') (nI c') (nI la') 0 br fu (nI q) f_found a_disk' a_diskLsn' a_logKind' a_logSlot' a_logRecord' a_logValue' a_logBefore' a_logBack' a_logNumber' a_checkPage' a_checkState' a_checkUndo' a_checkFirst' a_checkNumber' a_page' a_lsn' a_since' a_held' a_state' a_undo' a_first' a_number' a_effect' a_locks' a_lacking')
    (HU : ∀ L' s' e' f' c' la' br fu a_disk' a_diskLsn' a_logKind' a_logSlot' a_logRecord' a_logValue' a_logBefore' a_logBack' a_logNumber' a_checkPage' a_checkState' a_checkUndo' a_checkFirst' a_checkNumber' a_page' a_lsn' a_since' a_held' a_state' a_undo' a_first' a_number' a_effect' a_locks' a_lacking', rt_RD (k + 1) L' s' e' f' c' q la' a_disk' a_diskLsn' a_logKind' a_logSlot' a_logRecord' a_logValue' a_logBefore' a_logBack' a_logNumber' a_checkPage' a_checkState' a_checkUndo' a_checkFirst' a_checkNumber' a_page' a_lsn' a_since' a_held' a_state' a_undo' a_first' a_number' a_effect' a_locks' b_state b_count b_least b_lock b_isWrite b_where b_what → b_row = rt_co L' (rt_A L' e') →
      J (nI (a + 1)) (nI s') (nI e') (nI f') (nI c') (nI la') 1 br fu (nI q) f_found a_disk' a_diskLsn' a_logKind' a_logSlot' a_logRecord' a_logValue' a_logBefore' a_logBack' a_logNumber' a_checkPage' a_checkState' a_checkUndo' a_checkFirst' a_checkNumber' a_page' a_lsn' a_since' a_held' a_state' a_undo' a_first' a_number' a_effect' a_locks' a_lacking') :
    wX_restart_42 post J x1 (nI a) z0 (nI s) (nI e) (nI e) (nI c) (nI la) 0 f_broken f_fuse (nI q) f_found a_disk a_diskLsn a_logKind a_logSlot a_logRecord a_logValue a_logBefore a_logBack a_logNumber a_checkPage a_checkState a_checkUndo a_checkFirst a_checkNumber a_page a_lsn a_since a_held a_state a_undo a_first a_number a_effect a_locks a_lacking := by
  obtain ⟨hS, hpg, hz, ⟨hla, he, hq⟩, hHB⟩ := h
  obtain ⟨cp, pg, ls, si, dl, hB, hcp, hTc, hfc, hR, hL, z1, z2, z3, z4, z5, z6, z7⟩ := hS
  unfold wX_restart_42
  refine rt_analyse hB hcp hTc hR hL z1 z2 z5 z6 z7 (fun t ht => ⟨(hz t ht).2.2.2.2.1, (hz t ht).2.2.2.2.2⟩) ?_
  intro br fu st un fi nu ef lk lac hbf hF
  dsimp only
  obtain ⟨la1, hla1⟩ : ∃ la1 : Nat → Nat, br = 0 → (∀ p, p < 3 → lac p = rt_e (la1 p)) ∧ rt_CK L s e dl la1 := by
    by_cases hb : br = 0
    · obtain ⟨_, _, la1, h1⟩ := hF hb
      exact ⟨la1, fun _ => h1⟩
    · exact ⟨fun _ => 0, fun z => absurd z hb⟩
  refine rt_repeat hL z5 hla (by omega) hR hB (fun b hb => (hpg b hb).1) hla1 ?_
  intro br1 fu1 lt1 n1 pg1 ls1 si1 dl1 d1 d2 d3 d4 d5 d6 hlt1 hbf1 hB1 hn1
  dsimp only
  have hS1 : rt_SY L s e e e c q n1 d1 d2 a_logKind a_logSlot a_logRecord a_logValue a_logBefore a_logBack a_logNumber a_checkPage a_checkState a_checkUndo a_checkFirst a_checkNumber d3 d4 d5 d6 := ⟨cp, pg1, ls1, si1, dl1, hB1, hcp, hTc, hfc, hR, hL, z1, z2, z3, z4, z5, z6, z7⟩
  -- the loss after a crash within the restart
  have lose : ∀ {L' : Nat → rt_Rc} {s' e' f' c' la' m' n' : Nat} {br' fu' : Int32} {a_disk' a_diskLsn' a_logKind' a_logSlot' a_logRecord' a_logValue' a_logBefore' a_logBack' a_logNumber' a_checkPage' a_checkState' a_checkUndo' a_checkFirst' a_checkNumber' a_page' a_lsn' a_since' a_held' a_state' a_undo' a_first' a_number' a_effect' a_locks' a_lacking' : Nat → Int32}, br' ≠ 0 → (z0 = 0 → br' = 0) → rt_SY L' s' e' m' f' c' q n' a_disk' a_diskLsn' a_logKind' a_logSlot' a_logRecord' a_logValue' a_logBefore' a_logBack' a_logNumber' a_checkPage' a_checkState' a_checkUndo' a_checkFirst' a_checkNumber' a_page' a_lsn' a_since' a_held' → rt_CE L' f' e' → la' < 2 → e' ≤ e + 60 → rt_HB L' (rt_A L' e') b_state b_count b_least b_lock b_isWrite b_where b_what → b_row = rt_co L' (rt_A L' e') →
      ((br' = 0 → ∀ x2_155 : Int32, x2_155 = nI a + 1 → J x2_155 (nI s') (nI e') (nI f') (nI c') (nI la') 1 br' fu' (nI q) f_found a_disk' a_diskLsn' a_logKind' a_logSlot' a_logRecord' a_logValue' a_logBefore' a_logBack' a_logNumber' a_checkPage' a_checkState' a_checkUndo' a_checkFirst' a_checkNumber' a_page' a_lsn' a_since' a_held' a_state' a_undo' a_first' a_number' a_effect' a_locks' a_lacking') ∧ (¬ br' = 0 → wpX_lose (fun u => ∀ x2_192 : Int32, x2_192 = nI a + 1 → J x2_192 u.1 u.2.1 u.2.2.1 u.2.2.2.1 u.2.2.2.2.1 u.2.2.2.2.2.1 u.2.2.2.2.2.2.1 u.2.2.2.2.2.2.2.1 u.2.2.2.2.2.2.2.2.1 u.2.2.2.2.2.2.2.2.2.1 u.2.2.2.2.2.2.2.2.2.2.1 u.2.2.2.2.2.2.2.2.2.2.2.1 u.2.2.2.2.2.2.2.2.2.2.2.2.1 u.2.2.2.2.2.2.2.2.2.2.2.2.2.1 u.2.2.2.2.2.2.2.2.2.2.2.2.2.2.1 u.2.2.2.2.2.2.2.2.2.2.2.2.2.2.2.1 u.2.2.2.2.2.2.2.2.2.2.2.2.2.2.2.2.1 u.2.2.2.2.2.2.2.2.2.2.2.2.2.2.2.2.2.1 u.2.2.2.2.2.2.2.2.2.2.2.2.2.2.2.2.2.2.1 u.2.2.2.2.2.2.2.2.2.2.2.2.2.2.2.2.2.2.2.1 u.2.2.2.2.2.2.2.2.2.2.2.2.2.2.2.2.2.2.2.2.1 u.2.2.2.2.2.2.2.2.2.2.2.2.2.2.2.2.2.2.2.2.2.1 u.2.2.2.2.2.2.2.2.2.2.2.2.2.2.2.2.2.2.2.2.2.2.1 u.2.2.2.2.2.2.2.2.2.2.2.2.2.2.2.2.2.2.2.2.2.2.2.1 u.2.2.2.2.2.2.2.2.2.2.2.2.2.2.2.2.2.2.2.2.2.2.2.2.1 u.2.2.2.2.2.2.2.2.2.2.2.2.2.2.2.2.2.2.2.2.2.2.2.2.2.1 u.2.2.2.2.2.2.2.2.2.2.2.2.2.2.2.2.2.2.2.2.2.2.2.2.2.2.1 u.2.2.2.2.2.2.2.2.2.2.2.2.2.2.2.2.2.2.2.2.2.2.2.2.2.2.2.1 u.2.2.2.2.2.2.2.2.2.2.2.2.2.2.2.2.2.2.2.2.2.2.2.2.2.2.2.2.1 u.2.2.2.2.2.2.2.2.2.2.2.2.2.2.2.2.2.2.2.2.2.2.2.2.2.2.2.2.2.1 u.2.2.2.2.2.2.2.2.2.2.2.2.2.2.2.2.2.2.2.2.2.2.2.2.2.2.2.2.2.2.1 u.2.2.2.2.2.2.2.2.2.2.2.2.2.2.2.2.2.2.2.2.2.2.2.2.2.2.2.2.2.2.2.1 u.2.2.2.2.2.2.2.2.2.2.2.2.2.2.2.2.2.2.2.2.2.2.2.2.2.2.2.2.2.2.2.2.1 u.2.2.2.2.2.2.2.2.2.2.2.2.2.2.2.2.2.2.2.2.2.2.2.2.2.2.2.2.2.2.2.2.2.1 u.2.2.2.2.2.2.2.2.2.2.2.2.2.2.2.2.2.2.2.2.2.2.2.2.2.2.2.2.2.2.2.2.2.2) ((nI s'), (nI e'), (nI f'), (nI c'), (nI la'), 0, br', fu', (nI q), f_found, a_disk', a_diskLsn', a_logKind', a_logSlot', a_logRecord', a_logValue', a_logBefore', a_logBack', a_logNumber', a_checkPage', a_checkState', a_checkUndo', a_checkFirst', a_checkNumber', a_page', a_lsn', a_since', a_held', a_state', a_undo', a_first', a_number', a_effect', a_locks', a_lacking'))) := by
    intro L' s' e' f' c' la' m' n' br' fu' a_disk' a_diskLsn' a_logKind' a_logSlot' a_logRecord' a_logValue' a_logBefore' a_logBack' a_logNumber' a_checkPage' a_checkState' a_checkUndo' a_checkFirst' a_checkNumber' a_page' a_lsn' a_since' a_held' a_state' a_undo' a_first' a_number' a_effect' a_locks' a_lacking' hbr hz0 hS' hCE' hla' he' hHB' hrow'
    refine br_f hbr (rt_lose ?_)
    intro p1 s1 t1 t2 t3 t4 t5 t6 hp ht
    refine nm_r (nI_1 a) ?_
    have hfe := (rt_SY_L hS').2.2.2.2.1
    have hD := rt_DF_lose (k := k + 1) (la := la') (b_state := b_state) (b_count := b_count) (b_least := b_least) (b_lock := b_lock) (b_isWrite := b_isWrite) (b_where := b_where) (b_what := b_what) hS' hCE' hla' (by omega) (by omega) hp ht hHB'
    exact HD (fun z => hbr (hz0 z)) L' s' f' c' la' br' fu' _ _ _ _ _ _ _ _ _ _ _ _ _ _ _ _ _ _ _ _ _ _ _ _ _ hD.1 (hrow'.trans hD.2)
  have hz1 : z0 = 0 → fu1 = 0 ∧ br1 = 0 := by
    intro z
    obtain ⟨y1, y2⟩ := hbf z
    obtain ⟨y3, y4⟩ := hbf1 y1
    exact ⟨y3, y4.trans y2⟩
  by_cases hb1 : br1 = 0
  · obtain ⟨en, hb0⟩ := hn1 hb1
    subst en
    obtain ⟨hT, hZ, _⟩ := hF hb0
    have hW := rt_wf hL n1 (Nat.le_refl _)
    have hmu := rt_mu_le (st := st) hW
    refine ⟨61, rt_uo2 (b_row := b_row) (b_state := b_state) (b_count := b_count) (b_least := b_least) (b_lock := b_lock) (b_isWrite := b_isWrite) (b_where := b_where) (b_what := b_what) 60 0 (by omega) hlt1 hS1 hT rt_CE_r hHB hrow (fun t ht => ⟨fun _ => (hZ t ht).1, (hZ t ht).2⟩) (by omega) (by omega) ?_⟩
    intro br2 fu2 L2 s2 e2 f2 c2 la2 m1 m2 m3 m4 m5 m6 m7 m8 m9 m10 m11 m12 m13 m14 m15 m16 m17 m18 n1' n2 n3 n4 n5 n6 hbf2 v1 v2 v3 v4 v5 v6 v7
    dsimp only
    by_cases hb2 : br2 = 0
    · obtain ⟨w1, w2, w3⟩ := v7 hb2
      refine br_t hb2 (nm_r (nI_1 a) ?_)
      exact HU L2 s2 e2 f2 c2 la2 br2 fu2 _ _ _ _ _ _ _ _ _ _ _ _ _ _ _ _ _ _ _ _ _ _ _ _ _ ⟨v3, w1, v4, ⟨v1, by omega, by omega⟩, fun t ht => ⟨w3 t ht, (w2 t ht).1 (w3 t ht), (w2 t ht).2⟩, v5⟩ v6
    · exact lose hb2 (fun z => (hbf2 (hz1 z).1).2.trans (hz1 z).2) v3 v4 v1 v2 v5 v6
  · refine rt_undoOpenB hb1 ?_
    exact lose hb1 (fun z => (hz1 z).2) hS1 rt_CE_r hlt1 (by omega) hHB hrow
end
section
/-! ## restart: the locks of prepared transactions, the attempts -/
def rt_TG (L : Nat → rt_Rc) (a : rt_AS) (ef lk : Nat → Int32) (t : Nat) : Prop := ef t = nI (rt_ch a t).length ∧ ∀ r, r < 12 → lk (12 * t + r) = nI (rt_ak L r (rt_ch a t))
theorem rt_co_row {L : Nat → rt_Rc} {a : rt_AS} (h : ∀ t, t < 4 → rt_pr a t = true ∨ rt_ch a t = []) : rt_co L a = rt_row a := by
  have key : ∀ t row, t < 4 → rt_st L a row t = row := by
    intro t row ht
    unfold rt_st
    rcases h t ht with z | z
    · rw [if_pos z]
    · rw [z]
      split <;> rfl
  unfold rt_co
  rw [key 0 _ (by omega), key 1 _ (by omega), key 2 _ (by omega), key 3 _ (by omega)]
theorem rt_rs89 {post : Int32 → SX → Prop} {f_logStart f_logEnd f_forced f_checkLsn f_latest f_up f_broken f_fuse f_accepted f_found : Int32} {a_disk a_diskLsn a_logKind a_logSlot a_logRecord a_logValue a_logBefore a_logBack a_logNumber a_checkPage a_checkState a_checkUndo a_checkFirst a_checkNumber a_page a_lsn a_since a_held a_state a_undo a_first a_number a_lacking : Nat → Int32} {L : Nat → rt_Rc} {s e : Nat} (hR : rt_RG L s e a_logKind a_logSlot a_logRecord a_logValue a_logBefore a_logBack a_logNumber) (he : e < 1073741824) (hL : rt_LV L e) (hfl : ∀ t, t < 4 → rt_fi (rt_A L e) t ≠ 0 → s < rt_fi (rt_A L e) t)
    (hT : rt_TX (rt_A L e) a_state a_undo a_first a_number) (hno : ∀ t, t < 4 → a_state t ≠ 1) (K : ∀ ef lk, (∀ t, t < 4 → rt_TG L (rt_A L e) ef lk t) → post 1 (f_logStart, f_logEnd, f_forced, f_checkLsn, f_latest, f_up, f_broken, f_fuse, f_accepted, f_found, a_disk, a_diskLsn, a_logKind, a_logSlot, a_logRecord, a_logValue, a_logBefore, a_logBack, a_logNumber, a_checkPage, a_checkState, a_checkUndo, a_checkFirst, a_checkNumber, a_page, a_lsn, a_since, a_held, a_state, a_undo, a_first, a_number, ef, lk, a_lacking)) :
    ∀ (d i : Nat) (ef lk : Nat → Int32), i + d = 4 → (∀ t, t < 4 → (t < i → rt_TG L (rt_A L e) ef lk t) ∧ (i ≤ t → ef t = 0 ∧ ∀ r, r < 12 → lk (12 * t + r) = 0)) → wX_restart_89 post (d + 1) (nI i) f_logStart f_logEnd f_forced f_checkLsn f_latest f_up f_broken f_fuse f_accepted f_found a_disk a_diskLsn a_logKind a_logSlot a_logRecord a_logValue a_logBefore a_logBack a_logNumber a_checkPage a_checkState a_checkUndo a_checkFirst a_checkNumber a_page a_lsn a_since a_held a_state a_undo a_first a_number ef lk a_lacking := by
  have hW := rt_wf hL e (Nat.le_refl _)
  intro d
  induction d with
  | zero =>
    intro i ef lk hi hd
    have e1 : i = 4 := by omega
    subst e1
    exact br_t (nI_le (a := 4) (b := 4) (by omega) (by omega)) (K ef lk (fun t ht => (hd t ht).1 ht))
  | succ d ih =>
    intro i ef lk hi hd
    have hi4 : i < 4 := by omega
    have hin : vp_in (nI i) 4 := vp_in_nI hi4 (by omega)
    have hc : (nI i).toNatClampNeg = i := nI_clamp (by omega)
    obtain ⟨w1, w2, w3, w4⟩ := rt_st1 hT hW hi4
    refine br_f (nI_ge (b := 4) (by omega) (by omega)) ⟨hin, ?_⟩
    rw [hc]
    refine br_c (fun z => ?_) (fun z => nm_r (nI_1 i) (ih (i + 1) ef lk (by omega) (fun t ht => ⟨fun hti => ?_, fun hti => (hd t ht).2 (by omega)⟩)))
    · obtain ⟨hp, hf0⟩ := w4 z
      refine rt_relock (L := L) (s := s) (e := e) hi4 hR he (hfl i hi4 hf0) (hW.1 i hi4).1 (hW.1 i hi4).2.1 (hT i hi4).1 ?_
      intro ef' lk' q1 q2 q3 q4
      dsimp only
      refine nm_r (nI_1 i) (ih (i + 1) ef' lk' (by omega) (fun t ht => ⟨fun hti => ?_, fun hti => ?_⟩))
      · by_cases e1 : t = i
        · subst e1; exact ⟨q1, q3⟩
        · obtain ⟨y1, y2⟩ := (hd t ht).1 (by omega)
          exact ⟨(q2 t e1).trans y1, fun r hr => (q4 t r e1 hr).trans (y2 r hr)⟩
      · have e1 : t ≠ i := by omega
        obtain ⟨y1, y2⟩ := (hd t ht).2 (by omega)
        exact ⟨(q2 t e1).trans y1, fun r hr => (q4 t r e1 hr).trans (y2 r hr)⟩
    · by_cases e1 : t = i
      · subst e1
        obtain ⟨y1, y2⟩ := (hd t ht).2 (by omega)
        have hf0 : rt_fi (rt_A L e) t = 0 := by
          by_cases y : rt_fi (rt_A L e) t = 0
          · exact y
          · have h4 := (hT t ht).2.2.2.1 y
            cases hp : rt_pr (rt_A L e) t with
            | true => exact absurd (w3 hp) z
            | false => rw [hp] at h4; exact absurd h4 (hno t ht)
        have hch := ((hW.1 t ht).2.2.1 hf0).1
        unfold rt_TG
        rw [hch]
        exact ⟨y1, y2⟩
      · exact (hd t ht).1 (by omega)
theorem rt_rs11 {post : Int32 → SX → Prop} {k q : Nat} {x1 : Int32} {f_found : Int32} {b_row b_state b_count : Nat → Int32} {b_least : Nat → Int64} {b_lock b_isWrite b_where b_what : Nat → Int32} (hk : k + 4 ≤ 2048)
    (HU : ∀ L s e f c la f_broken f_fuse a_disk a_diskLsn a_logKind a_logSlot a_logRecord a_logValue a_logBefore a_logBack a_logNumber a_checkPage a_checkState a_checkUndo a_checkFirst a_checkNumber a_page a_lsn a_since a_held a_state a_undo a_first a_number a_effect a_locks a_lacking, rt_RD (k + 4) L s e f c q la a_disk a_diskLsn a_logKind a_logSlot a_logRecord a_logValue a_logBefore a_logBack a_logNumber a_checkPage a_checkState a_checkUndo a_checkFirst a_checkNumber a_page a_lsn a_since a_held a_state a_undo a_first a_number a_effect a_locks b_state b_count b_least b_lock b_isWrite b_where b_what → b_row = rt_co L (rt_A L e) → ∃ n89 : Nat, wX_restart_89 post n89 0 (nI s) (nI e) (nI f) (nI c) (nI la) 1 f_broken f_fuse (nI q) f_found a_disk a_diskLsn a_logKind a_logSlot a_logRecord a_logValue a_logBefore a_logBack a_logNumber a_checkPage a_checkState a_checkUndo a_checkFirst a_checkNumber a_page a_lsn a_since a_held a_state a_undo a_first a_number a_effect a_locks a_lacking) :
    ∀ (m a : Nat) {L : Nat → rt_Rc} {s e c la : Nat} {f_broken f_fuse : Int32} {a_disk a_diskLsn a_logKind a_logSlot a_logRecord a_logValue a_logBefore a_logBack a_logNumber a_checkPage a_checkState a_checkUndo a_checkFirst a_checkNumber a_page a_lsn a_since a_held a_state a_undo a_first a_number a_effect a_locks a_lacking : Nat → Int32}, a + m = 3 → rt_DF (k + a) L s e c q la a_disk a_diskLsn a_logKind a_logSlot a_logRecord a_logValue a_logBefore a_logBack a_logNumber a_checkPage a_checkState a_checkUndo a_checkFirst a_checkNumber a_page a_lsn a_since a_held a_state a_undo a_first a_number a_effect a_locks b_state b_count b_least b_lock b_isWrite b_where b_what → b_row = rt_co L (rt_A L e) →
    wX_restart_11 post x1 (m + 2) (nI a) (nI s) (nI e) (nI e) (nI c) (nI la) 0 f_broken f_fuse (nI q) f_found a_disk a_diskLsn a_logKind a_logSlot a_logRecord a_logValue a_logBefore a_logBack a_logNumber a_checkPage a_checkState a_checkUndo a_checkFirst a_checkNumber a_page a_lsn a_since a_held a_state a_undo a_first a_number a_effect a_locks a_lacking := by
  have fin : ∀ (m a j : Nat) {L : Nat → rt_Rc} {s e f c la : Nat} {f_broken f_fuse : Int32} {a_disk a_diskLsn a_logKind a_logSlot a_logRecord a_logValue a_logBefore a_logBack a_logNumber a_checkPage a_checkState a_checkUndo a_checkFirst a_checkNumber a_page a_lsn a_since a_held a_state a_undo a_first a_number a_effect a_locks a_lacking : Nat → Int32}, j ≤ k + 4 → rt_RD j L s e f c q la a_disk a_diskLsn a_logKind a_logSlot a_logRecord a_logValue a_logBefore a_logBack a_logNumber a_checkPage a_checkState a_checkUndo a_checkFirst a_checkNumber a_page a_lsn a_since a_held a_state a_undo a_first a_number a_effect a_locks b_state b_count b_least b_lock b_isWrite b_where b_what → b_row = rt_co L (rt_A L e) → wX_restart_11 post x1 (m + 1) (nI a) (nI s) (nI e) (nI f) (nI c) (nI la) 1 f_broken f_fuse (nI q) f_found a_disk a_diskLsn a_logKind a_logSlot a_logRecord a_logValue a_logBefore a_logBack a_logNumber a_checkPage a_checkState a_checkUndo a_checkFirst a_checkNumber a_page a_lsn a_since a_held a_state a_undo a_first a_number a_effect a_locks a_lacking := by
    intro m a j L s e f c la f_broken f_fuse a_disk a_diskLsn a_logKind a_logSlot a_logRecord a_logValue a_logBefore a_logBack a_logNumber a_checkPage a_checkState a_checkUndo a_checkFirst a_checkNumber a_page a_lsn a_since a_held a_state a_undo a_first a_number a_effect a_locks a_lacking hj h hrow
    obtain ⟨h1, h2, h3, ⟨h4, h5, h6⟩, h7, h8⟩ := h
    have hx := HU L s e f c la f_broken f_fuse _ _ _ _ _ _ _ _ _ _ _ _ _ _ _ _ _ _ _ _ _ _ _ _ a_lacking ⟨h1, h2, h3, ⟨h4, by omega, by omega⟩, h7, h8⟩ hrow
    exact br_c (fun _ => hx) (fun _ => br_f rt_h10 hx)
  intro m
  induction m with
  | zero =>
    intro a L s e c la
    intros
    rename_i ha h hrow
    have e1 : a = 3 := by omega
    subst e1
    refine br_f (nI_ge (a := 3) (b := 4) (by omega) (by omega)) (br_t rfl (br_t (nI_le (a := 3) (b := 3) (by omega) (by omega)) ?_))
    refine rt_rs42 (a := 3) (by omega) h hrow (fun z => absurd rfl z) ?_
    intro L' s' e' f' c' la' br fu
    intros
    rename_i h' hrow'
    exact fin 0 4 _ (by omega) h' hrow'
  | succ m ih =>
    intro a L s e c la
    intros
    rename_i ha h hrow
    refine br_f (nI_ge (a := a) (b := 4) (by omega) (by omega)) (br_t rfl (br_f (nI_ge (a := a) (b := 3) (by omega) (by omega)) ?_))
    refine rt_rs42 (a := a) (by omega) h hrow (fun _ => ?_) ?_
    · intro L' s' e' c' la' br fu
      intros
      rename_i h' hrow'
      exact ih (a + 1) (by omega) h' hrow'
    · intro L' s' e' f' c' la' br fu
      intros
      rename_i h' hrow'
      exact fin (m + 1) (a + 1) _ (by omega) h' hrow'
theorem rt_RD_UF {k : Nat} {L : Nat → rt_Rc} {s e f c q la : Nat} {a_disk a_diskLsn a_logKind a_logSlot a_logRecord a_logValue a_logBefore a_logBack a_logNumber a_checkPage a_checkState a_checkUndo a_checkFirst a_checkNumber a_page a_lsn a_since a_held a_state a_undo a_first a_number a_effect a_locks ef lk b_state b_count : Nat → Int32} {b_least : Nat → Int64} {b_lock b_isWrite b_where b_what : Nat → Int32}
    (h : rt_RD k L s e f c q la a_disk a_diskLsn a_logKind a_logSlot a_logRecord a_logValue a_logBefore a_logBack a_logNumber a_checkPage a_checkState a_checkUndo a_checkFirst a_checkNumber a_page a_lsn a_since a_held a_state a_undo a_first a_number a_effect a_locks b_state b_count b_least b_lock b_isWrite b_where b_what) (hG : ∀ t, t < 4 → rt_TG L (rt_A L e) ef lk t) :
    rt_UF k L s e f c q la a_disk a_diskLsn a_logKind a_logSlot a_logRecord a_logValue a_logBefore a_logBack a_logNumber a_checkPage a_checkState a_checkUndo a_checkFirst a_checkNumber a_page a_lsn a_since a_held a_state a_undo a_first a_number ef lk b_state b_count b_least b_lock b_isWrite b_where b_what ∧ rt_co L (rt_A L e) = rt_row (rt_A L e) := by
  obtain ⟨hS, hT, hCE, hb, hz, hHB⟩ := h
  have hW := rt_wf (rt_SY_L hS).1 e (Nat.le_refl _)
  have hst : ∀ t, t < 4 → (rt_pr (rt_A L e) t = true ∧ a_state t = 2) ∨ (rt_pr (rt_A L e) t = false ∧ a_state t = 0 ∧ rt_ch (rt_A L e) t = []) := by
    intro t ht
    obtain ⟨w1, w2, w3, w4⟩ := rt_st1 hT hW ht
    cases hp : rt_pr (rt_A L e) t with
    | true => exact Or.inl ⟨rfl, w3 hp⟩
    | false =>
      have hf0 : rt_fi (rt_A L e) t = 0 := by
        by_cases y : rt_fi (rt_A L e) t = 0
        · exact y
        · have h4 := (hT t ht).2.2.2.1 y
          rw [hp] at h4
          exact absurd h4 (hz t ht).1
      exact Or.inr ⟨rfl, ((hT t ht).2.2.2.2 hf0).elim id (fun y => absurd y (hz t ht).1), ((hW.1 t ht).2.2.1 hf0).1⟩
  refine ⟨⟨hS, hT, hCE, hb, fun t ht => ?_, ?_⟩, rt_co_row (fun t ht => (hst t ht).elim (fun y => Or.inl y.1) (fun y => Or.inr y.2.2))⟩
  · obtain ⟨g1, g2⟩ := hG t ht
    obtain ⟨b1, b2⟩ := hHB t ht
    refine ⟨?_, g1, fun z r hr => ?_, fun z => ?_, fun _ r hr => g2 r hr, fun c0 hc0 => ?_⟩
    · rcases hst t ht with ⟨y1, y2⟩ | ⟨y1, y2, _⟩
      · rw [b1, y1, y2]; rfl
      · rw [b1, y1, y2]; rfl
    · rcases hst t ht with ⟨y1, y2⟩ | ⟨y1, y2, y3⟩
      · rw [y2] at z; exact absurd z rt_h20
      · rw [g2 r hr, y3]; rfl
    · rcases hst t ht with ⟨y1, y2⟩ | ⟨y1, y2, y3⟩
      · obtain ⟨p1, p2, p3, p4⟩ := b2 y1
        exact ⟨p1, p2, p3, fun r hr => by rw [p4 r hr, g2 r hr]⟩
      · exact absurd y2 z
    · have hcm := rt_Cn_mem (hW.1 t ht).1 c0 hc0
      rw [g2 _ hcm.2.2.2.2]
      have hm := rt_ak_mem (L := L) hc0
      have h023 := rt_ak_023 (L := L) (r := rt_rr (L c0)) (rt_ch (rt_A L e) t)
      rcases hcm.2.2.2.1 with k1 | k1
      · rw [if_pos k1] at hm
        exact Or.inl ((rt_nIle hm h023 (Or.inr rfl)).1 rfl)
      · rw [if_neg (by omega)] at hm
        exact (rt_nIle hm h023 (Or.inl rfl)).2.elim Or.inl (fun w => Or.inr ⟨k1, w⟩)
  · intro t u ht hu hne r hr n1 n2
    rw [(hG t ht).2 r hr] at n1 ⊢
    rw [(hG u hu).2 r hr] at n2 ⊢
    have key : ∀ t u, t < 4 → u < 4 → t ≠ u → rt_ak L r (rt_ch (rt_A L e) t) ≠ 0 → rt_ak L r (rt_ch (rt_A L e) u) ≠ 0 → rt_ak L r (rt_ch (rt_A L e) t) = 2 := by
      intro t u ht hu hne m1 m2
      rcases rt_ak_023 (L := L) (r := r) (rt_ch (rt_A L e) t) with w | w | w
      · exact absurd w m1
      · exact w
      · obtain ⟨c0, c1, c2, c3⟩ := rt_ak_ex.2 w
        obtain ⟨d0, d1, d2⟩ := rt_ak_ex.1 m2
        have := hW.2 t u ht hu hne c0 c1 d0 d1 (by rw [c2, d2])
        omega
    have m1 : rt_ak L r (rt_ch (rt_A L e) t) ≠ 0 := fun z => n1 (by rw [z]; rfl)
    have m2 : rt_ak L r (rt_ch (rt_A L e) u) ≠ 0 := fun z => n2 (by rw [z]; rfl)
    rw [key t u ht hu hne m1 m2, key u t hu ht (fun z => hne z.symm) m2 m1]
    exact ⟨rfl, by decide⟩
theorem i_vc_restart {k : Nat} {u : SX} {v : SY} (I : i_Rel k u v) (hk : k + 4 ≤ 2048) (v1 : Int32) : wpX_restart (fun r u' => wpY_restart (fun r' v' => r' = r ∧ i_Rel (k + 4) u' v') v v1) u v1 := by
  refine rt_el (P := fun u v => wpX_restart (fun r u' => wpY_restart (fun r' v' => r' = r ∧ i_Rel (k + 4) u' v') v v1) u v1) I ?_ ?_
  · intros; rename_i h IH
    exact br_f rt_h10 (br_t rfl ⟨rfl, IH⟩)
  · intro L s e c q la f_broken f_fuse f_found
    intro a_disk a_diskLsn a_logKind a_logSlot a_logRecord a_logValue a_logBefore a_logBack a_logNumber a_checkPage a_checkState a_checkUndo a_checkFirst a_checkNumber a_page a_lsn a_since a_held a_state a_undo a_first a_number a_effect a_locks a_lacking b_state b_count b_least b_lock b_isWrite b_where b_what h IH
    refine br_t rfl ⟨5, rt_rs11 (k := k) (q := q) (b_row := rt_co L (rt_A L e)) (b_state := b_state) (b_count := b_count) (b_least := b_least) (b_lock := b_lock) (b_isWrite := b_isWrite) (b_where := b_where) (b_what := b_what) hk ?_ 3 0 (by omega) h rfl⟩
    intro L' s' e' f' c' la' br fu
    intro a_disk' a_diskLsn' a_logKind' a_logSlot' a_logRecord' a_logValue' a_logBefore' a_logBack' a_logNumber' a_checkPage' a_checkState' a_checkUndo' a_checkFirst' a_checkNumber' a_page' a_lsn' a_since' a_held' a_state' a_undo' a_first' a_number' a_effect' a_locks' a_lacking' h' hrow
    obtain ⟨hS, hT, hCE, hb, hz, hHB⟩ := h'
    have hL := rt_SY_L hS
    have hR := rt_SY_R hS
    refine ⟨5, rt_rs89 hR.1 hL.2.2.2.1 hL.1 (hR.2 e' (by omega)) hT (fun t ht => (hz t ht).1) ?_ 4 0 _ _ (by omega) (fun t ht => ⟨fun z => by omega, fun _ => (hz t ht).2⟩)⟩
    intro ef lk hG
    have hU := rt_RD_UF ⟨hS, hT, hCE, hb, hz, hHB⟩ hG
    exact br_f rt_h10 ⟨rfl, rt_inU hU.1 (hrow.trans hU.2)⟩
end
