section
/-! pure rows to paste: stores, nI and lN arithmetic, masks, shifts, narrowing, branches by naturals (pk_le, pk_lt, pk_eq), loops (lp1 .. lp16: the measure of the state; rp1 ..: recursion), negatives. Take what you need -/
theorem pk_us {f : Nat → Int32} {k : Nat} {x : Int32} : upd f k x k = x := if_pos rfl
theorem pk_un {f : Nat → Int32} {k j : Nat} {x : Int32} (h : j ≠ k) : upd f k x j = f j := if_neg h
theorem pk_uLs {f : Nat → Int64} {k : Nat} {x : Int64} : vp_updL f k x k = x := if_pos rfl
theorem pk_uLn {f : Nat → Int64} {k j : Nat} {x : Int64} (h : j ≠ k) : vp_updL f k x j = f j := if_neg h
theorem pk_sub {a b : Nat} (h : b ≤ a) : nI a - nI b = nI (a - b) := by
  obtain ⟨c, rfl⟩ : ∃ c, a = c + b := ⟨a - b, by omega⟩
  rw [← nI_add, Int32.add_sub_cancel, Nat.add_sub_cancel]
theorem pk_m1 (n : Nat) : nI (n + 1) + (-1) = nI n := by
  rw [← nI_1, Int32.add_assoc, show (1 : Int32) + (-1) = 0 from rfl, Int32.add_zero]
theorem pk_mul (a b : Nat) : nI a * nI b = nI (a * b) := (Int32.ofNat_mul a b).symm
theorem pk_div {a d : Nat} (ha : a < 2 ^ 31) (h0 : 0 < d) (hd : d < 2 ^ 31) : nI a / nI d = nI (a / d) := by
  apply Int32.toInt_inj.mp
  rw [lg_idiv_nonneg (by rw [nI_toInt ha]; omega) (by rw [nI_toInt hd]; omega), nI_toInt ha, nI_toInt hd, nI_toInt (Nat.lt_of_le_of_lt (Nat.div_le_self a d) ha)]
  first | rfl | exact (Int.natCast_ediv _ _).symm
theorem pk_rem {a d : Nat} (ha : a < 2 ^ 31) (h0 : 0 < d) (hd : d < 2 ^ 31) : nI a - nI a / nI d * nI d = nI (a % d) := by
  rw [pk_div ha h0 hd, pk_mul, pk_sub (Nat.div_mul_le_self a d)]
  exact congrArg nI (by have := Nat.div_add_mod' a d; omega)
theorem pk_sub_toInt {a b : Nat} (ha : a < 2 ^ 30) (hb : b < 2 ^ 30) : (nI a - nI b).toInt = (a : Int) - b := by
  rw [Int32.toInt_sub, nI_toInt (by omega), nI_toInt (by omega)]
  exact Int.bmod_eq_of_le (by omega) (by omega)
theorem pk_sneg {a b : Nat} (hb : b < 2 ^ 30) (h : a < b) : nI a - nI b < 0 := by
  rw [Int32.lt_iff_toInt_lt, pk_sub_toInt (by omega) hb, show (0 : Int32).toInt = 0 from by decide]
  omega
theorem pk_ix (x : Int32) {n : Nat} (hn : n < 2 ^ 31) : x < 0 ∨ nI n ≤ x ∨ ∃ j : Nat, j < n ∧ x = nI j := by
  by_cases h : x < 0
  · exact Or.inl h
  · obtain ⟨j, hj, rfl⟩ := nI_of h
    by_cases h2 : j < n
    · exact Or.inr (Or.inr ⟨j, h2, rfl⟩)
    · exact Or.inr (Or.inl (nI_le (by omega) hj))
theorem pk_le {x y : Int32} {A B : Prop} (a b : Nat) (f : a ≤ b → A) (g : b < a → B) (hx : x = nI a := by rfl) (hy : y = nI b := by rfl) (ha : a < 2 ^ 31 := by omega) (hb : b < 2 ^ 31 := by omega) : (x ≤ y → A) ∧ (¬ x ≤ y → B) := by
  subst hx hy
  rw [nI_leI ha hb]
  exact ⟨f, fun z => g (by omega)⟩
theorem pk_lt {x y : Int32} {A B : Prop} (a b : Nat) (f : a < b → A) (g : b ≤ a → B) (hx : x = nI a := by rfl) (hy : y = nI b := by rfl) (ha : a < 2 ^ 31 := by omega) (hb : b < 2 ^ 31 := by omega) : (x < y → A) ∧ (¬ x < y → B) := by
  subst hx hy
  rw [nI_ltI ha hb]
  exact ⟨f, fun z => g (by omega)⟩
theorem pk_eq {x y : Int32} {A B : Prop} (a b : Nat) (f : a = b → A) (g : a ≠ b → B) (hx : x = nI a := by rfl) (hy : y = nI b := by rfl) (ha : a < 2 ^ 31 := by omega) (hb : b < 2 ^ 31 := by omega) : (x = y → A) ∧ (¬ x = y → B) := by
  subst hx hy
  rw [nI_eq ha hb]
  exact ⟨f, g⟩
theorem pk_in {x : Int32} (n N : Nat) (h : n < N) (hx : x = nI n := by rfl) (hN : N < 2 ^ 31 := by omega) : vp_in x N := by
  subst hx
  exact vp_in_nI h hN
theorem pk_cl {x : Int32} (n : Nat) (hx : x = nI n := by rfl) (h : n < 2 ^ 31 := by omega) : x.toNatClampNeg = n := by
  subst hx
  exact nI_clamp h
theorem pk_tn {n : Nat} (h : n < 2 ^ 32) : (nI n).toBitVec.toNat = n := Nat.mod_eq_of_lt h
theorem pk_and (x : Int32) {m : Int32} (k : Nat) (hm : m.toBitVec.toNat = 2 ^ k - 1) : x &&& m = nI (x.toBitVec.toNat % 2 ^ k) := by
  apply Int32.toBitVec_inj.mp
  apply BitVec.eq_of_toNat_eq
  rw [Int32.toBitVec_and, BitVec.toNat_and, hm, Nat.and_two_pow_sub_one_eq_mod]
  show _ = (BitVec.ofNat 32 _).toNat
  rw [BitVec.toNat_ofNat]
  exact (Nat.mod_eq_of_lt (Nat.lt_of_le_of_lt (Nat.mod_le _ _) x.toBitVec.isLt)).symm
theorem pk_andN {n : Nat} (h : n < 2 ^ 32) {m : Int32} (k : Nat) (hm : m.toBitVec.toNat = 2 ^ k - 1) : nI n &&& m = nI (n % 2 ^ k) := by
  rw [pk_and _ k hm, pk_tn h]
theorem pk_andE (x : Int32) {m : Int32} (k : Nat) (hm : m.toBitVec.toNat = 2 ^ k - 1) : ∃ j : Nat, j < 2 ^ k ∧ x &&& m = nI j := ⟨_, Nat.mod_lt _ (Nat.two_pow_pos k), pk_and x k hm⟩
theorem pk_andIn (x : Int32) {m : Int32} (k : Nat) (hm : m.toBitVec.toNat = 2 ^ k - 1) (hk : k ≤ 30) : vp_in (x &&& m) (2 ^ k) := by
  obtain ⟨j, hj, e⟩ := pk_andE x k hm
  rw [e]
  exact vp_in_nI hj (Nat.lt_of_le_of_lt (Nat.pow_le_pow_right (by decide) hk) (by decide))
theorem pk_shl (a s : Int32) (k : Nat) (hs : (s.toBitVec.smod 32).toNat = k) : (a <<< s).toBitVec.toNat = a.toBitVec.toNat * 2 ^ k % 2 ^ 32 := by
  show (a.toBitVec <<< (s.toBitVec.smod 32).toNat).toNat = _
  rw [hs, BitVec.toNat_shiftLeft, Nat.shiftLeft_eq]
theorem pk_shlN {n : Nat} (s : Int32) (k : Nat) (hs : (s.toBitVec.smod 32).toNat = k) (h : n * 2 ^ k < 2 ^ 32) : nI n <<< s = nI (n * 2 ^ k) := by
  apply Int32.toBitVec_inj.mp
  apply BitVec.eq_of_toNat_eq
  have hn : n < 2 ^ 32 := Nat.lt_of_le_of_lt (Nat.le_mul_of_pos_right n (Nat.two_pow_pos k)) h
  rw [pk_shl _ _ k hs, pk_tn hn, pk_tn h, Nat.mod_eq_of_lt h]
theorem pk_shr (a s : Int32) (k : Nat) (hs : (s.toBitVec.smod 32).toNat = k) : (a >>> s).toInt = a.toInt >>> k := by
  show (a.toBitVec.sshiftRight (s.toBitVec.smod 32).toNat).toInt = _
  rw [hs, BitVec.toInt_sshiftRight]
  rfl
theorem pk_shrN {n : Nat} (h : n < 2 ^ 31) (s : Int32) (k : Nat) (hs : (s.toBitVec.smod 32).toNat = k) : nI n >>> s = nI (n / 2 ^ k) := by
  apply Int32.toInt_inj.mp
  have h2 : n / 2 ^ k ≤ n := Nat.div_le_self _ _
  rw [pk_shr _ _ k hs, nI_toInt h, nI_toInt (by omega), Int.shiftRight_eq_div_pow]
  rfl
theorem pk_ushr (x s : Int32) (k : Nat) (hs : ((s.toUInt32 &&& Int32.toUInt32 31).toBitVec % 32).toNat = k) : (x.toUInt32 >>> (s.toUInt32 &&& Int32.toUInt32 31)).toInt32.toBitVec.toNat = x.toBitVec.toNat / 2 ^ k := by
  have e : (x.toUInt32 >>> (s.toUInt32 &&& Int32.toUInt32 31)).toInt32.toBitVec = x.toBitVec >>> k := by
    rw [← hs]
    exact UInt32.toBitVec_shiftRight _ _
  rw [e, BitVec.toNat_ushiftRight, Nat.shiftRight_eq_div_pow]
theorem pk_ushrN {n : Nat} (hn : n < 2 ^ 32) (s : Int32) (k : Nat) (hs : ((s.toUInt32 &&& Int32.toUInt32 31).toBitVec % 32).toNat = k) : ((nI n).toUInt32 >>> (s.toUInt32 &&& Int32.toUInt32 31)).toInt32 = nI (n / 2 ^ k) := by
  apply Int32.toBitVec_inj.mp
  apply BitVec.eq_of_toNat_eq
  rw [pk_ushr _ s k hs, pk_tn hn, pk_tn (Nat.lt_of_le_of_lt (Nat.div_le_self _ _) hn)]
theorem pk_nb (z : Int32) : narrow .byte (.int z.toInt8.toInt32) = .int z.toInt8.toInt32 := congrArg Value.int (by simp)
theorem pk_ns (z : Int32) : narrow .short (.int z.toInt16.toInt32) = .int z.toInt16.toInt32 := congrArg Value.int (by simp)
theorem pk_fb (r : Int32) : fits .byte (.int r.toInt8.toInt32) = true := by
  have ⟨a, b⟩ := lg_i2b_range r
  have h1 : (-128 : Int32).toInt = -128 := by decide
  have h2 : (127 : Int32).toInt = 127 := by decide
  simp only [fits, Bool.and_eq_true, decide_eq_true_eq, Int32.le_iff_toInt_le, h1, h2]
  omega
theorem pk_fs (r : Int32) : fits .short (.int r.toInt16.toInt32) = true := by
  have ⟨a, b⟩ := lg_i2s_range r
  have h1 : (-32768 : Int32).toInt = -32768 := by decide
  have h2 : (32767 : Int32).toInt = 32767 := by decide
  simp only [fits, Bool.and_eq_true, decide_eq_true_eq, Int32.le_iff_toInt_le, h1, h2]
  omega
theorem pk_charN {q : Nat} (hq : q < 65536) : narrow .char (.int (nI q)) = .int (nI q) ∧ fits .char (.int (nI q)) = true := by
  constructor
  · have e : (nI q).toUInt32.toUInt16.toUInt32.toInt32 = nI q := by
      apply Int32.toBitVec_inj.mp
      apply BitVec.eq_of_toNat_eq
      show (nI q).toUInt32.toUInt16.toUInt32.toNat = q % 2 ^ 32
      rw [UInt16.toNat_toUInt32, UInt32.toNat_toUInt16, show (nI q).toUInt32.toNat = q % 2 ^ 32 from rfl]
      omega
    exact congrArg Value.int e
  · have a : (0 : Int32) ≤ nI q := nI_pos' (by omega)
    have b : nI q ≤ 65535 := nI_le (b := 65535) (by omega) (by decide)
    show (decide ((0 : Int32) ≤ nI q) && decide (nI q ≤ 65535)) = true
    rw [decide_eq_true a, decide_eq_true b]
    rfl
theorem pk_char (x : Int32) : (x.toUInt32 % 65536).toInt32 = nI (x.toBitVec.toNat % 65536) := by
  apply Int32.toBitVec_inj.mp
  apply BitVec.eq_of_toNat_eq
  rw [pk_tn (by omega)]
  show (x.toUInt32 % 65536).toNat = _
  rw [UInt32.toNat_mod]
  rfl
theorem pk_nc (x : Int32) : narrow .char (.int (x.toUInt32 % 65536).toInt32) = .int (x.toUInt32 % 65536).toInt32 := by
  rw [pk_char]
  exact (pk_charN (Nat.mod_lt _ (by decide))).1
theorem pk_fc (x : Int32) : fits .char (.int (x.toUInt32 % 65536).toInt32) = true := by
  rw [pk_char]
  exact (pk_charN (Nat.mod_lt _ (by decide))).2
theorem pk_vb (z : Int32) : vp_nar .byte z.toInt8.toInt32 = z.toInt8.toInt32 := by rw [vp_nar_byte]; simp
theorem pk_vs (z : Int32) : vp_nar .short z.toInt16.toInt32 = z.toInt16.toInt32 := by rw [vp_nar_short]; simp
theorem pk_vc (z : Int32) : vp_nar .char (z.toUInt32 % 65536).toInt32 = (z.toUInt32 % 65536).toInt32 := Value.int.inj (pk_nc z)
theorem pk_lT {n : Nat} (h : n < 2 ^ 63) : (lN n).toInt = (n : Int) := lg_ofNat_toInt h
theorem pk_lLT {a b : Nat} (ha : a < 2 ^ 63) (hb : b < 2 ^ 63) : lN a < lN b ↔ a < b := by
  rw [Int64.lt_iff_toInt_lt, pk_lT ha, pk_lT hb]; omega
theorem pk_lLE {a b : Nat} (ha : a < 2 ^ 63) (hb : b < 2 ^ 63) : lN a ≤ lN b ↔ a ≤ b := by
  rw [Int64.le_iff_toInt_le, pk_lT ha, pk_lT hb]; omega
theorem pk_lEQ {a b : Nat} (ha : a < 2 ^ 63) (hb : b < 2 ^ 63) : lN a = lN b ↔ a = b := by
  rw [← Int64.toInt_inj, pk_lT ha, pk_lT hb]; omega
theorem pk_lOf {x : Int64} (h : ¬ x < 0) : ∃ k : Nat, k < 2 ^ 63 ∧ x = lN k := by
  rw [Int64.lt_iff_toInt_lt] at h
  have h0 : (0 : Int64).toInt = 0 := by decide
  have hx := Int64.toInt_lt x
  refine ⟨x.toInt.toNat, by omega, Int64.toInt_inj.mp ?_⟩
  rw [pk_lT (by omega)]
  omega
theorem pk_lDiv {a b : Nat} (ha : a < 2 ^ 63) (h0 : 0 < b) (hb : b < 2 ^ 63) : lN a / lN b = lN (a / b) := by
  apply Int64.toInt_inj.mp
  rw [lg_ldiv_nonneg (by rw [pk_lT ha]; omega) (by rw [pk_lT hb]; omega), pk_lT ha, pk_lT hb, pk_lT (Nat.lt_of_le_of_lt (Nat.div_le_self a b) ha)]
  rfl
theorem pk_lRem {a b : Nat} (ha : a < 2 ^ 63) (h0 : 0 < b) (hb : b < 2 ^ 63) : lN a - lN a / lN b * lN b = lN (a % b) := by
  rw [pk_lDiv ha h0 hb, lN_mul, lN_sub (Nat.div_mul_le_self a b)]
  exact congrArg lN (by have := Nat.div_add_mod' a b; omega)
theorem pk_loop {σ : Type} (W : Nat → Nat → σ → Prop) (I : Nat → σ → Prop) (e i0 : Nat) (s : σ) (hi : i0 ≤ e) (h0 : I i0 s) (hx : ∀ n s, I e s → W (n + 1) e s)
    (hs : ∀ n i s, i < e → I i s → (∀ s', I (i + 1) s' → W n (i + 1) s') → W (n + 1) i s) : ∃ n, W n i0 s :=
  ⟨e + 1, loop_i W I e hx hs (e + 1) i0 s hi (by omega) h0⟩
theorem pk_loopD {σ : Type} (W : Nat → Nat → σ → Prop) (I : Nat → σ → Prop) (hx : ∀ n s, I 0 s → W (n + 1) 0 s)
    (hs : ∀ n i s, I (i + 1) s → (∀ s', I i s' → W n i s') → W (n + 1) (i + 1) s) : ∀ (e : Nat) (s : σ), I e s → W (e + 1) e s := by
  intro e
  induction e with
  | zero => exact fun s h => hx 0 s h
  | succ e ih => exact fun s h => hs (e + 1) e s h (fun s' h' => ih s' h')
theorem lp1 {A1 : Type} (W : Nat → A1 → Prop) (I : A1 → Prop) (μ : A1 → Nat) (hs : ∀ (n : Nat) (a1 : A1), I a1 → (∀ (b1 : A1), I b1 → μ b1 < μ a1 → W n b1) → W (n + 1) a1) (a1 : A1) (h : I a1) : ∃ n, W n a1 :=
  loop_m (σ := A1) (fun n s => W n s) (fun s => I s) (fun s => μ s) (fun n s hI hk => hs n s hI (fun b1 h9 hm => hk b1 h9 hm)) a1 h
theorem lp2 {A1 A2 : Type} (W : Nat → A1 → A2 → Prop) (I : A1 → A2 → Prop) (μ : A1 → A2 → Nat) (hs : ∀ (n : Nat) (a1 : A1) (a2 : A2), I a1 a2 → (∀ (b1 : A1) (b2 : A2), I b1 b2 → μ b1 b2 < μ a1 a2 → W n b1 b2) → W (n + 1) a1 a2) (a1 : A1) (a2 : A2) (h : I a1 a2) : ∃ n, W n a1 a2 :=
  loop_m (σ := A1 × A2) (fun n s => W n s.1 s.2) (fun s => I s.1 s.2) (fun s => μ s.1 s.2) (fun n s hI hk => hs n s.1 s.2 hI (fun b1 b2 h9 hm => hk (b1, b2) h9 hm)) (a1, a2) h
theorem lp3 {A1 A2 A3 : Type} (W : Nat → A1 → A2 → A3 → Prop) (I : A1 → A2 → A3 → Prop) (μ : A1 → A2 → A3 → Nat) (hs : ∀ (n : Nat) (a1 : A1) (a2 : A2) (a3 : A3), I a1 a2 a3 → (∀ (b1 : A1) (b2 : A2) (b3 : A3), I b1 b2 b3 → μ b1 b2 b3 < μ a1 a2 a3 → W n b1 b2 b3) → W (n + 1) a1 a2 a3) (a1 : A1) (a2 : A2) (a3 : A3) (h : I a1 a2 a3) : ∃ n, W n a1 a2 a3 :=
  loop_m (σ := A1 × A2 × A3) (fun n s => W n s.1 s.2.1 s.2.2) (fun s => I s.1 s.2.1 s.2.2) (fun s => μ s.1 s.2.1 s.2.2) (fun n s hI hk => hs n s.1 s.2.1 s.2.2 hI (fun b1 b2 b3 h9 hm => hk (b1, b2, b3) h9 hm)) (a1, a2, a3) h
theorem lp4 {A1 A2 A3 A4 : Type} (W : Nat → A1 → A2 → A3 → A4 → Prop) (I : A1 → A2 → A3 → A4 → Prop) (μ : A1 → A2 → A3 → A4 → Nat) (hs : ∀ (n : Nat) (a1 : A1) (a2 : A2) (a3 : A3) (a4 : A4), I a1 a2 a3 a4 → (∀ (b1 : A1) (b2 : A2) (b3 : A3) (b4 : A4), I b1 b2 b3 b4 → μ b1 b2 b3 b4 < μ a1 a2 a3 a4 → W n b1 b2 b3 b4) → W (n + 1) a1 a2 a3 a4) (a1 : A1) (a2 : A2) (a3 : A3) (a4 : A4) (h : I a1 a2 a3 a4) : ∃ n, W n a1 a2 a3 a4 :=
  loop_m (σ := A1 × A2 × A3 × A4) (fun n s => W n s.1 s.2.1 s.2.2.1 s.2.2.2) (fun s => I s.1 s.2.1 s.2.2.1 s.2.2.2) (fun s => μ s.1 s.2.1 s.2.2.1 s.2.2.2) (fun n s hI hk => hs n s.1 s.2.1 s.2.2.1 s.2.2.2 hI (fun b1 b2 b3 b4 h9 hm => hk (b1, b2, b3, b4) h9 hm)) (a1, a2, a3, a4) h
theorem lp5 {A1 A2 A3 A4 A5 : Type} (W : Nat → A1 → A2 → A3 → A4 → A5 → Prop) (I : A1 → A2 → A3 → A4 → A5 → Prop) (μ : A1 → A2 → A3 → A4 → A5 → Nat) (hs : ∀ (n : Nat) (a1 : A1) (a2 : A2) (a3 : A3) (a4 : A4) (a5 : A5), I a1 a2 a3 a4 a5 → (∀ (b1 : A1) (b2 : A2) (b3 : A3) (b4 : A4) (b5 : A5), I b1 b2 b3 b4 b5 → μ b1 b2 b3 b4 b5 < μ a1 a2 a3 a4 a5 → W n b1 b2 b3 b4 b5) → W (n + 1) a1 a2 a3 a4 a5) (a1 : A1) (a2 : A2) (a3 : A3) (a4 : A4) (a5 : A5) (h : I a1 a2 a3 a4 a5) : ∃ n, W n a1 a2 a3 a4 a5 :=
  loop_m (σ := A1 × A2 × A3 × A4 × A5) (fun n s => W n s.1 s.2.1 s.2.2.1 s.2.2.2.1 s.2.2.2.2) (fun s => I s.1 s.2.1 s.2.2.1 s.2.2.2.1 s.2.2.2.2) (fun s => μ s.1 s.2.1 s.2.2.1 s.2.2.2.1 s.2.2.2.2) (fun n s hI hk => hs n s.1 s.2.1 s.2.2.1 s.2.2.2.1 s.2.2.2.2 hI (fun b1 b2 b3 b4 b5 h9 hm => hk (b1, b2, b3, b4, b5) h9 hm)) (a1, a2, a3, a4, a5) h
theorem lp6 {A1 A2 A3 A4 A5 A6 : Type} (W : Nat → A1 → A2 → A3 → A4 → A5 → A6 → Prop) (I : A1 → A2 → A3 → A4 → A5 → A6 → Prop) (μ : A1 → A2 → A3 → A4 → A5 → A6 → Nat) (hs : ∀ (n : Nat) (a1 : A1) (a2 : A2) (a3 : A3) (a4 : A4) (a5 : A5) (a6 : A6), I a1 a2 a3 a4 a5 a6 → (∀ (b1 : A1) (b2 : A2) (b3 : A3) (b4 : A4) (b5 : A5) (b6 : A6), I b1 b2 b3 b4 b5 b6 → μ b1 b2 b3 b4 b5 b6 < μ a1 a2 a3 a4 a5 a6 → W n b1 b2 b3 b4 b5 b6) → W (n + 1) a1 a2 a3 a4 a5 a6) (a1 : A1) (a2 : A2) (a3 : A3) (a4 : A4) (a5 : A5) (a6 : A6) (h : I a1 a2 a3 a4 a5 a6) : ∃ n, W n a1 a2 a3 a4 a5 a6 :=
  loop_m (σ := A1 × A2 × A3 × A4 × A5 × A6) (fun n s => W n s.1 s.2.1 s.2.2.1 s.2.2.2.1 s.2.2.2.2.1 s.2.2.2.2.2) (fun s => I s.1 s.2.1 s.2.2.1 s.2.2.2.1 s.2.2.2.2.1 s.2.2.2.2.2) (fun s => μ s.1 s.2.1 s.2.2.1 s.2.2.2.1 s.2.2.2.2.1 s.2.2.2.2.2) (fun n s hI hk => hs n s.1 s.2.1 s.2.2.1 s.2.2.2.1 s.2.2.2.2.1 s.2.2.2.2.2 hI (fun b1 b2 b3 b4 b5 b6 h9 hm => hk (b1, b2, b3, b4, b5, b6) h9 hm)) (a1, a2, a3, a4, a5, a6) h
theorem lp7 {A1 A2 A3 A4 A5 A6 A7 : Type} (W : Nat → A1 → A2 → A3 → A4 → A5 → A6 → A7 → Prop) (I : A1 → A2 → A3 → A4 → A5 → A6 → A7 → Prop) (μ : A1 → A2 → A3 → A4 → A5 → A6 → A7 → Nat) (hs : ∀ (n : Nat) (a1 : A1) (a2 : A2) (a3 : A3) (a4 : A4) (a5 : A5) (a6 : A6) (a7 : A7), I a1 a2 a3 a4 a5 a6 a7 → (∀ (b1 : A1) (b2 : A2) (b3 : A3) (b4 : A4) (b5 : A5) (b6 : A6) (b7 : A7), I b1 b2 b3 b4 b5 b6 b7 → μ b1 b2 b3 b4 b5 b6 b7 < μ a1 a2 a3 a4 a5 a6 a7 → W n b1 b2 b3 b4 b5 b6 b7) → W (n + 1) a1 a2 a3 a4 a5 a6 a7) (a1 : A1) (a2 : A2) (a3 : A3) (a4 : A4) (a5 : A5) (a6 : A6) (a7 : A7) (h : I a1 a2 a3 a4 a5 a6 a7) : ∃ n, W n a1 a2 a3 a4 a5 a6 a7 :=
  loop_m (σ := A1 × A2 × A3 × A4 × A5 × A6 × A7) (fun n s => W n s.1 s.2.1 s.2.2.1 s.2.2.2.1 s.2.2.2.2.1 s.2.2.2.2.2.1 s.2.2.2.2.2.2) (fun s => I s.1 s.2.1 s.2.2.1 s.2.2.2.1 s.2.2.2.2.1 s.2.2.2.2.2.1 s.2.2.2.2.2.2) (fun s => μ s.1 s.2.1 s.2.2.1 s.2.2.2.1 s.2.2.2.2.1 s.2.2.2.2.2.1 s.2.2.2.2.2.2) (fun n s hI hk => hs n s.1 s.2.1 s.2.2.1 s.2.2.2.1 s.2.2.2.2.1 s.2.2.2.2.2.1 s.2.2.2.2.2.2 hI (fun b1 b2 b3 b4 b5 b6 b7 h9 hm => hk (b1, b2, b3, b4, b5, b6, b7) h9 hm)) (a1, a2, a3, a4, a5, a6, a7) h
theorem lp8 {A1 A2 A3 A4 A5 A6 A7 A8 : Type} (W : Nat → A1 → A2 → A3 → A4 → A5 → A6 → A7 → A8 → Prop) (I : A1 → A2 → A3 → A4 → A5 → A6 → A7 → A8 → Prop) (μ : A1 → A2 → A3 → A4 → A5 → A6 → A7 → A8 → Nat) (hs : ∀ (n : Nat) (a1 : A1) (a2 : A2) (a3 : A3) (a4 : A4) (a5 : A5) (a6 : A6) (a7 : A7) (a8 : A8), I a1 a2 a3 a4 a5 a6 a7 a8 → (∀ (b1 : A1) (b2 : A2) (b3 : A3) (b4 : A4) (b5 : A5) (b6 : A6) (b7 : A7) (b8 : A8), I b1 b2 b3 b4 b5 b6 b7 b8 → μ b1 b2 b3 b4 b5 b6 b7 b8 < μ a1 a2 a3 a4 a5 a6 a7 a8 → W n b1 b2 b3 b4 b5 b6 b7 b8) → W (n + 1) a1 a2 a3 a4 a5 a6 a7 a8) (a1 : A1) (a2 : A2) (a3 : A3) (a4 : A4) (a5 : A5) (a6 : A6) (a7 : A7) (a8 : A8) (h : I a1 a2 a3 a4 a5 a6 a7 a8) : ∃ n, W n a1 a2 a3 a4 a5 a6 a7 a8 :=
  loop_m (σ := A1 × A2 × A3 × A4 × A5 × A6 × A7 × A8) (fun n s => W n s.1 s.2.1 s.2.2.1 s.2.2.2.1 s.2.2.2.2.1 s.2.2.2.2.2.1 s.2.2.2.2.2.2.1 s.2.2.2.2.2.2.2) (fun s => I s.1 s.2.1 s.2.2.1 s.2.2.2.1 s.2.2.2.2.1 s.2.2.2.2.2.1 s.2.2.2.2.2.2.1 s.2.2.2.2.2.2.2) (fun s => μ s.1 s.2.1 s.2.2.1 s.2.2.2.1 s.2.2.2.2.1 s.2.2.2.2.2.1 s.2.2.2.2.2.2.1 s.2.2.2.2.2.2.2) (fun n s hI hk => hs n s.1 s.2.1 s.2.2.1 s.2.2.2.1 s.2.2.2.2.1 s.2.2.2.2.2.1 s.2.2.2.2.2.2.1 s.2.2.2.2.2.2.2 hI (fun b1 b2 b3 b4 b5 b6 b7 b8 h9 hm => hk (b1, b2, b3, b4, b5, b6, b7, b8) h9 hm)) (a1, a2, a3, a4, a5, a6, a7, a8) h
theorem lp9 {A1 A2 A3 A4 A5 A6 A7 A8 A9 : Type} (W : Nat → A1 → A2 → A3 → A4 → A5 → A6 → A7 → A8 → A9 → Prop) (I : A1 → A2 → A3 → A4 → A5 → A6 → A7 → A8 → A9 → Prop) (μ : A1 → A2 → A3 → A4 → A5 → A6 → A7 → A8 → A9 → Nat) (hs : ∀ (n : Nat) (a1 : A1) (a2 : A2) (a3 : A3) (a4 : A4) (a5 : A5) (a6 : A6) (a7 : A7) (a8 : A8) (a9 : A9), I a1 a2 a3 a4 a5 a6 a7 a8 a9 → (∀ (b1 : A1) (b2 : A2) (b3 : A3) (b4 : A4) (b5 : A5) (b6 : A6) (b7 : A7) (b8 : A8) (b9 : A9), I b1 b2 b3 b4 b5 b6 b7 b8 b9 → μ b1 b2 b3 b4 b5 b6 b7 b8 b9 < μ a1 a2 a3 a4 a5 a6 a7 a8 a9 → W n b1 b2 b3 b4 b5 b6 b7 b8 b9) → W (n + 1) a1 a2 a3 a4 a5 a6 a7 a8 a9) (a1 : A1) (a2 : A2) (a3 : A3) (a4 : A4) (a5 : A5) (a6 : A6) (a7 : A7) (a8 : A8) (a9 : A9) (h : I a1 a2 a3 a4 a5 a6 a7 a8 a9) : ∃ n, W n a1 a2 a3 a4 a5 a6 a7 a8 a9 :=
  loop_m (σ := A1 × A2 × A3 × A4 × A5 × A6 × A7 × A8 × A9) (fun n s => W n s.1 s.2.1 s.2.2.1 s.2.2.2.1 s.2.2.2.2.1 s.2.2.2.2.2.1 s.2.2.2.2.2.2.1 s.2.2.2.2.2.2.2.1 s.2.2.2.2.2.2.2.2) (fun s => I s.1 s.2.1 s.2.2.1 s.2.2.2.1 s.2.2.2.2.1 s.2.2.2.2.2.1 s.2.2.2.2.2.2.1 s.2.2.2.2.2.2.2.1 s.2.2.2.2.2.2.2.2) (fun s => μ s.1 s.2.1 s.2.2.1 s.2.2.2.1 s.2.2.2.2.1 s.2.2.2.2.2.1 s.2.2.2.2.2.2.1 s.2.2.2.2.2.2.2.1 s.2.2.2.2.2.2.2.2) (fun n s hI hk => hs n s.1 s.2.1 s.2.2.1 s.2.2.2.1 s.2.2.2.2.1 s.2.2.2.2.2.1 s.2.2.2.2.2.2.1 s.2.2.2.2.2.2.2.1 s.2.2.2.2.2.2.2.2 hI (fun b1 b2 b3 b4 b5 b6 b7 b8 b9 h9 hm => hk (b1, b2, b3, b4, b5, b6, b7, b8, b9) h9 hm)) (a1, a2, a3, a4, a5, a6, a7, a8, a9) h
theorem lp10 {A1 A2 A3 A4 A5 A6 A7 A8 A9 A10 : Type} (W : Nat → A1 → A2 → A3 → A4 → A5 → A6 → A7 → A8 → A9 → A10 → Prop) (I : A1 → A2 → A3 → A4 → A5 → A6 → A7 → A8 → A9 → A10 → Prop) (μ : A1 → A2 → A3 → A4 → A5 → A6 → A7 → A8 → A9 → A10 → Nat) (hs : ∀ (n : Nat) (a1 : A1) (a2 : A2) (a3 : A3) (a4 : A4) (a5 : A5) (a6 : A6) (a7 : A7) (a8 : A8) (a9 : A9) (a10 : A10), I a1 a2 a3 a4 a5 a6 a7 a8 a9 a10 → (∀ (b1 : A1) (b2 : A2) (b3 : A3) (b4 : A4) (b5 : A5) (b6 : A6) (b7 : A7) (b8 : A8) (b9 : A9) (b10 : A10), I b1 b2 b3 b4 b5 b6 b7 b8 b9 b10 → μ b1 b2 b3 b4 b5 b6 b7 b8 b9 b10 < μ a1 a2 a3 a4 a5 a6 a7 a8 a9 a10 → W n b1 b2 b3 b4 b5 b6 b7 b8 b9 b10) → W (n + 1) a1 a2 a3 a4 a5 a6 a7 a8 a9 a10) (a1 : A1) (a2 : A2) (a3 : A3) (a4 : A4) (a5 : A5) (a6 : A6) (a7 : A7) (a8 : A8) (a9 : A9) (a10 : A10) (h : I a1 a2 a3 a4 a5 a6 a7 a8 a9 a10) : ∃ n, W n a1 a2 a3 a4 a5 a6 a7 a8 a9 a10 :=
  loop_m (σ := A1 × A2 × A3 × A4 × A5 × A6 × A7 × A8 × A9 × A10) (fun n s => W n s.1 s.2.1 s.2.2.1 s.2.2.2.1 s.2.2.2.2.1 s.2.2.2.2.2.1 s.2.2.2.2.2.2.1 s.2.2.2.2.2.2.2.1 s.2.2.2.2.2.2.2.2.1 s.2.2.2.2.2.2.2.2.2) (fun s => I s.1 s.2.1 s.2.2.1 s.2.2.2.1 s.2.2.2.2.1 s.2.2.2.2.2.1 s.2.2.2.2.2.2.1 s.2.2.2.2.2.2.2.1 s.2.2.2.2.2.2.2.2.1 s.2.2.2.2.2.2.2.2.2) (fun s => μ s.1 s.2.1 s.2.2.1 s.2.2.2.1 s.2.2.2.2.1 s.2.2.2.2.2.1 s.2.2.2.2.2.2.1 s.2.2.2.2.2.2.2.1 s.2.2.2.2.2.2.2.2.1 s.2.2.2.2.2.2.2.2.2) (fun n s hI hk => hs n s.1 s.2.1 s.2.2.1 s.2.2.2.1 s.2.2.2.2.1 s.2.2.2.2.2.1 s.2.2.2.2.2.2.1 s.2.2.2.2.2.2.2.1 s.2.2.2.2.2.2.2.2.1 s.2.2.2.2.2.2.2.2.2 hI (fun b1 b2 b3 b4 b5 b6 b7 b8 b9 b10 h9 hm => hk (b1, b2, b3, b4, b5, b6, b7, b8, b9, b10) h9 hm)) (a1, a2, a3, a4, a5, a6, a7, a8, a9, a10) h
theorem lp11 {A1 A2 A3 A4 A5 A6 A7 A8 A9 A10 A11 : Type} (W : Nat → A1 → A2 → A3 → A4 → A5 → A6 → A7 → A8 → A9 → A10 → A11 → Prop) (I : A1 → A2 → A3 → A4 → A5 → A6 → A7 → A8 → A9 → A10 → A11 → Prop) (μ : A1 → A2 → A3 → A4 → A5 → A6 → A7 → A8 → A9 → A10 → A11 → Nat) (hs : ∀ (n : Nat) (a1 : A1) (a2 : A2) (a3 : A3) (a4 : A4) (a5 : A5) (a6 : A6) (a7 : A7) (a8 : A8) (a9 : A9) (a10 : A10) (a11 : A11), I a1 a2 a3 a4 a5 a6 a7 a8 a9 a10 a11 → (∀ (b1 : A1) (b2 : A2) (b3 : A3) (b4 : A4) (b5 : A5) (b6 : A6) (b7 : A7) (b8 : A8) (b9 : A9) (b10 : A10) (b11 : A11), I b1 b2 b3 b4 b5 b6 b7 b8 b9 b10 b11 → μ b1 b2 b3 b4 b5 b6 b7 b8 b9 b10 b11 < μ a1 a2 a3 a4 a5 a6 a7 a8 a9 a10 a11 → W n b1 b2 b3 b4 b5 b6 b7 b8 b9 b10 b11) → W (n + 1) a1 a2 a3 a4 a5 a6 a7 a8 a9 a10 a11) (a1 : A1) (a2 : A2) (a3 : A3) (a4 : A4) (a5 : A5) (a6 : A6) (a7 : A7) (a8 : A8) (a9 : A9) (a10 : A10) (a11 : A11) (h : I a1 a2 a3 a4 a5 a6 a7 a8 a9 a10 a11) : ∃ n, W n a1 a2 a3 a4 a5 a6 a7 a8 a9 a10 a11 :=
  loop_m (σ := A1 × A2 × A3 × A4 × A5 × A6 × A7 × A8 × A9 × A10 × A11) (fun n s => W n s.1 s.2.1 s.2.2.1 s.2.2.2.1 s.2.2.2.2.1 s.2.2.2.2.2.1 s.2.2.2.2.2.2.1 s.2.2.2.2.2.2.2.1 s.2.2.2.2.2.2.2.2.1 s.2.2.2.2.2.2.2.2.2.1 s.2.2.2.2.2.2.2.2.2.2) (fun s => I s.1 s.2.1 s.2.2.1 s.2.2.2.1 s.2.2.2.2.1 s.2.2.2.2.2.1 s.2.2.2.2.2.2.1 s.2.2.2.2.2.2.2.1 s.2.2.2.2.2.2.2.2.1 s.2.2.2.2.2.2.2.2.2.1 s.2.2.2.2.2.2.2.2.2.2) (fun s => μ s.1 s.2.1 s.2.2.1 s.2.2.2.1 s.2.2.2.2.1 s.2.2.2.2.2.1 s.2.2.2.2.2.2.1 s.2.2.2.2.2.2.2.1 s.2.2.2.2.2.2.2.2.1 s.2.2.2.2.2.2.2.2.2.1 s.2.2.2.2.2.2.2.2.2.2) (fun n s hI hk => hs n s.1 s.2.1 s.2.2.1 s.2.2.2.1 s.2.2.2.2.1 s.2.2.2.2.2.1 s.2.2.2.2.2.2.1 s.2.2.2.2.2.2.2.1 s.2.2.2.2.2.2.2.2.1 s.2.2.2.2.2.2.2.2.2.1 s.2.2.2.2.2.2.2.2.2.2 hI (fun b1 b2 b3 b4 b5 b6 b7 b8 b9 b10 b11 h9 hm => hk (b1, b2, b3, b4, b5, b6, b7, b8, b9, b10, b11) h9 hm)) (a1, a2, a3, a4, a5, a6, a7, a8, a9, a10, a11) h
theorem lp12 {A1 A2 A3 A4 A5 A6 A7 A8 A9 A10 A11 A12 : Type} (W : Nat → A1 → A2 → A3 → A4 → A5 → A6 → A7 → A8 → A9 → A10 → A11 → A12 → Prop) (I : A1 → A2 → A3 → A4 → A5 → A6 → A7 → A8 → A9 → A10 → A11 → A12 → Prop) (μ : A1 → A2 → A3 → A4 → A5 → A6 → A7 → A8 → A9 → A10 → A11 → A12 → Nat) (hs : ∀ (n : Nat) (a1 : A1) (a2 : A2) (a3 : A3) (a4 : A4) (a5 : A5) (a6 : A6) (a7 : A7) (a8 : A8) (a9 : A9) (a10 : A10) (a11 : A11) (a12 : A12), I a1 a2 a3 a4 a5 a6 a7 a8 a9 a10 a11 a12 → (∀ (b1 : A1) (b2 : A2) (b3 : A3) (b4 : A4) (b5 : A5) (b6 : A6) (b7 : A7) (b8 : A8) (b9 : A9) (b10 : A10) (b11 : A11) (b12 : A12), I b1 b2 b3 b4 b5 b6 b7 b8 b9 b10 b11 b12 → μ b1 b2 b3 b4 b5 b6 b7 b8 b9 b10 b11 b12 < μ a1 a2 a3 a4 a5 a6 a7 a8 a9 a10 a11 a12 → W n b1 b2 b3 b4 b5 b6 b7 b8 b9 b10 b11 b12) → W (n + 1) a1 a2 a3 a4 a5 a6 a7 a8 a9 a10 a11 a12) (a1 : A1) (a2 : A2) (a3 : A3) (a4 : A4) (a5 : A5) (a6 : A6) (a7 : A7) (a8 : A8) (a9 : A9) (a10 : A10) (a11 : A11) (a12 : A12) (h : I a1 a2 a3 a4 a5 a6 a7 a8 a9 a10 a11 a12) : ∃ n, W n a1 a2 a3 a4 a5 a6 a7 a8 a9 a10 a11 a12 :=
  loop_m (σ := A1 × A2 × A3 × A4 × A5 × A6 × A7 × A8 × A9 × A10 × A11 × A12) (fun n s => W n s.1 s.2.1 s.2.2.1 s.2.2.2.1 s.2.2.2.2.1 s.2.2.2.2.2.1 s.2.2.2.2.2.2.1 s.2.2.2.2.2.2.2.1 s.2.2.2.2.2.2.2.2.1 s.2.2.2.2.2.2.2.2.2.1 s.2.2.2.2.2.2.2.2.2.2.1 s.2.2.2.2.2.2.2.2.2.2.2) (fun s => I s.1 s.2.1 s.2.2.1 s.2.2.2.1 s.2.2.2.2.1 s.2.2.2.2.2.1 s.2.2.2.2.2.2.1 s.2.2.2.2.2.2.2.1 s.2.2.2.2.2.2.2.2.1 s.2.2.2.2.2.2.2.2.2.1 s.2.2.2.2.2.2.2.2.2.2.1 s.2.2.2.2.2.2.2.2.2.2.2) (fun s => μ s.1 s.2.1 s.2.2.1 s.2.2.2.1 s.2.2.2.2.1 s.2.2.2.2.2.1 s.2.2.2.2.2.2.1 s.2.2.2.2.2.2.2.1 s.2.2.2.2.2.2.2.2.1 s.2.2.2.2.2.2.2.2.2.1 s.2.2.2.2.2.2.2.2.2.2.1 s.2.2.2.2.2.2.2.2.2.2.2) (fun n s hI hk => hs n s.1 s.2.1 s.2.2.1 s.2.2.2.1 s.2.2.2.2.1 s.2.2.2.2.2.1 s.2.2.2.2.2.2.1 s.2.2.2.2.2.2.2.1 s.2.2.2.2.2.2.2.2.1 s.2.2.2.2.2.2.2.2.2.1 s.2.2.2.2.2.2.2.2.2.2.1 s.2.2.2.2.2.2.2.2.2.2.2 hI (fun b1 b2 b3 b4 b5 b6 b7 b8 b9 b10 b11 b12 h9 hm => hk (b1, b2, b3, b4, b5, b6, b7, b8, b9, b10, b11, b12) h9 hm)) (a1, a2, a3, a4, a5, a6, a7, a8, a9, a10, a11, a12) h
theorem lp13 {A1 A2 A3 A4 A5 A6 A7 A8 A9 A10 A11 A12 A13 : Type} (W : Nat → A1 → A2 → A3 → A4 → A5 → A6 → A7 → A8 → A9 → A10 → A11 → A12 → A13 → Prop) (I : A1 → A2 → A3 → A4 → A5 → A6 → A7 → A8 → A9 → A10 → A11 → A12 → A13 → Prop) (μ : A1 → A2 → A3 → A4 → A5 → A6 → A7 → A8 → A9 → A10 → A11 → A12 → A13 → Nat) (hs : ∀ (n : Nat) (a1 : A1) (a2 : A2) (a3 : A3) (a4 : A4) (a5 : A5) (a6 : A6) (a7 : A7) (a8 : A8) (a9 : A9) (a10 : A10) (a11 : A11) (a12 : A12) (a13 : A13), I a1 a2 a3 a4 a5 a6 a7 a8 a9 a10 a11 a12 a13 → (∀ (b1 : A1) (b2 : A2) (b3 : A3) (b4 : A4) (b5 : A5) (b6 : A6) (b7 : A7) (b8 : A8) (b9 : A9) (b10 : A10) (b11 : A11) (b12 : A12) (b13 : A13), I b1 b2 b3 b4 b5 b6 b7 b8 b9 b10 b11 b12 b13 → μ b1 b2 b3 b4 b5 b6 b7 b8 b9 b10 b11 b12 b13 < μ a1 a2 a3 a4 a5 a6 a7 a8 a9 a10 a11 a12 a13 → W n b1 b2 b3 b4 b5 b6 b7 b8 b9 b10 b11 b12 b13) → W (n + 1) a1 a2 a3 a4 a5 a6 a7 a8 a9 a10 a11 a12 a13) (a1 : A1) (a2 : A2) (a3 : A3) (a4 : A4) (a5 : A5) (a6 : A6) (a7 : A7) (a8 : A8) (a9 : A9) (a10 : A10) (a11 : A11) (a12 : A12) (a13 : A13) (h : I a1 a2 a3 a4 a5 a6 a7 a8 a9 a10 a11 a12 a13) : ∃ n, W n a1 a2 a3 a4 a5 a6 a7 a8 a9 a10 a11 a12 a13 :=
  loop_m (σ := A1 × A2 × A3 × A4 × A5 × A6 × A7 × A8 × A9 × A10 × A11 × A12 × A13) (fun n s => W n s.1 s.2.1 s.2.2.1 s.2.2.2.1 s.2.2.2.2.1 s.2.2.2.2.2.1 s.2.2.2.2.2.2.1 s.2.2.2.2.2.2.2.1 s.2.2.2.2.2.2.2.2.1 s.2.2.2.2.2.2.2.2.2.1 s.2.2.2.2.2.2.2.2.2.2.1 s.2.2.2.2.2.2.2.2.2.2.2.1 s.2.2.2.2.2.2.2.2.2.2.2.2) (fun s => I s.1 s.2.1 s.2.2.1 s.2.2.2.1 s.2.2.2.2.1 s.2.2.2.2.2.1 s.2.2.2.2.2.2.1 s.2.2.2.2.2.2.2.1 s.2.2.2.2.2.2.2.2.1 s.2.2.2.2.2.2.2.2.2.1 s.2.2.2.2.2.2.2.2.2.2.1 s.2.2.2.2.2.2.2.2.2.2.2.1 s.2.2.2.2.2.2.2.2.2.2.2.2) (fun s => μ s.1 s.2.1 s.2.2.1 s.2.2.2.1 s.2.2.2.2.1 s.2.2.2.2.2.1 s.2.2.2.2.2.2.1 s.2.2.2.2.2.2.2.1 s.2.2.2.2.2.2.2.2.1 s.2.2.2.2.2.2.2.2.2.1 s.2.2.2.2.2.2.2.2.2.2.1 s.2.2.2.2.2.2.2.2.2.2.2.1 s.2.2.2.2.2.2.2.2.2.2.2.2) (fun n s hI hk => hs n s.1 s.2.1 s.2.2.1 s.2.2.2.1 s.2.2.2.2.1 s.2.2.2.2.2.1 s.2.2.2.2.2.2.1 s.2.2.2.2.2.2.2.1 s.2.2.2.2.2.2.2.2.1 s.2.2.2.2.2.2.2.2.2.1 s.2.2.2.2.2.2.2.2.2.2.1 s.2.2.2.2.2.2.2.2.2.2.2.1 s.2.2.2.2.2.2.2.2.2.2.2.2 hI (fun b1 b2 b3 b4 b5 b6 b7 b8 b9 b10 b11 b12 b13 h9 hm => hk (b1, b2, b3, b4, b5, b6, b7, b8, b9, b10, b11, b12, b13) h9 hm)) (a1, a2, a3, a4, a5, a6, a7, a8, a9, a10, a11, a12, a13) h
theorem lp14 {A1 A2 A3 A4 A5 A6 A7 A8 A9 A10 A11 A12 A13 A14 : Type} (W : Nat → A1 → A2 → A3 → A4 → A5 → A6 → A7 → A8 → A9 → A10 → A11 → A12 → A13 → A14 → Prop) (I : A1 → A2 → A3 → A4 → A5 → A6 → A7 → A8 → A9 → A10 → A11 → A12 → A13 → A14 → Prop) (μ : A1 → A2 → A3 → A4 → A5 → A6 → A7 → A8 → A9 → A10 → A11 → A12 → A13 → A14 → Nat) (hs : ∀ (n : Nat) (a1 : A1) (a2 : A2) (a3 : A3) (a4 : A4) (a5 : A5) (a6 : A6) (a7 : A7) (a8 : A8) (a9 : A9) (a10 : A10) (a11 : A11) (a12 : A12) (a13 : A13) (a14 : A14), I a1 a2 a3 a4 a5 a6 a7 a8 a9 a10 a11 a12 a13 a14 → (∀ (b1 : A1) (b2 : A2) (b3 : A3) (b4 : A4) (b5 : A5) (b6 : A6) (b7 : A7) (b8 : A8) (b9 : A9) (b10 : A10) (b11 : A11) (b12 : A12) (b13 : A13) (b14 : A14), I b1 b2 b3 b4 b5 b6 b7 b8 b9 b10 b11 b12 b13 b14 → μ b1 b2 b3 b4 b5 b6 b7 b8 b9 b10 b11 b12 b13 b14 < μ a1 a2 a3 a4 a5 a6 a7 a8 a9 a10 a11 a12 a13 a14 → W n b1 b2 b3 b4 b5 b6 b7 b8 b9 b10 b11 b12 b13 b14) → W (n + 1) a1 a2 a3 a4 a5 a6 a7 a8 a9 a10 a11 a12 a13 a14) (a1 : A1) (a2 : A2) (a3 : A3) (a4 : A4) (a5 : A5) (a6 : A6) (a7 : A7) (a8 : A8) (a9 : A9) (a10 : A10) (a11 : A11) (a12 : A12) (a13 : A13) (a14 : A14) (h : I a1 a2 a3 a4 a5 a6 a7 a8 a9 a10 a11 a12 a13 a14) : ∃ n, W n a1 a2 a3 a4 a5 a6 a7 a8 a9 a10 a11 a12 a13 a14 :=
  loop_m (σ := A1 × A2 × A3 × A4 × A5 × A6 × A7 × A8 × A9 × A10 × A11 × A12 × A13 × A14) (fun n s => W n s.1 s.2.1 s.2.2.1 s.2.2.2.1 s.2.2.2.2.1 s.2.2.2.2.2.1 s.2.2.2.2.2.2.1 s.2.2.2.2.2.2.2.1 s.2.2.2.2.2.2.2.2.1 s.2.2.2.2.2.2.2.2.2.1 s.2.2.2.2.2.2.2.2.2.2.1 s.2.2.2.2.2.2.2.2.2.2.2.1 s.2.2.2.2.2.2.2.2.2.2.2.2.1 s.2.2.2.2.2.2.2.2.2.2.2.2.2) (fun s => I s.1 s.2.1 s.2.2.1 s.2.2.2.1 s.2.2.2.2.1 s.2.2.2.2.2.1 s.2.2.2.2.2.2.1 s.2.2.2.2.2.2.2.1 s.2.2.2.2.2.2.2.2.1 s.2.2.2.2.2.2.2.2.2.1 s.2.2.2.2.2.2.2.2.2.2.1 s.2.2.2.2.2.2.2.2.2.2.2.1 s.2.2.2.2.2.2.2.2.2.2.2.2.1 s.2.2.2.2.2.2.2.2.2.2.2.2.2) (fun s => μ s.1 s.2.1 s.2.2.1 s.2.2.2.1 s.2.2.2.2.1 s.2.2.2.2.2.1 s.2.2.2.2.2.2.1 s.2.2.2.2.2.2.2.1 s.2.2.2.2.2.2.2.2.1 s.2.2.2.2.2.2.2.2.2.1 s.2.2.2.2.2.2.2.2.2.2.1 s.2.2.2.2.2.2.2.2.2.2.2.1 s.2.2.2.2.2.2.2.2.2.2.2.2.1 s.2.2.2.2.2.2.2.2.2.2.2.2.2) (fun n s hI hk => hs n s.1 s.2.1 s.2.2.1 s.2.2.2.1 s.2.2.2.2.1 s.2.2.2.2.2.1 s.2.2.2.2.2.2.1 s.2.2.2.2.2.2.2.1 s.2.2.2.2.2.2.2.2.1 s.2.2.2.2.2.2.2.2.2.1 s.2.2.2.2.2.2.2.2.2.2.1 s.2.2.2.2.2.2.2.2.2.2.2.1 s.2.2.2.2.2.2.2.2.2.2.2.2.1 s.2.2.2.2.2.2.2.2.2.2.2.2.2 hI (fun b1 b2 b3 b4 b5 b6 b7 b8 b9 b10 b11 b12 b13 b14 h9 hm => hk (b1, b2, b3, b4, b5, b6, b7, b8, b9, b10, b11, b12, b13, b14) h9 hm)) (a1, a2, a3, a4, a5, a6, a7, a8, a9, a10, a11, a12, a13, a14) h
theorem lp15 {A1 A2 A3 A4 A5 A6 A7 A8 A9 A10 A11 A12 A13 A14 A15 : Type} (W : Nat → A1 → A2 → A3 → A4 → A5 → A6 → A7 → A8 → A9 → A10 → A11 → A12 → A13 → A14 → A15 → Prop) (I : A1 → A2 → A3 → A4 → A5 → A6 → A7 → A8 → A9 → A10 → A11 → A12 → A13 → A14 → A15 → Prop) (μ : A1 → A2 → A3 → A4 → A5 → A6 → A7 → A8 → A9 → A10 → A11 → A12 → A13 → A14 → A15 → Nat) (hs : ∀ (n : Nat) (a1 : A1) (a2 : A2) (a3 : A3) (a4 : A4) (a5 : A5) (a6 : A6) (a7 : A7) (a8 : A8) (a9 : A9) (a10 : A10) (a11 : A11) (a12 : A12) (a13 : A13) (a14 : A14) (a15 : A15), I a1 a2 a3 a4 a5 a6 a7 a8 a9 a10 a11 a12 a13 a14 a15 → (∀ (b1 : A1) (b2 : A2) (b3 : A3) (b4 : A4) (b5 : A5) (b6 : A6) (b7 : A7) (b8 : A8) (b9 : A9) (b10 : A10) (b11 : A11) (b12 : A12) (b13 : A13) (b14 : A14) (b15 : A15), I b1 b2 b3 b4 b5 b6 b7 b8 b9 b10 b11 b12 b13 b14 b15 → μ b1 b2 b3 b4 b5 b6 b7 b8 b9 b10 b11 b12 b13 b14 b15 < μ a1 a2 a3 a4 a5 a6 a7 a8 a9 a10 a11 a12 a13 a14 a15 → W n b1 b2 b3 b4 b5 b6 b7 b8 b9 b10 b11 b12 b13 b14 b15) → W (n + 1) a1 a2 a3 a4 a5 a6 a7 a8 a9 a10 a11 a12 a13 a14 a15) (a1 : A1) (a2 : A2) (a3 : A3) (a4 : A4) (a5 : A5) (a6 : A6) (a7 : A7) (a8 : A8) (a9 : A9) (a10 : A10) (a11 : A11) (a12 : A12) (a13 : A13) (a14 : A14) (a15 : A15) (h : I a1 a2 a3 a4 a5 a6 a7 a8 a9 a10 a11 a12 a13 a14 a15) : ∃ n, W n a1 a2 a3 a4 a5 a6 a7 a8 a9 a10 a11 a12 a13 a14 a15 :=
  loop_m (σ := A1 × A2 × A3 × A4 × A5 × A6 × A7 × A8 × A9 × A10 × A11 × A12 × A13 × A14 × A15) (fun n s => W n s.1 s.2.1 s.2.2.1 s.2.2.2.1 s.2.2.2.2.1 s.2.2.2.2.2.1 s.2.2.2.2.2.2.1 s.2.2.2.2.2.2.2.1 s.2.2.2.2.2.2.2.2.1 s.2.2.2.2.2.2.2.2.2.1 s.2.2.2.2.2.2.2.2.2.2.1 s.2.2.2.2.2.2.2.2.2.2.2.1 s.2.2.2.2.2.2.2.2.2.2.2.2.1 s.2.2.2.2.2.2.2.2.2.2.2.2.2.1 s.2.2.2.2.2.2.2.2.2.2.2.2.2.2) (fun s => I s.1 s.2.1 s.2.2.1 s.2.2.2.1 s.2.2.2.2.1 s.2.2.2.2.2.1 s.2.2.2.2.2.2.1 s.2.2.2.2.2.2.2.1 s.2.2.2.2.2.2.2.2.1 s.2.2.2.2.2.2.2.2.2.1 s.2.2.2.2.2.2.2.2.2.2.1 s.2.2.2.2.2.2.2.2.2.2.2.1 s.2.2.2.2.2.2.2.2.2.2.2.2.1 s.2.2.2.2.2.2.2.2.2.2.2.2.2.1 s.2.2.2.2.2.2.2.2.2.2.2.2.2.2) (fun s => μ s.1 s.2.1 s.2.2.1 s.2.2.2.1 s.2.2.2.2.1 s.2.2.2.2.2.1 s.2.2.2.2.2.2.1 s.2.2.2.2.2.2.2.1 s.2.2.2.2.2.2.2.2.1 s.2.2.2.2.2.2.2.2.2.1 s.2.2.2.2.2.2.2.2.2.2.1 s.2.2.2.2.2.2.2.2.2.2.2.1 s.2.2.2.2.2.2.2.2.2.2.2.2.1 s.2.2.2.2.2.2.2.2.2.2.2.2.2.1 s.2.2.2.2.2.2.2.2.2.2.2.2.2.2) (fun n s hI hk => hs n s.1 s.2.1 s.2.2.1 s.2.2.2.1 s.2.2.2.2.1 s.2.2.2.2.2.1 s.2.2.2.2.2.2.1 s.2.2.2.2.2.2.2.1 s.2.2.2.2.2.2.2.2.1 s.2.2.2.2.2.2.2.2.2.1 s.2.2.2.2.2.2.2.2.2.2.1 s.2.2.2.2.2.2.2.2.2.2.2.1 s.2.2.2.2.2.2.2.2.2.2.2.2.1 s.2.2.2.2.2.2.2.2.2.2.2.2.2.1 s.2.2.2.2.2.2.2.2.2.2.2.2.2.2 hI (fun b1 b2 b3 b4 b5 b6 b7 b8 b9 b10 b11 b12 b13 b14 b15 h9 hm => hk (b1, b2, b3, b4, b5, b6, b7, b8, b9, b10, b11, b12, b13, b14, b15) h9 hm)) (a1, a2, a3, a4, a5, a6, a7, a8, a9, a10, a11, a12, a13, a14, a15) h
theorem lp16 {A1 A2 A3 A4 A5 A6 A7 A8 A9 A10 A11 A12 A13 A14 A15 A16 : Type} (W : Nat → A1 → A2 → A3 → A4 → A5 → A6 → A7 → A8 → A9 → A10 → A11 → A12 → A13 → A14 → A15 → A16 → Prop) (I : A1 → A2 → A3 → A4 → A5 → A6 → A7 → A8 → A9 → A10 → A11 → A12 → A13 → A14 → A15 → A16 → Prop) (μ : A1 → A2 → A3 → A4 → A5 → A6 → A7 → A8 → A9 → A10 → A11 → A12 → A13 → A14 → A15 → A16 → Nat) (hs : ∀ (n : Nat) (a1 : A1) (a2 : A2) (a3 : A3) (a4 : A4) (a5 : A5) (a6 : A6) (a7 : A7) (a8 : A8) (a9 : A9) (a10 : A10) (a11 : A11) (a12 : A12) (a13 : A13) (a14 : A14) (a15 : A15) (a16 : A16), I a1 a2 a3 a4 a5 a6 a7 a8 a9 a10 a11 a12 a13 a14 a15 a16 → (∀ (b1 : A1) (b2 : A2) (b3 : A3) (b4 : A4) (b5 : A5) (b6 : A6) (b7 : A7) (b8 : A8) (b9 : A9) (b10 : A10) (b11 : A11) (b12 : A12) (b13 : A13) (b14 : A14) (b15 : A15) (b16 : A16), I b1 b2 b3 b4 b5 b6 b7 b8 b9 b10 b11 b12 b13 b14 b15 b16 → μ b1 b2 b3 b4 b5 b6 b7 b8 b9 b10 b11 b12 b13 b14 b15 b16 < μ a1 a2 a3 a4 a5 a6 a7 a8 a9 a10 a11 a12 a13 a14 a15 a16 → W n b1 b2 b3 b4 b5 b6 b7 b8 b9 b10 b11 b12 b13 b14 b15 b16) → W (n + 1) a1 a2 a3 a4 a5 a6 a7 a8 a9 a10 a11 a12 a13 a14 a15 a16) (a1 : A1) (a2 : A2) (a3 : A3) (a4 : A4) (a5 : A5) (a6 : A6) (a7 : A7) (a8 : A8) (a9 : A9) (a10 : A10) (a11 : A11) (a12 : A12) (a13 : A13) (a14 : A14) (a15 : A15) (a16 : A16) (h : I a1 a2 a3 a4 a5 a6 a7 a8 a9 a10 a11 a12 a13 a14 a15 a16) : ∃ n, W n a1 a2 a3 a4 a5 a6 a7 a8 a9 a10 a11 a12 a13 a14 a15 a16 :=
  loop_m (σ := A1 × A2 × A3 × A4 × A5 × A6 × A7 × A8 × A9 × A10 × A11 × A12 × A13 × A14 × A15 × A16) (fun n s => W n s.1 s.2.1 s.2.2.1 s.2.2.2.1 s.2.2.2.2.1 s.2.2.2.2.2.1 s.2.2.2.2.2.2.1 s.2.2.2.2.2.2.2.1 s.2.2.2.2.2.2.2.2.1 s.2.2.2.2.2.2.2.2.2.1 s.2.2.2.2.2.2.2.2.2.2.1 s.2.2.2.2.2.2.2.2.2.2.2.1 s.2.2.2.2.2.2.2.2.2.2.2.2.1 s.2.2.2.2.2.2.2.2.2.2.2.2.2.1 s.2.2.2.2.2.2.2.2.2.2.2.2.2.2.1 s.2.2.2.2.2.2.2.2.2.2.2.2.2.2.2) (fun s => I s.1 s.2.1 s.2.2.1 s.2.2.2.1 s.2.2.2.2.1 s.2.2.2.2.2.1 s.2.2.2.2.2.2.1 s.2.2.2.2.2.2.2.1 s.2.2.2.2.2.2.2.2.1 s.2.2.2.2.2.2.2.2.2.1 s.2.2.2.2.2.2.2.2.2.2.1 s.2.2.2.2.2.2.2.2.2.2.2.1 s.2.2.2.2.2.2.2.2.2.2.2.2.1 s.2.2.2.2.2.2.2.2.2.2.2.2.2.1 s.2.2.2.2.2.2.2.2.2.2.2.2.2.2.1 s.2.2.2.2.2.2.2.2.2.2.2.2.2.2.2) (fun s => μ s.1 s.2.1 s.2.2.1 s.2.2.2.1 s.2.2.2.2.1 s.2.2.2.2.2.1 s.2.2.2.2.2.2.1 s.2.2.2.2.2.2.2.1 s.2.2.2.2.2.2.2.2.1 s.2.2.2.2.2.2.2.2.2.1 s.2.2.2.2.2.2.2.2.2.2.1 s.2.2.2.2.2.2.2.2.2.2.2.1 s.2.2.2.2.2.2.2.2.2.2.2.2.1 s.2.2.2.2.2.2.2.2.2.2.2.2.2.1 s.2.2.2.2.2.2.2.2.2.2.2.2.2.2.1 s.2.2.2.2.2.2.2.2.2.2.2.2.2.2.2) (fun n s hI hk => hs n s.1 s.2.1 s.2.2.1 s.2.2.2.1 s.2.2.2.2.1 s.2.2.2.2.2.1 s.2.2.2.2.2.2.1 s.2.2.2.2.2.2.2.1 s.2.2.2.2.2.2.2.2.1 s.2.2.2.2.2.2.2.2.2.1 s.2.2.2.2.2.2.2.2.2.2.1 s.2.2.2.2.2.2.2.2.2.2.2.1 s.2.2.2.2.2.2.2.2.2.2.2.2.1 s.2.2.2.2.2.2.2.2.2.2.2.2.2.1 s.2.2.2.2.2.2.2.2.2.2.2.2.2.2.1 s.2.2.2.2.2.2.2.2.2.2.2.2.2.2.2 hI (fun b1 b2 b3 b4 b5 b6 b7 b8 b9 b10 b11 b12 b13 b14 b15 b16 h9 hm => hk (b1, b2, b3, b4, b5, b6, b7, b8, b9, b10, b11, b12, b13, b14, b15, b16) h9 hm)) (a1, a2, a3, a4, a5, a6, a7, a8, a9, a10, a11, a12, a13, a14, a15, a16) h
theorem pk_least (P : Nat → Prop) (h : ∃ k, P k) : ∃ k, P k ∧ ∀ j, j < k → ¬ P j := by
  obtain ⟨k, hk⟩ := h
  induction k using Nat.strongRecOn with
  | ind k ih =>
    by_cases e : ∃ j, j < k ∧ P j
    · obtain ⟨j, hj, pj⟩ := e
      exact ih j hj pj
    · exact ⟨k, hk, fun j hj pj => e ⟨j, hj, pj⟩⟩
theorem rp1 {ρ A1 : Type} (W : Nat → (ρ → Prop) → A1 → Prop) (ok : A1 → Prop) (μ : A1 → Nat) (val : A1 → ρ)
    (hs : ∀ (d : Nat) (post : ρ → Prop) (a1 : A1), ok a1 → post (val a1) → (∀ (post' : ρ → Prop) (b1 : A1), ok b1 → μ b1 < μ a1 → post' (val b1) → W d post' b1) → W (d + 1) post a1) :
    ∀ (d : Nat) (post : ρ → Prop) (a1 : A1), ok a1 → μ a1 < d → post (val a1) → W d post a1 := by
  intro d
  induction d with
  | zero => intro post a1 _ h; omega
  | succ d ih =>
    intro post a1 ho hm hp
    exact hs d post a1 ho hp (fun post' b1 ho' hm' hp' => ih post' b1 ho' (by omega) hp')
theorem rp2 {ρ A1 A2 : Type} (W : Nat → (ρ → Prop) → A1 → A2 → Prop) (ok : A1 → A2 → Prop) (μ : A1 → A2 → Nat) (val : A1 → A2 → ρ)
    (hs : ∀ (d : Nat) (post : ρ → Prop) (a1 : A1) (a2 : A2), ok a1 a2 → post (val a1 a2) → (∀ (post' : ρ → Prop) (b1 : A1) (b2 : A2), ok b1 b2 → μ b1 b2 < μ a1 a2 → post' (val b1 b2) → W d post' b1 b2) → W (d + 1) post a1 a2) :
    ∀ (d : Nat) (post : ρ → Prop) (a1 : A1) (a2 : A2), ok a1 a2 → μ a1 a2 < d → post (val a1 a2) → W d post a1 a2 := by
  intro d
  induction d with
  | zero => intro post a1 a2 _ h; omega
  | succ d ih =>
    intro post a1 a2 ho hm hp
    exact hs d post a1 a2 ho hp (fun post' b1 b2 ho' hm' hp' => ih post' b1 b2 ho' (by omega) hp')
theorem rp3 {ρ A1 A2 A3 : Type} (W : Nat → (ρ → Prop) → A1 → A2 → A3 → Prop) (ok : A1 → A2 → A3 → Prop) (μ : A1 → A2 → A3 → Nat) (val : A1 → A2 → A3 → ρ)
    (hs : ∀ (d : Nat) (post : ρ → Prop) (a1 : A1) (a2 : A2) (a3 : A3), ok a1 a2 a3 → post (val a1 a2 a3) → (∀ (post' : ρ → Prop) (b1 : A1) (b2 : A2) (b3 : A3), ok b1 b2 b3 → μ b1 b2 b3 < μ a1 a2 a3 → post' (val b1 b2 b3) → W d post' b1 b2 b3) → W (d + 1) post a1 a2 a3) :
    ∀ (d : Nat) (post : ρ → Prop) (a1 : A1) (a2 : A2) (a3 : A3), ok a1 a2 a3 → μ a1 a2 a3 < d → post (val a1 a2 a3) → W d post a1 a2 a3 := by
  intro d
  induction d with
  | zero => intro post a1 a2 a3 _ h; omega
  | succ d ih =>
    intro post a1 a2 a3 ho hm hp
    exact hs d post a1 a2 a3 ho hp (fun post' b1 b2 b3 ho' hm' hp' => ih post' b1 b2 b3 ho' (by omega) hp')
theorem rp4 {ρ A1 A2 A3 A4 : Type} (W : Nat → (ρ → Prop) → A1 → A2 → A3 → A4 → Prop) (ok : A1 → A2 → A3 → A4 → Prop) (μ : A1 → A2 → A3 → A4 → Nat) (val : A1 → A2 → A3 → A4 → ρ)
    (hs : ∀ (d : Nat) (post : ρ → Prop) (a1 : A1) (a2 : A2) (a3 : A3) (a4 : A4), ok a1 a2 a3 a4 → post (val a1 a2 a3 a4) → (∀ (post' : ρ → Prop) (b1 : A1) (b2 : A2) (b3 : A3) (b4 : A4), ok b1 b2 b3 b4 → μ b1 b2 b3 b4 < μ a1 a2 a3 a4 → post' (val b1 b2 b3 b4) → W d post' b1 b2 b3 b4) → W (d + 1) post a1 a2 a3 a4) :
    ∀ (d : Nat) (post : ρ → Prop) (a1 : A1) (a2 : A2) (a3 : A3) (a4 : A4), ok a1 a2 a3 a4 → μ a1 a2 a3 a4 < d → post (val a1 a2 a3 a4) → W d post a1 a2 a3 a4 := by
  intro d
  induction d with
  | zero => intro post a1 a2 a3 a4 _ h; omega
  | succ d ih =>
    intro post a1 a2 a3 a4 ho hm hp
    exact hs d post a1 a2 a3 a4 ho hp (fun post' b1 b2 b3 b4 ho' hm' hp' => ih post' b1 b2 b3 b4 ho' (by omega) hp')
theorem rp5 {ρ A1 A2 A3 A4 A5 : Type} (W : Nat → (ρ → Prop) → A1 → A2 → A3 → A4 → A5 → Prop) (ok : A1 → A2 → A3 → A4 → A5 → Prop) (μ : A1 → A2 → A3 → A4 → A5 → Nat) (val : A1 → A2 → A3 → A4 → A5 → ρ)
    (hs : ∀ (d : Nat) (post : ρ → Prop) (a1 : A1) (a2 : A2) (a3 : A3) (a4 : A4) (a5 : A5), ok a1 a2 a3 a4 a5 → post (val a1 a2 a3 a4 a5) → (∀ (post' : ρ → Prop) (b1 : A1) (b2 : A2) (b3 : A3) (b4 : A4) (b5 : A5), ok b1 b2 b3 b4 b5 → μ b1 b2 b3 b4 b5 < μ a1 a2 a3 a4 a5 → post' (val b1 b2 b3 b4 b5) → W d post' b1 b2 b3 b4 b5) → W (d + 1) post a1 a2 a3 a4 a5) :
    ∀ (d : Nat) (post : ρ → Prop) (a1 : A1) (a2 : A2) (a3 : A3) (a4 : A4) (a5 : A5), ok a1 a2 a3 a4 a5 → μ a1 a2 a3 a4 a5 < d → post (val a1 a2 a3 a4 a5) → W d post a1 a2 a3 a4 a5 := by
  intro d
  induction d with
  | zero => intro post a1 a2 a3 a4 a5 _ h; omega
  | succ d ih =>
    intro post a1 a2 a3 a4 a5 ho hm hp
    exact hs d post a1 a2 a3 a4 a5 ho hp (fun post' b1 b2 b3 b4 b5 ho' hm' hp' => ih post' b1 b2 b3 b4 b5 ho' (by omega) hp')
theorem rp6 {ρ A1 A2 A3 A4 A5 A6 : Type} (W : Nat → (ρ → Prop) → A1 → A2 → A3 → A4 → A5 → A6 → Prop) (ok : A1 → A2 → A3 → A4 → A5 → A6 → Prop) (μ : A1 → A2 → A3 → A4 → A5 → A6 → Nat) (val : A1 → A2 → A3 → A4 → A5 → A6 → ρ)
    (hs : ∀ (d : Nat) (post : ρ → Prop) (a1 : A1) (a2 : A2) (a3 : A3) (a4 : A4) (a5 : A5) (a6 : A6), ok a1 a2 a3 a4 a5 a6 → post (val a1 a2 a3 a4 a5 a6) → (∀ (post' : ρ → Prop) (b1 : A1) (b2 : A2) (b3 : A3) (b4 : A4) (b5 : A5) (b6 : A6), ok b1 b2 b3 b4 b5 b6 → μ b1 b2 b3 b4 b5 b6 < μ a1 a2 a3 a4 a5 a6 → post' (val b1 b2 b3 b4 b5 b6) → W d post' b1 b2 b3 b4 b5 b6) → W (d + 1) post a1 a2 a3 a4 a5 a6) :
    ∀ (d : Nat) (post : ρ → Prop) (a1 : A1) (a2 : A2) (a3 : A3) (a4 : A4) (a5 : A5) (a6 : A6), ok a1 a2 a3 a4 a5 a6 → μ a1 a2 a3 a4 a5 a6 < d → post (val a1 a2 a3 a4 a5 a6) → W d post a1 a2 a3 a4 a5 a6 := by
  intro d
  induction d with
  | zero => intro post a1 a2 a3 a4 a5 a6 _ h; omega
  | succ d ih =>
    intro post a1 a2 a3 a4 a5 a6 ho hm hp
    exact hs d post a1 a2 a3 a4 a5 a6 ho hp (fun post' b1 b2 b3 b4 b5 b6 ho' hm' hp' => ih post' b1 b2 b3 b4 b5 b6 ho' (by omega) hp')
theorem rec_p {σ ρ : Type} (W : Nat → (ρ → Prop) → σ → Prop) (ok : σ → Prop) (μ : σ → Nat) (val : σ → ρ)
    (hs : ∀ d s post, ok s → post (val s) → (∀ s' post', ok s' → μ s' < μ s → post' (val s') → W d post' s') → W (d + 1) post s) :
    ∀ d s post, ok s → μ s < d → post (val s) → W d post s := by
  intro d
  induction d with
  | zero => intro s post _ h; omega
  | succ d ih =>
    intro s post ho hm hp
    exact hs d s post ho hp (fun s' post' ho' hm' hp' => ih s' post' ho' (by omega) hp')
theorem rec_q {σ ρ : Type} (W : Nat → (ρ → Prop) → σ → Prop) (ok : σ → Prop) (μ : σ → Nat) (Q : σ → ρ → Prop)
    (hs : ∀ d s post, ok s → (∀ r, Q s r → post r) → (∀ s' post', ok s' → μ s' < μ s → (∀ r, Q s' r → post' r) → W d post' s') → W (d + 1) post s) :
    ∀ d s post, ok s → μ s < d → (∀ r, Q s r → post r) → W d post s := by
  intro d
  induction d with
  | zero => intro s post _ h; omega
  | succ d ih =>
    intro s post ho hm hp
    exact hs d s post ho hp (fun s' post' ho' hm' hp' => ih s' post' ho' (by omega) hp')
def bx_sum (f : Nat → Int32) : Nat → Int32
  | 0 => 0
  | n + 1 => bx_sum f n + f n
theorem ek_u {A : Prop} {B : Nat → Prop} {k N : Nat} (hk : k < N) (h : B k) : (some k = none → A) ∧ (∀ y : Nat, some k = some y → (y < N ∧ B y)) :=
  ⟨fun z => absurd z (Option.some_ne_none k), fun _ e => (by cases e; exact ⟨hk, h⟩)⟩
theorem ek_nu {A : Prop} {B : Nat → Prop} (h : A) : ((none : Option Nat) = none → A) ∧ (∀ y : Nat, (none : Option Nat) = some y → B y) :=
  ⟨fun _ => h, fun _ e => (by cases e)⟩
theorem ek_if {c d A B : Prop} (e : c ↔ d) (f : d → A) (g : ¬ d → B) : (c → A) ∧ (¬ c → B) :=
  ⟨fun z => f (e.mp z), fun z => g (fun y => z (e.mpr y))⟩
theorem ek_v {α : Sort _} {P : α → Prop} {a b : α} (e : a = b) (h : P b) : P a := e ▸ h
theorem co_some {x : Option Nat} {A : Prop} {B : Nat → Prop} (i : Nat) (h : B i) (hx : x = some i := by rfl) : (x = none → A) ∧ (∀ y : Nat, x = some y → B y) := by
  subst hx
  exact ⟨fun e => (nomatch e), fun y e => Option.some.inj e ▸ h⟩
theorem co_none {x : Option Nat} {A : Prop} {B : Nat → Prop} (h : A) (hx : x = none := by rfl) : (x = none → A) ∧ (∀ y : Nat, x = some y → B y) := by
  subst hx
  exact ⟨fun _ => h, fun y e => (nomatch e)⟩
theorem co_any {x : Option Nat} {A : Prop} {B : Nat → Prop} (hn : x = none → A) (hs : ∀ i : Nat, x = some i → B i) : (x = none → A) ∧ (∀ y : Nat, x = some y → B y) := ⟨hn, hs⟩
theorem co_2 {P : Nat → Prop} (h0 : P 0) (h1 : P 1) {i : Nat} (hi : i < 2) : P i :=
  match i, hi with
  | 0, _ => h0
  | 1, _ => h1
theorem co_3 {P : Nat → Prop} (h0 : P 0) (h1 : P 1) (h2 : P 2) {i : Nat} (hi : i < 3) : P i :=
  match i, hi with
  | 0, _ => h0
  | 1, _ => h1
  | 2, _ => h2
theorem co_4 {P : Nat → Prop} (h0 : P 0) (h1 : P 1) (h2 : P 2) (h3 : P 3) {i : Nat} (hi : i < 4) : P i :=
  match i, hi with
  | 0, _ => h0
  | 1, _ => h1
  | 2, _ => h2
  | 3, _ => h3
theorem co_dec {N : Nat} {P : Nat → Prop} [DecidablePred P] (h : (List.range N).all (fun i => decide (P i)) = true) {i : Nat} (hi : i < N) : P i := by
  have := List.all_eq_true.mp h i (List.mem_range.mpr hi)
  exact of_decide_eq_true this
theorem co_tab {α : Type} {l : List α} {d : α} {P : α → Prop} (h : ∀ a, a ∈ l → P a) {i : Nat} (hi : i < l.length) : P (l.getD i d) := by
  rw [List.getD_eq_getElem?_getD, List.getElem?_eq_getElem hi]
  exact h _ (List.getElem_mem hi)
theorem pk_mu {x : Int32} {L : Nat} (h0 : ¬ x < 0) (h : ¬ nI L ≤ x) (hL : L < 2 ^ 31) : ∃ j : Nat, j < L ∧ x = nI j ∧ x + 1 = nI (j + 1) ∧ x.toNatClampNeg = j ∧ L - (x + 1).toNatClampNeg < L - x.toNatClampNeg := by
  obtain ⟨j, hj, rfl⟩ := nI_of h0
  have hl : j < L := Nat.not_le.mp fun q => h (nI_le q hj)
  refine ⟨j, hl, rfl, nI_1 j, nI_clamp hj, ?_⟩
  rw [nI_1, nI_clamp (by omega), nI_clamp hj]
  omega
theorem op_s {α : Type} {r : Option α} {A : Prop} {B : α → Prop} {y : α} (h : r = some y) (b : B y) : (r = none → A) ∧ ∀ z, r = some z → B z :=
  ⟨fun e => (by rw [h] at e; cases e), fun z e => (by rw [h] at e; cases e; exact b)⟩
def l_holds {α : Type} (a : Nat → Option Nat) (LP : List Nat) (p : Nat → α) (c : Nat) (b : Nat → α) : Prop :=
  ∀ j, j < c → ∃ y, a j = some y ∧ y ∈ LP ∧ p y = b j
theorem l_holds_0 {α : Type} {a : Nat → Option Nat} {LP : List Nat} {p b : Nat → α} : l_holds a LP p 0 b := fun j h => absurd h (Nat.not_lt_zero j)
theorem l_in_new (LP : List Nat) (q : Nat) : q ∈ LP ++ [q] := List.mem_append.mpr (Or.inr (List.mem_singleton.mpr rfl))
def l_sum (b : Nat → Int32) : Nat → Int32
  | 0 => 0
  | k + 1 => l_sum b k + b k
theorem sb_shr0 (x : Int32) : x >>> ((0 : Int32) &&& 31) = x := by
  rw [show ((0 : Int32) &&& 31) = 0 by decide]
  simp
theorem sb_shl0 (x : Int32) : x <<< ((0 : Int32) &&& 31) = x := by
  rw [show ((0 : Int32) &&& 31) = 0 by decide]
  simp
theorem sb_cl0 : (0 : Int32).toNatClampNeg = 0 := by decide
theorem sb_m1 {p : Nat} (h : 0 < p) : nI p + (-1) = nI (p - 1) := by
  obtain ⟨q, rfl⟩ : ∃ q, p = q + 1 := ⟨p - 1, by omega⟩
  exact pk_m1 q
def sb_b (c : Nat) : Int32 := (nI c).toInt8.toInt32
theorem sb_byte : ∀ c, c < 256 → sb_b c &&& 255 = nI c ∧ ((nI c).toUInt32 % 65536).toInt32 = nI c ∧ nI c ≤ 255 := by decide +kernel
def sb_Fit (a : Nat → Int32) : Prop := ∀ j, fits .byte (.int (a j)) = true
def sb_Lat (t : Nat → Nat) (n : Nat) (a : Nat → Int32) : Prop := ∀ j, j < n → t j < 256 ∧ a j = sb_b (t j)
theorem sb_fitB (c : Nat) : fits .byte (.int (sb_b c)) = true := pk_fb _
theorem sb_fit0 : sb_Fit (fun _ => 0) := fun _ => by
  show fits .byte (.int 0) = true
  decide
theorem sb_fitU {a : Nat → Int32} {k : Nat} {x : Int32} (h : sb_Fit a) (hx : fits .byte (.int x) = true) : sb_Fit (upd a k x) := by
  intro j
  by_cases e : j = k
  · subst e
    rw [pk_us]
    exact hx
  · rw [pk_un e]
    exact h j
def sb_cat (t : Nat → Nat) (n : Nat) (s : Nat → Nat) : Nat → Nat := fun j => if j < n then t j else s (j - n)
theorem sb_cat_lo {t s : Nat → Nat} {n j : Nat} (h : j < n) : sb_cat t n s j = t j := if_pos h
theorem sb_cat_hi {t s : Nat → Nat} {n j : Nat} : sb_cat t n s (n + j) = s j := by
  show (if n + j < n then t (n + j) else s (n + j - n)) = s j
  rw [if_neg (by omega), Nat.add_sub_cancel_left]
theorem sb_latPut {t s : Nat → Nat} {n w : Nat} {a a' : Nat → Int32} (h : sb_Lat t n a) (hk : ∀ j, j < n → a' j = a j) (hs : ∀ i, i < w → s i < 256 ∧ a' (n + i) = sb_b (s i)) : sb_Lat (sb_cat t n s) (n + w) a' := by
  intro j hj
  by_cases e : j < n
  · rw [sb_cat_lo e, hk j e]
    exact h j e
  · obtain ⟨i, rfl⟩ : ∃ i, j = n + i := ⟨j - n, by omega⟩
    rw [sb_cat_hi]
    exact hs i (by omega)
theorem sb_latKeep {t : Nat → Nat} {n : Nat} {a a' : Nat → Int32} (h : sb_Lat t n a) (hk : ∀ j, j < n → a' j = a j) : sb_Lat t n a' := fun j hj => by
  rw [hk j hj]
  exact h j hj
def sb_cap (q m : Nat) : Nat := if q ≤ m then m else if 2 * m + 2 < q then q else 2 * m + 2
def sb_Room (q m mc ms : Nat) : Prop := q ≤ m ∨ (1 ≤ mc ∧ sb_cap q m ≤ ms ∧ sb_cap q m ≤ 65536)
theorem sb_cap_ge (q m : Nat) : q ≤ sb_cap q m := by
  unfold sb_cap
  split
  · omega
  · split <;> omega
theorem sb_cap_gem (q m : Nat) : m ≤ sb_cap q m := by
  unfold sb_cap
  split
  · omega
  · split <;> omega
theorem sb_cap_le {q m mc ms : Nat} (hm : m ≤ 65536) (hr : sb_Room q m mc ms) : sb_cap q m ≤ 65536 := by
  rcases hr with h | h
  · rw [sb_cap, if_pos h]
    exact hm
  · exact h.2.2
theorem sb_at {P : Int32 → Prop} {x y : Int32} (e : x = y) (h : P y) : P x := e ▸ h
def sb_dg (w : Nat) : Nat := if w < 10 then 1 else if w < 100 then 2 else if w < 1000 then 3 else if w < 10000 then 4 else if w < 100000 then 5 else if w < 1000000 then 6 else if w < 10000000 then 7 else if w < 100000000 then 8 else if w < 1000000000 then 9 else 10
def sb_dec (v : Nat) : Nat → Nat := fun i => 48 + v / 10 ^ (sb_dg v - 1 - i) % 10
theorem sb_dg_in (w : Nat) : 1 ≤ sb_dg w ∧ sb_dg w ≤ 10 := by
  unfold sb_dg
  constructor <;> (repeat' split) <;> omega
theorem sb_dg100 {w : Nat} (h : 100 ≤ w) (hw : w < 2 ^ 31) : sb_dg w = sb_dg (w / 100) + 2 := by
  rw [sb_dg, sb_dg, if_neg (show ¬ w < 10 by omega), if_neg (show ¬ w < 100 by omega)]
  by_cases h3 : w < 1000
  · rw [if_pos h3, if_pos (show w / 100 < 10 by omega)]
  rw [if_neg h3, if_neg (show ¬ w / 100 < 10 by omega)]
  by_cases h4 : w < 10000
  · rw [if_pos h4, if_pos (show w / 100 < 100 by omega)]
  rw [if_neg h4, if_neg (show ¬ w / 100 < 100 by omega)]
  by_cases h5 : w < 100000
  · rw [if_pos h5, if_pos (show w / 100 < 1000 by omega)]
  rw [if_neg h5, if_neg (show ¬ w / 100 < 1000 by omega)]
  by_cases h6 : w < 1000000
  · rw [if_pos h6, if_pos (show w / 100 < 10000 by omega)]
  rw [if_neg h6, if_neg (show ¬ w / 100 < 10000 by omega)]
  by_cases h7 : w < 10000000
  · rw [if_pos h7, if_pos (show w / 100 < 100000 by omega)]
  rw [if_neg h7, if_neg (show ¬ w / 100 < 100000 by omega)]
  by_cases h8 : w < 100000000
  · rw [if_pos h8, if_pos (show w / 100 < 1000000 by omega)]
  rw [if_neg h8, if_neg (show ¬ w / 100 < 1000000 by omega)]
  by_cases h9 : w < 1000000000
  · rw [if_pos h9, if_pos (show w / 100 < 10000000 by omega)]
  rw [if_neg h9, if_neg (show ¬ w / 100 < 10000000 by omega)]
  rw [if_pos (show w / 100 < 100000000 by omega)]
theorem sb_negT {w : Nat} (h : w < 2 ^ 31) : (-nI w).toInt = -(w : Int) := by
  rw [Int32.toInt_neg, nI_toInt h]
  exact Int.bmod_eq_of_le (by omega) (by omega)
theorem sb_nle {a b : Nat} (ha : a < 2 ^ 31) (hb : b < 2 ^ 31) : -nI a ≤ -nI b ↔ b ≤ a := by
  rw [Int32.le_iff_toInt_le, sb_negT ha, sb_negT hb]
  omega
theorem sb_nlt {a b : Nat} (ha : a < 2 ^ 31) (hb : b < 2 ^ 31) : -nI a < -nI b ↔ b < a := by
  rw [Int32.lt_iff_toInt_lt, sb_negT ha, sb_negT hb]
  omega
theorem sb_cmp {A B : Prop} {x : Int32} (v c : Nat) (f : c ≤ v → A) (g : v < c → B) (hv : v < 2 ^ 31) (hx : x = -nI c := by rfl) (hc : c < 2 ^ 31 := by omega) : (-nI v ≤ x → A) ∧ (¬ -nI v ≤ x → B) := by
  subst hx
  rw [sb_nle hv hc]
  exact ⟨f, fun z => g (by omega)⟩
theorem sb_ndiv {w : Nat} (hw : w < 2 ^ 31) : (-nI w) / 100 = -nI (w / 100) := by
  apply Int32.toInt_inj.mp
  have h100 : (100 : Int32).toInt = 100 := by decide
  rw [Int32.toInt_div, sb_negT hw, h100, sb_negT (by omega), Int.neg_tdiv, Int.tdiv_eq_ediv_of_nonneg (by omega), Int.bmod_eq_of_le (by omega) (by omega)]
  omega
theorem sb_nrem {w : Nat} (hw : w < 2 ^ 31) : (-nI (w / 100)) * 100 - (-nI w) = nI (w % 100) := by
  have h := pk_rem (a := w) (d := 100) hw (by decide) (by decide)
  rw [pk_div hw (by decide) (by decide)] at h
  rw [← h]
  show (-nI (w / 100)) * nI 100 - (-nI w) = nI w - nI (w / 100) * nI 100
  rw [Int32.neg_mul, Int32.sub_neg, Int32.add_comm, ← Int32.sub_eq_add_neg]
end
section
/-! rows on bits, shifts and unsigned numbers, to paste: each family out of a closed proof of our own, whole with what it rests on; each by itself clean at Lean in its own claim (generation 39, form 5). Take a family whole -/
/-! ===== Int32 by its bits: bt x i ===== -/
def bt (x : Int32) (i : Nat) : Bool := x.toBitVec.getLsbD i
theorem b_ext {x y : Int32} (h : ∀ i, i < 32 → bt x i = bt y i) : x = y := Int32.toBitVec_inj.mp (BitVec.eq_of_getLsbD_eq (fun i hi => h i hi))
theorem b_or (x y : Int32) (i : Nat) : bt (x ||| y) i = (bt x i || bt y i) := by unfold bt; rw [Int32.toBitVec_or, BitVec.getLsbD_or]
theorem b_and (x y : Int32) (i : Nat) : bt (x &&& y) i = (bt x i && bt y i) := by unfold bt; rw [Int32.toBitVec_and, BitVec.getLsbD_and]
theorem b_xor (x y : Int32) (i : Nat) : bt (x ^^^ y) i = (bt x i ^^ bt y i) := by unfold bt; rw [Int32.toBitVec_xor, BitVec.getLsbD_xor]
theorem b_big {x : Int32} {i : Nat} (h : 32 ≤ i) : bt x i = false := BitVec.getLsbD_of_ge _ _ h
theorem b_255 (i : Nat) : bt 255 i = decide (i < 8) := by
  rcases Nat.lt_or_ge i 32 with h | h
  · exact (by decide +kernel : ∀ i, i < 32 → bt 255 i = decide (i < 8)) i h
  · rw [b_big h, decide_eq_false (by omega)]
theorem b_65535 (i : Nat) : bt 65535 i = decide (i < 16) := by
  rcases Nat.lt_or_ge i 32 with h | h
  · exact (by decide +kernel : ∀ i, i < 32 → bt 65535 i = decide (i < 16)) i h
  · rw [b_big h, decide_eq_false (by omega)]
theorem b_m1 : ∀ i, i < 32 → bt (-1) i = true := by decide +kernel
theorem b_0 (i : Nat) : bt 0 i = false := BitVec.getLsbD_zero
theorem s_l : ∀ n, n < 32 → ((nI n &&& 31).toBitVec.smod 32).toNat = n := by decide +kernel
theorem s_u : ∀ n, n < 32 → (((nI n).toUInt32 &&& Int32.toUInt32 31).toBitVec % 32).toNat = n := by decide +kernel
theorem b_shl (n : Nat) (hn : n < 32) (x : Int32) {i : Nat} (hi : i < 32) : bt (x <<< (nI n &&& 31)) i = (decide (n ≤ i) && bt x (i - n)) := by
  unfold bt
  rw [Int32.toBitVec_shiftLeft]
  show (x.toBitVec <<< ((nI n &&& 31).toBitVec.smod 32).toNat).getLsbD i = _
  rw [s_l n hn, BitVec.getLsbD_shiftLeft]
  rcases Nat.lt_or_ge i n with h | h
  · simp [h, Nat.not_le.mpr h]
  · simp [hi, h, Nat.not_lt.mpr h]
theorem b_ushr (n : Nat) (hn : n < 32) (x : Int32) (i : Nat) : bt ((x.toUInt32 >>> ((nI n).toUInt32 &&& Int32.toUInt32 31)).toInt32) i = bt x (n + i) := by
  show (x.toUInt32 >>> ((nI n).toUInt32 &&& Int32.toUInt32 31)).toBitVec.getLsbD i = x.toUInt32.toBitVec.getLsbD (n + i)
  rw [UInt32.toBitVec_shiftRight]
  show (x.toUInt32.toBitVec >>> (((nI n).toUInt32 &&& Int32.toUInt32 31).toBitVec % 32).toNat).getLsbD i = _
  rw [s_u n hn, BitVec.getLsbD_ushiftRight]
theorem b_sshr (n : Nat) (hn : n < 32) (x : Int32) {i : Nat} (hi : i < 32) : bt (x >>> (nI n &&& 31)) i = if n + i < 32 then bt x (n + i) else bt x 31 := by
  unfold bt
  rw [Int32.toBitVec_shiftRight]
  show (x.toBitVec.sshiftRight ((nI n &&& 31).toBitVec.smod 32).toNat).getLsbD i = _
  rw [s_l n hn, BitVec.getLsbD_sshiftRight, BitVec.msb_eq_getLsbD_last]
  simp [hi]
theorem b_shl8 (x : Int32) {i : Nat} (hi : i < 32) : bt (x <<< ((8 : Int32) &&& 31)) i = (decide (8 ≤ i) && bt x (i - 8)) := b_shl 8 (by omega) x hi
theorem b_shl16 (x : Int32) {i : Nat} (hi : i < 32) : bt (x <<< ((16 : Int32) &&& 31)) i = (decide (16 ≤ i) && bt x (i - 16)) := b_shl 16 (by omega) x hi
theorem b_shl24 (x : Int32) {i : Nat} (hi : i < 32) : bt (x <<< ((24 : Int32) &&& 31)) i = (decide (24 ≤ i) && bt x (i - 24)) := b_shl 24 (by omega) x hi
theorem b_sshr8 (x : Int32) {i : Nat} (hi : i < 32) : bt (x >>> ((8 : Int32) &&& 31)) i = if 8 + i < 32 then bt x (8 + i) else bt x 31 := b_sshr 8 (by omega) x hi
/-! ===== nI under and, xor, >>>, one bit, 65535 ===== -/
theorem nx_and (a b : Nat) : nI a &&& nI b = nI (a &&& b) := by
  apply Int32.toBitVec_inj.1
  show BitVec.ofNat 32 a &&& BitVec.ofNat 32 b = BitVec.ofNat 32 (a &&& b)
  apply BitVec.eq_of_getLsbD_eq
  intro i hi
  simp [hi]
theorem nx_xor (a b : Nat) : nI a ^^^ nI b = nI (a ^^^ b) := by
  apply Int32.toBitVec_inj.1
  show BitVec.ofNat 32 a ^^^ BitVec.ofNat 32 b = BitVec.ofNat 32 (a ^^^ b)
  apply BitVec.eq_of_getLsbD_eq
  intro i hi
  simp [hi]
theorem nx_cnt : ∀ j : Fin 32, (UInt32.ofNat j.val &&& Int32.toUInt32 31).toNat % 32 = j.val := by decide +kernel
theorem nx_ush {k j : Nat} (hk : k < 65536) (hj : j < 32) : ((nI k).toUInt32 >>> ((nI j).toUInt32 &&& Int32.toUInt32 31)).toInt32 = nI (k >>> j) := by
  have hs : k >>> j ≤ k := by
    rw [Nat.shiftRight_eq_div_pow]
    exact Nat.div_le_self _ _
  have e2 : UInt32.ofNat k >>> (UInt32.ofNat j &&& Int32.toUInt32 31) = UInt32.ofNat (k >>> j) := by
    apply UInt32.toNat_inj.1
    have h1 : (UInt32.ofNat k).toNat = k := Nat.mod_eq_of_lt (by omega)
    have h2 : (UInt32.ofNat (k >>> j)).toNat = k >>> j := Nat.mod_eq_of_lt (by omega)
    rw [UInt32.toNat_shiftRight, nx_cnt ⟨j, hj⟩, h1, h2]
  show (UInt32.ofNat k >>> (UInt32.ofNat j &&& Int32.toUInt32 31)).toInt32 = _
  rw [e2]
  rfl
theorem nx_bit {k j : Nat} (hk : k < 65536) (hj : j < 16) : (((nI k).toUInt32 >>> ((nI j).toUInt32 &&& Int32.toUInt32 31)).toInt32 &&& 1) = 0 ↔ k.testBit j = false := by
  rw [nx_ush hk (by omega)]
  show nI (k >>> j) &&& nI 1 = 0 ↔ _
  rw [nx_and, Nat.and_one_is_mod, ← nI_0, nI_eq (by omega) (by omega), Nat.testBit_eq_decide_div_mod_eq, Nat.shiftRight_eq_div_pow, decide_eq_false_iff_not]
  generalize k / 2 ^ j = z
  omega
theorem nx_mod (k : Nat) : nI k &&& 65535 = nI (k % 65536) := by
  show nI k &&& nI 65535 = _
  rw [nx_and, show (65535 : Nat) = 2 ^ 16 - 1 from rfl, Nat.and_two_pow_sub_one_eq_mod]
theorem nx_m16 {k : Nat} (h : k < 65536) : nI k &&& 65535 = nI k := by rw [nx_mod, Nat.mod_eq_of_lt h]
theorem nx_mask (x : Int32) : ∃ k, k < 65536 ∧ x &&& 65535 = nI k := by
  have e : x = nI x.toBitVec.toNat := by
    apply Int32.toBitVec_inj.1
    show x.toBitVec = BitVec.ofNat 32 x.toBitVec.toNat
    simp
  refine ⟨x.toBitVec.toNat % 65536, Nat.mod_lt _ (by omega), ?_⟩
  rw [← nx_mod, ← e]
/-! ===== Int32 as a set of bits: test, set ===== -/
def nf_M (m : Int32) : Nat := 4294967296 - m.toBitVec.toNat
theorem nf_sh : ∀ l, l < 32 → ((1 : Int32) <<< (nI l &&& 31)).toBitVec = BitVec.twoPow 32 l := by decide +kernel
theorem nf_sl : ∀ l, l < 32 → (((nI l).toUInt32 &&& Int32.toUInt32 31).toBitVec % 32).toNat = l := by decide +kernel
theorem nf_tp : ∀ l, l < 32 → BitVec.twoPow 32 l ≠ 0#32 := by decide +kernel
theorem nf_bit (m : Int32) (l : Nat) (hl : l < 32) : ((m.toUInt32 >>> ((nI l).toUInt32 &&& Int32.toUInt32 31)).toInt32 &&& 1) = 0 ↔ (m &&& ((1 : Int32) <<< (nI l &&& 31))) = 0 := by
  have e : ((m.toUInt32 >>> ((nI l).toUInt32 &&& Int32.toUInt32 31)).toInt32).toBitVec = m.toBitVec >>> l := by
    show m.toBitVec >>> (((nI l).toUInt32 &&& Int32.toUInt32 31).toBitVec % 32) = m.toBitVec >>> l
    rw [BitVec.ushiftRight_eq', nf_sl l hl]
  rw [← Int32.toBitVec_inj, ← Int32.toBitVec_inj, Int32.toBitVec_and, Int32.toBitVec_and, nf_sh l hl, e, BitVec.and_twoPow]
  show (m.toBitVec >>> l &&& 1#32) = 0#32 ↔ _ = 0#32
  rw [BitVec.and_one_eq_setWidth_ofBool_getLsbD, BitVec.getLsbD_ushiftRight, Nat.add_zero]
  cases hb : m.toBitVec.getLsbD l
  · exact ⟨fun _ => by simp, fun _ => by decide⟩
  · exact ⟨fun z => absurd z (by decide), fun z => absurd ((if_pos rfl).symm.trans z) (nf_tp l hl)⟩
theorem nf_gr (m k : Int32) (h : m &&& k = 0) (hk : k ≠ 0) : nf_M (m ||| k) < nf_M m := by
  have hm := m.toBitVec.isLt
  have hm' := (m ||| k).toBitVec.isLt
  have h1 : m.toBitVec.toNat ≤ (m ||| k).toBitVec.toNat := by
    rw [Int32.toBitVec_or, BitVec.toNat_or]
    exact Nat.left_le_or
  have h2 : m.toBitVec.toNat ≠ (m ||| k).toBitVec.toNat := by
    intro e
    have e2 : m = m ||| k := Int32.toBitVec_inj.mp (BitVec.eq_of_toNat_eq e)
    apply hk
    apply Int32.toBitVec_inj.mp
    show k.toBitVec = 0#32
    apply BitVec.eq_of_getLsbD_eq
    intro i hi
    have a : m.toBitVec.getLsbD i = (m.toBitVec.getLsbD i || k.toBitVec.getLsbD i) := by rw [← BitVec.getLsbD_or, ← Int32.toBitVec_or, ← e2]
    have b : (m.toBitVec.getLsbD i && k.toBitVec.getLsbD i) = false := by
      rw [← BitVec.getLsbD_and, ← Int32.toBitVec_and, h]
      exact BitVec.getLsbD_zero
    rw [BitVec.getLsbD_zero]
    revert a b
    cases m.toBitVec.getLsbD i <;> cases k.toBitVec.getLsbD i <;> simp
  unfold nf_M
  omega
/-! ===== a byte read unsigned ===== -/
theorem bp_b (x : Int32) : x.toInt8.toInt32 &&& 255 = x &&& 255 := by
  apply Int32.toBitVec_inj.mp
  rw [Int32.toBitVec_and, Int32.toBitVec_and, Int8.toBitVec_toInt32, Int32.toBitVec_toInt8]
  apply BitVec.eq_of_getLsbD_eq
  intro i hi
  rw [BitVec.getLsbD_and, BitVec.getLsbD_and]
  have hm : ∀ i < 32, 8 ≤ i → (255 : Int32).toBitVec.getLsbD i = false := by decide
  rcases Nat.lt_or_ge i 8 with z | z
  · rw [BitVec.getLsbD_signExtend, BitVec.getLsbD_signExtend, if_pos z, if_pos hi]
    simp only [z, hi, decide_true, Bool.true_and]
  · rw [hm i hi z]; simp
/-! ===== the char cast and 65535 ===== -/
theorem em_w (v : Int32) : ∃ w : Nat, w < 65536 ∧ (v.toUInt32 % 65536).toInt32 = nI w ∧ v &&& 65535 = nI w := by
  have hr := lw_u16_r v
  have h0 : (0 : Int32).toInt = 0 := by decide
  obtain ⟨w, h1, h2⟩ := nI_of (x := lw_u16 v) (by rw [Int32.lt_iff_toInt_lt]; omega)
  have h3 : (v.toUInt32 % 65536).toInt32 = nI w := h2
  rw [h2, nI_toInt h1] at hr
  exact ⟨w, by omega, h3, by rw [← lg_i2c_mask, ← lg_i2c_nf, h3]⟩
/-! ===== Int64 as a set of bits: test, set, clear ===== -/
theorem ts_nf {x : Bool} (h : ¬ x = false) : x = true := by cases x <;> first | rfl | exact absurd rfl h
theorem ts_nt {x : Bool} (h : ¬ x = true) : x = false := by cases x <;> first | rfl | exact absurd rfl h
theorem ts_bit {w : Int64} {s : UInt64} {j : Nat} (hj : j < 64) (hs : s.toNat = j) : ((w.toUInt64 >>> s).toInt64 &&& 1) = 0 ↔ w.toBitVec.getLsbD j = false := by
  have e : (w.toUInt64 >>> s).toInt64.toBitVec = w.toBitVec >>> j := by
    apply BitVec.eq_of_toNat_eq
    show (w.toUInt64 >>> s).toNat = _
    rw [UInt64.toNat_shiftRight, hs, Nat.mod_eq_of_lt hj, BitVec.toNat_ushiftRight]
    rfl
  rw [← Int64.toBitVec_inj, Int64.toBitVec_and, e]
  show w.toBitVec >>> j &&& 1#64 = 0#64 ↔ _
  constructor
  · intro h
    have t := congrArg (fun x => x.getLsbD 0) h
    simpa using t
  · intro h
    apply BitVec.eq_of_getLsbD_eq
    intro i hi
    cases i with
    | zero => simp [h]
    | succ i => simp
theorem ts_or {w m : Int64} {j : Nat} (hj : j < 64) (hm : m.toBitVec = BitVec.twoPow 64 j) : (w ||| m) = w ↔ w.toBitVec.getLsbD j = true := by
  rw [← Int64.toBitVec_inj, Int64.toBitVec_or, hm]
  constructor
  · intro h
    have t := congrArg (fun x => x.getLsbD j) h
    simp only [BitVec.getLsbD_or, BitVec.getLsbD_twoPow] at t
    simpa [hj] using t.symm
  · intro h
    apply BitVec.eq_of_getLsbD_eq
    intro i hi
    rw [BitVec.getLsbD_or, BitVec.getLsbD_twoPow]
    by_cases e : j = i
    · subst e; rw [h, Bool.true_or]
    · simp [e]
theorem ts_and {w m : Int64} {j : Nat} (hj : j < 64) (hm : m.toBitVec = BitVec.twoPow 64 j) : (w &&& (m ^^^ (-1))) = w ↔ w.toBitVec.getLsbD j = false := by
  have ha : (-1 : Int64).toBitVec = BitVec.allOnes 64 := by decide
  rw [← Int64.toBitVec_inj, Int64.toBitVec_and, Int64.toBitVec_xor, hm, ha]
  constructor
  · intro h
    have t := congrArg (fun x => x.getLsbD j) h
    simp only [BitVec.getLsbD_and, BitVec.getLsbD_xor, BitVec.getLsbD_twoPow, BitVec.getLsbD_allOnes] at t
    simpa [hj] using t.symm
  · intro h
    apply BitVec.eq_of_getLsbD_eq
    intro i hi
    rw [BitVec.getLsbD_and, BitVec.getLsbD_xor, BitVec.getLsbD_twoPow, BitVec.getLsbD_allOnes]
    by_cases e : j = i
    · subst e; rw [h, Bool.false_and]
    · simp [e, hi]
/-! ===== lN n to 2^64: shifts, and, or, masks, one bit ===== -/
theorem wb_tb (n : Nat) : (lN n).toBitVec = BitVec.ofNat 64 n := rfl
theorem wb_inj {a b : Int64} (h : a.toBitVec = b.toBitVec) : a = b := Int64.toBitVec_inj.mp h
theorem wb_tn {n : Nat} (h : n < 2 ^ 64) : (lN n).toBitVec.toNat = n := by rw [wb_tb, BitVec.toNat_ofNat, Nat.mod_eq_of_lt h]
theorem wb_of (x : Int64) : ∃ n, n < 2 ^ 64 ∧ x = lN n := ⟨x.toBitVec.toNat, x.toBitVec.isLt, wb_inj (by rw [wb_tb]; simp)⟩
theorem wb_of32 (x : Int32) : ∃ n, n < 2 ^ 32 ∧ x = nI n := ⟨x.toBitVec.toNat, x.toBitVec.isLt, Int32.toBitVec_inj.mp (by show _ = BitVec.ofNat 32 _; simp)⟩
theorem wb_c : ∀ k, k < 64 → ((nI k).toInt64 &&& 63) = lN k := by decide +kernel
theorem wb_cu : ∀ k, k < 64 → ((nI k).toInt64.toUInt64 &&& Int64.toUInt64 63) = UInt64.ofNat k := by decide +kernel
theorem wb_sm : ∀ k, k < 64 → (BitVec.ofNat 64 k).smod 64 = BitVec.ofNat 64 k := by decide +kernel
theorem wb_pw {a b : Nat} (h : a ≤ b) : 2 ^ b = 2 ^ a * 2 ^ (b - a) := by rw [← Nat.pow_add]; congr 1; omega
theorem wb_lt2 {a b : Nat} (h : a < b) : 2 ^ a < 2 ^ b := Nat.pow_lt_pow_right (by decide) h
theorem wb_mod (n : Nat) : lN n = lN (n % 2 ^ 64) := wb_inj (by rw [wb_tb, wb_tb]; apply BitVec.eq_of_toNat_eq; rw [BitVec.toNat_ofNat, BitVec.toNat_ofNat, Nat.mod_mod])
theorem wb_shr {n k : Nat} (hn : n < 2 ^ 64) (hk : k < 64) : ((lN n).toUInt64 >>> ((nI k).toInt64.toUInt64 &&& Int64.toUInt64 63)).toInt64 = lN (n / 2 ^ k) := by
  rw [wb_cu k hk]
  apply wb_inj
  apply BitVec.eq_of_toNat_eq
  show ((lN n).toUInt64 >>> UInt64.ofNat k).toNat = (BitVec.ofNat 64 _).toNat
  have h1 : (UInt64.ofNat k).toNat = k := by
    show (BitVec.ofNat 64 k).toNat = k
    rw [BitVec.toNat_ofNat, Nat.mod_eq_of_lt (by omega)]
  have h2 : (lN n).toUInt64.toNat = n := wb_tn hn
  rw [UInt64.toNat_shiftRight, h1, h2, Nat.mod_eq_of_lt hk, Nat.shiftRight_eq_div_pow, BitVec.toNat_ofNat, Nat.mod_eq_of_lt (Nat.lt_of_le_of_lt (Nat.div_le_self _ _) hn)]
theorem wb_shl (n : Nat) {k : Nat} (hk : k < 64) : lN n <<< ((nI k).toInt64 &&& 63) = lN (n * 2 ^ k) := by
  rw [wb_c k hk]
  apply wb_inj
  rw [Int64.toBitVec_shiftLeft, wb_tb, wb_tb, wb_tb, wb_sm k hk]
  apply BitVec.eq_of_toNat_eq
  rw [BitVec.shiftLeft_eq', BitVec.toNat_shiftLeft, BitVec.toNat_ofNat, BitVec.toNat_ofNat, BitVec.toNat_ofNat, Nat.mod_eq_of_lt (show k < 2 ^ 64 by omega), Nat.shiftLeft_eq, Nat.mul_mod, Nat.mod_mod, ← Nat.mul_mod]
theorem wb_and {a b : Nat} (ha : a < 2 ^ 64) (hb : b < 2 ^ 64) : lN a &&& lN b = lN (a &&& b) := by
  apply wb_inj
  rw [Int64.toBitVec_and, wb_tb, wb_tb, wb_tb]
  apply BitVec.eq_of_toNat_eq
  rw [BitVec.toNat_and, BitVec.toNat_ofNat, BitVec.toNat_ofNat, BitVec.toNat_ofNat, Nat.mod_eq_of_lt ha, Nat.mod_eq_of_lt hb, Nat.mod_eq_of_lt (Nat.and_lt_two_pow _ hb)]
theorem wb_or {a b : Nat} (ha : a < 2 ^ 64) (hb : b < 2 ^ 64) : lN a ||| lN b = lN (a ||| b) := by
  apply wb_inj
  rw [Int64.toBitVec_or, wb_tb, wb_tb, wb_tb]
  apply BitVec.eq_of_toNat_eq
  rw [BitVec.toNat_or, BitVec.toNat_ofNat, BitVec.toNat_ofNat, BitVec.toNat_ofNat, Nat.mod_eq_of_lt ha, Nat.mod_eq_of_lt hb, Nat.mod_eq_of_lt (Nat.or_lt_two_pow ha hb)]
theorem wb_mask {n k : Nat} (hn : n < 2 ^ 64) (hk : k < 64) : lN n &&& lN (2 ^ k - 1) = lN (n % 2 ^ k) := by
  rw [wb_and hn (by have := wb_lt2 hk; omega), Nat.and_two_pow_sub_one_eq_mod]
theorem wb_a1 {n : Nat} (hn : n < 2 ^ 64) : lN n &&& 1 = lN (n % 2) := wb_mask (k := 1) hn (by decide)
theorem wb_bit {n k : Nat} (hn : n < 2 ^ 64) (hk : k < 64) : ((lN n).toUInt64 >>> ((nI k).toInt64.toUInt64 &&& Int64.toUInt64 63)).toInt64 &&& 1 = lN (n / 2 ^ k % 2) := by
  rw [wb_shr hn hk, wb_a1 (Nat.lt_of_le_of_lt (Nat.div_le_self _ _) hn)]
theorem wb_xor {q k : Nat} (hk : k < 63) (h : 2 ^ k ≤ q) (h2 : q < 2 ^ (k + 1)) : lN q ^^^ lN (2 ^ k) = lN (q - 2 ^ k) := by
  obtain ⟨r, rfl⟩ : ∃ r, q = 2 ^ k + r := ⟨q - 2 ^ k, by omega⟩
  have hr : r < 2 ^ k := by rw [Nat.pow_succ] at h2; omega
  have hx : (2 ^ k + r) ^^^ 2 ^ k = r := by
    apply Nat.eq_of_testBit_eq
    intro i
    rw [Nat.testBit_xor, Nat.testBit_two_pow]
    rcases Nat.lt_trichotomy i k with h | h | h
    · rw [Nat.testBit_two_pow_add_gt h]
      simp [show ¬ k = i by omega]
    · subst h
      rw [Nat.testBit_two_pow_add_eq]
      simp
    · have a1 : 2 ^ (k + 1) ≤ 2 ^ i := Nat.pow_le_pow_right (by decide) h
      rw [Nat.testBit_lt_two_pow (show 2 ^ k + r < 2 ^ i by omega), Nat.testBit_lt_two_pow (show r < 2 ^ i by omega)]
      simp [show ¬ k = i by omega]
  have b1 := wb_lt2 (show k + 1 < 64 by omega)
  have b2 := wb_lt2 (show k < 64 by omega)
  apply wb_inj
  rw [Int64.toBitVec_xor, wb_tb, wb_tb, wb_tb]
  apply BitVec.eq_of_toNat_eq
  rw [BitVec.toNat_xor, BitVec.toNat_ofNat, BitVec.toNat_ofNat, BitVec.toNat_ofNat, Nat.mod_eq_of_lt (by omega : 2 ^ k + r < 2 ^ 64), Nat.mod_eq_of_lt b2, hx, Nat.add_sub_cancel_left, Nat.mod_eq_of_lt (by omega)]
/-! ===== lN: masks, 'or' of parts that don't overlap is a sum ===== -/
theorem u_tn {n : Nat} (h : n < 2 ^ 64) : (UInt64.ofNat n).toNat = n := Nat.mod_eq_of_lt h
theorem g_and {a b c : Nat} (ha : a < 2 ^ 64) (hb : b < 2 ^ 64) (hc : a &&& b = c) : lN a &&& lN b = lN c := by
  subst hc
  have h : UInt64.ofNat a &&& UInt64.ofNat b = UInt64.ofNat (a &&& b) := UInt64.toNat_inj.mp (by rw [UInt64.toNat_and, u_tn ha, u_tn hb, u_tn (Nat.and_lt_two_pow a hb)])
  have h2 := congrArg UInt64.toInt64 h
  exact h2
theorem g_and1 {a : Nat} (ha : a < 2 ^ 64) : lN a &&& 1 = lN (a % 2) := g_and (b := 1) ha (by decide) (Nat.and_two_pow_sub_one_eq_mod a 1)
theorem g_mask {a s p : Nat} (hp : 2 ^ s = p) (hs : s < 64) (ha : a < 2 ^ 64) : lN a &&& lN (p - 1) = lN (a % p) := by
  subst hp
  have := Nat.pow_lt_pow_right (show 1 < 2 by decide) hs
  exact g_and ha (by omega) (Nat.and_two_pow_sub_one_eq_mod a s)
theorem g_or {k p a b : Nat} (hp : 2 ^ k = p) (ha : a < p) (h : b * p + a < 2 ^ 64) : lN (b * p) ||| lN a = lN (b * p + a) := by
  subst hp
  have h1 : b * 2 ^ k ||| a = b * 2 ^ k + a := by rw [← Nat.shiftLeft_eq, Nat.shiftLeft_add_eq_or_of_lt ha]
  have h3 : UInt64.ofNat (b * 2 ^ k) ||| UInt64.ofNat a = UInt64.ofNat (b * 2 ^ k + a) := UInt64.toNat_inj.mp (by rw [UInt64.toNat_or, u_tn (by omega), u_tn (by omega), u_tn h, h1])
  have h2 := congrArg UInt64.toInt64 h3
  exact h2
theorem g_or' {k p a b : Nat} (hp : 2 ^ k = p) (ha : a < p) (h : a + b * p < 2 ^ 64) : lN a ||| lN (b * p) = lN (a + b * p) := by
  rw [Int64.or_comm, g_or hp ha (by omega), Nat.add_comm]
theorem g_ushr {a k p : Nat} {y : UInt64} (hy : y = UInt64.ofNat k) (hk : k < 64) (hp : 2 ^ k = p) (ha : a < 2 ^ 64) : ((lN a).toUInt64 >>> y).toInt64 = lN (a / p) := by
  subst hy hp
  have h : UInt64.ofNat a >>> UInt64.ofNat k = UInt64.ofNat (a / 2 ^ k) := UInt64.toNat_inj.mp (by rw [UInt64.toNat_shiftRight, u_tn ha, u_tn (by omega), u_tn (Nat.lt_of_le_of_lt (Nat.div_le_self _ _) ha), Nat.mod_eq_of_lt hk, Nat.shiftRight_eq_div_pow])
  have h2 := congrArg UInt64.toInt64 h
  exact h2
theorem g_shl {a k p : Nat} {y : Int64} (hy : y.toBitVec.smod 64 = BitVec.ofNat 64 k) (hk : k < 64) (hp : 2 ^ k = p) (ha : a < 2 ^ 64) : lN a <<< y = lN (a * p) := by
  subst hp
  apply Int64.toBitVec_inj.mp
  rw [Int64.toBitVec_shiftLeft, hy]
  apply BitVec.eq_of_toNat_eq
  have hb : (lN a).toBitVec.toNat = a := Nat.mod_eq_of_lt ha
  have hk' : (BitVec.ofNat 64 k).toNat = k := Nat.mod_eq_of_lt (by omega)
  have h : ((lN a).toBitVec <<< BitVec.ofNat 64 k).toNat = (a * 2 ^ k) % 2 ^ 64 := by simp only [BitVec.shiftLeft_eq', BitVec.toNat_shiftLeft, hb, hk', Nat.shiftLeft_eq]
  exact h
/-! ===== lN to 2^62 under >> and >>> ===== -/
theorem pf_lI {a : Nat} (h : a < 2 ^ 63) : (lN a).toInt = (a : Int) := lg_ofNat_toInt h
theorem pf_shr {a d : Nat} {D : Int64} (hD : (D.toBitVec.smod 64).toNat = d) (h : a < 2 ^ 62) : lN a >>> D = lN (a / 2 ^ d) := by
  have hd : a / 2 ^ d ≤ a := Nat.div_le_self _ _
  apply Int64.toInt_inj.mp
  have e : (lN a >>> D).toInt = (lN a).toInt >>> d := by
    rw [← hD]
    exact BitVec.toInt_sshiftRight ..
  rw [e, Int.shiftRight_eq_div_pow, pf_lI (by omega), pf_lI (by omega)]
  rfl
theorem pf_ushr {a d : Nat} {D : UInt64} (hD : D.toNat % 64 = d) (h : a < 2 ^ 62) : ((lN a).toUInt64 >>> D).toInt64 = lN (a / 2 ^ d) := by
  have hd : a / 2 ^ d ≤ a := Nat.div_le_self _ _
  have e : (lN a).toUInt64 >>> D = UInt64.ofNat (a / 2 ^ d) := UInt64.toNat_inj.mp (by
    rw [UInt64.toNat_shiftRight, hD, Nat.shiftRight_eq_div_pow, UInt64.toNat_ofNat']
    show (UInt64.ofNat a).toNat / 2 ^ d = _
    rw [UInt64.toNat_ofNat', Nat.mod_eq_of_lt (by omega), Nat.mod_eq_of_lt (by omega)])
  rw [e]
  rfl
theorem pf_andw (x : Int64) : ∃ m, m < 2 ^ 32 ∧ x &&& 4294967295 = lN m := ⟨x.toBitVec.toNat % 2 ^ 32, Nat.mod_lt _ (by decide), Int64.toBitVec_inj.mp (BitVec.eq_of_toNat_eq (by
  show (x.toBitVec &&& 4294967295#64).toNat = (BitVec.ofNat 64 (x.toBitVec.toNat % 2 ^ 32)).toNat
  rw [BitVec.toNat_and, show (4294967295#64).toNat = 2 ^ 32 - 1 from by decide, Nat.and_two_pow_sub_one_eq_mod, BitVec.toNat_ofNat]
  omega))⟩
/-! ===== Int64 as an unsigned number: uN x ===== -/
def uN (x : Int64) : Nat := x.toUInt64.toNat
theorem uN_lt (x : Int64) : uN x < 18446744073709551616 := x.toUInt64.toNat_lt
theorem uN_inj {x y : Int64} (h : uN x = uN y) : x = y := congrArg UInt64.toInt64 (UInt64.toNat_inj.mp h)
theorem uN_add (x y : Int64) : uN (x + y) = (uN x + uN y) % 18446744073709551616 := by
  show (x.toUInt64 + y.toUInt64).toNat = _
  exact UInt64.toNat_add _ _
theorem uN_mul (x y : Int64) : uN (x * y) = (uN x * uN y) % 18446744073709551616 := by
  show (x.toUInt64 * y.toUInt64).toNat = _
  exact UInt64.toNat_mul _ _
theorem uN_shl (x : Int64) : uN (x <<< ((1 : Int32).toInt64 &&& 63)) = (2 * uN x) % 18446744073709551616 := by
  have h : (((1 : Int32).toInt64 &&& 63).toBitVec.smod 64).toNat = 1 := by decide
  show (x.toBitVec <<< (((1 : Int32).toInt64 &&& 63).toBitVec.smod 64).toNat).toNat = _
  rw [h, BitVec.toNat_shiftLeft, Nat.shiftLeft_eq, Nat.mul_comm]
  rfl
theorem uN_shr (x : Int64) (s : UInt64) : uN (x.toUInt64 >>> s).toInt64 = uN x / 2 ^ (s.toNat % 64) := by
  show (x.toUInt64 >>> s).toNat = _
  rw [UInt64.toNat_shiftRight, Nat.shiftRight_eq_div_pow]
  rfl
theorem uN_s32 (x : Int64) : uN (x.toUInt64 >>> ((32 : Int32).toInt64.toUInt64 &&& Int64.toUInt64 63)).toInt64 = uN x / 4294967296 := by
  have h : ((32 : Int32).toInt64.toUInt64 &&& Int64.toUInt64 63).toNat % 64 = 32 := by decide
  rw [uN_shr, h]
theorem uN_s63 (x : Int64) : uN (x.toUInt64 >>> ((63 : Int32).toInt64.toUInt64 &&& Int64.toUInt64 63)).toInt64 = uN x / 9223372036854775808 := by
  have h : ((63 : Int32).toInt64.toUInt64 &&& Int64.toUInt64 63).toNat % 64 = 63 := by decide
  rw [uN_shr, h]
theorem uN_lo (x : Int64) : uN (x &&& 4294967295) = uN x % 4294967296 := by
  show (x.toUInt64 &&& Int64.toUInt64 4294967295).toNat = _
  rw [UInt64.toNat_and]
  exact Nat.and_two_pow_sub_one_eq_mod _ 32
theorem uN_bit (x : Int64) : (x &&& 1) = 0 ↔ uN x % 2 = 0 := by
  have h : uN (x &&& 1) = uN x % 2 := by
    show (x.toUInt64 &&& Int64.toUInt64 1).toNat = _
    rw [UInt64.toNat_and]
    exact Nat.and_two_pow_sub_one_eq_mod _ 1
  rw [← h]
  exact ⟨fun z => by rw [z]; rfl, fun z => uN_inj (z.trans rfl)⟩
theorem uN_or {x y : Int64} (hy : uN y < 2) : uN ((x <<< ((1 : Int32).toInt64 &&& 63)) ||| y) = (2 * uN x) % 18446744073709551616 + uN y := by
  have h1 : uN ((x <<< ((1 : Int32).toInt64 &&& 63)) ||| y) = uN (x <<< ((1 : Int32).toInt64 &&& 63)) ||| uN y := UInt64.toNat_or _ _
  have h2 : (2 * uN x) % 18446744073709551616 = 2 ^ 1 * (uN x % 9223372036854775808) := by omega
  rw [h1, uN_shl, h2]
  exact (Nat.two_pow_add_eq_or_of_lt (i := 1) hy _).symm
theorem nat_xor {a : Nat} (h : a < 18446744073709551616) : a ^^^ 2 ^ 63 = (a + 9223372036854775808) % 18446744073709551616 := by
  have h1 : (a ^^^ 2 ^ 63) % 2 ^ 63 = a % 2 ^ 63 := by rw [Nat.xor_mod_two_pow, Nat.mod_self, Nat.xor_zero]
  have h2 : (a ^^^ 2 ^ 63) / 2 ^ 63 = (a / 2 ^ 63) ^^^ 1 := by rw [Nat.xor_div_two_pow, Nat.div_self (Nat.two_pow_pos 63)]
  have h3 : a / 2 ^ 63 = 0 ∨ a / 2 ^ 63 = 1 := by omega
  generalize a ^^^ 2 ^ 63 = t at h1 h2
  rcases h3 with h3 | h3
  · rw [h3] at h2
    have h2 : t / 2 ^ 63 = 1 := h2
    omega
  · rw [h3] at h2
    have h2 : t / 2 ^ 63 = 0 := h2
    omega
theorem uN_xor (x : Int64) : uN (x ^^^ (-9223372036854775808)) = (uN x + 9223372036854775808) % 18446744073709551616 := by
  rw [← nat_xor (uN_lt x)]
  exact UInt64.toNat_xor _ _
theorem uN_int (x : Int64) : x.toInt = if 2 * uN x < 18446744073709551616 then (uN x : Int) else (uN x : Int) - 18446744073709551616 := BitVec.toInt_eq_toNat_cond _
theorem uN_le (x y : Int64) : (x ^^^ (-9223372036854775808)) ≤ (y ^^^ (-9223372036854775808)) ↔ uN x ≤ uN y := by
  have hx := uN_lt x
  have hy := uN_lt y
  rw [Int64.le_iff_toInt_le, uN_int, uN_int, uN_xor, uN_xor]
  omega
theorem uN_sk (x : Int64) {k : Nat} (hk : k < 64) : uN (x.toUInt64 >>> ((nI k).toInt64.toUInt64 &&& Int64.toUInt64 63)).toInt64 = uN x / 2 ^ k := by
  have h : ((nI k).toInt64.toUInt64 &&& Int64.toUInt64 63).toNat % 64 = k := by
    rw [nI_l (by omega), UInt64.toNat_and]
    have e : (lN k).toUInt64.toNat = k % 2 ^ 64 := rfl
    have e2 : (Int64.toUInt64 63).toNat = 2 ^ 6 - 1 := by decide
    rw [e, e2, Nat.and_two_pow_sub_one_eq_mod]
    omega
  rw [uN_shr, h]
/-! ===== unsigned comparison by xor with the least ===== -/
theorem lN_bv (n : Nat) : (lN n).toBitVec = BitVec.ofNat 64 n := rfl
theorem lN_nat {n : Nat} (h : n < 2 ^ 64) : (lN n).toBitVec.toNat = n := by rw [lN_bv, BitVec.toNat_ofNat]; exact Nat.mod_eq_of_lt h
theorem lN_xor (a b : Nat) : lN a ^^^ lN b = lN (a ^^^ b) := by
  apply Int64.toBitVec_inj.mp; rw [Int64.toBitVec_xor, lN_bv, lN_bv, lN_bv]; apply BitVec.eq_of_getLsbD_eq; intro i hi; simp [BitVec.getLsbD_ofNat, Nat.testBit_xor, hi]
theorem lN_ti {m : Nat} (h : m < 2 ^ 64) : (lN m).toInt = if m < 2 ^ 63 then (m : Int) else (m : Int) - 2 ^ 64 := by
  have c := BitVec.toInt_eq_toNat_cond (lN m).toBitVec
  rw [lN_nat h] at c
  show (lN m).toBitVec.toInt = _
  rw [c]
  split <;> split <;> omega
theorem xor63 {x : Nat} (h : x < 2 ^ 63) : x ^^^ 2 ^ 63 = 2 ^ 63 + x := by
  apply Nat.eq_of_testBit_eq
  intro i
  rw [Nat.testBit_xor, Nat.testBit_two_pow]
  rcases Nat.lt_trichotomy i 63 with z | z | z
  · rw [Nat.testBit_two_pow_add_gt z, decide_eq_false (by omega)]; simp
  · subst z; rw [Nat.testBit_two_pow_add_eq]; simp
  · have hp : 2 ^ 64 ≤ 2 ^ i := Nat.pow_le_pow_right (by decide) z
    rw [Nat.testBit_lt_two_pow (show x < 2 ^ i by omega), Nat.testBit_lt_two_pow (show 2 ^ 63 + x < 2 ^ i by omega), decide_eq_false (by omega)]; rfl
theorem xorS {a : Nat} (h : a < 2 ^ 64) : (lN a ^^^ (-9223372036854775808)).toInt = (a : Int) - 2 ^ 63 := by
  rw [show (-9223372036854775808 : Int64) = lN (2 ^ 63) from by decide +kernel, lN_xor]
  rcases Nat.lt_or_ge a (2 ^ 63) with z | z
  · rw [xor63 z, lN_ti (by omega), if_neg (by omega)]; omega
  · obtain ⟨x, rfl⟩ : ∃ x, a = 2 ^ 63 + x := ⟨a - 2 ^ 63, by omega⟩
    rw [← xor63 (by omega), Nat.xor_assoc, Nat.xor_self, Nat.xor_zero, lN_ti (by omega), if_pos (by omega), xor63 (by omega)]; omega
theorem ultL {a b : Nat} (ha : a < 2 ^ 64) (hb : b < 2 ^ 64) : ((lN b ^^^ (-9223372036854775808)) ≤ (lN a ^^^ (-9223372036854775808))) ↔ b ≤ a := by
  rw [Int64.le_iff_toInt_le, xorS ha, xorS hb]; omega
/-! ===== Int64 masks of n low bits ===== -/
theorem cr_bits (W U M : BitVec 64) : ((W &&& U) &&& (U &&& (M ^^^ BitVec.allOnes 64))) = 0#64 ↔ (W &&& U) &&& M = W &&& U := by
  constructor
  · intro h
    apply BitVec.eq_of_getLsbD_eq
    intro i hi
    have e := congrArg (fun x => BitVec.getLsbD x i) h
    simp only [BitVec.getLsbD_and, BitVec.getLsbD_xor, BitVec.getLsbD_allOnes, BitVec.getLsbD_zero, hi, decide_true] at e ⊢
    revert e
    cases W.getLsbD i <;> cases U.getLsbD i <;> cases M.getLsbD i <;> decide
  · intro h
    apply BitVec.eq_of_getLsbD_eq
    intro i hi
    have e := congrArg (fun x => BitVec.getLsbD x i) h
    simp only [BitVec.getLsbD_and, BitVec.getLsbD_xor, BitVec.getLsbD_allOnes, BitVec.getLsbD_zero, hi, decide_true] at e ⊢
    revert e
    cases W.getLsbD i <;> cases U.getLsbD i <;> cases M.getLsbD i <;> decide
theorem cr_mask (w U m : Int64) (n : Nat) (hm : m.toBitVec.toNat = 2 ^ n - 1) : ((w &&& U) &&& (U &&& (m ^^^ (-1)))) = 0 ↔ (w &&& U).toBitVec.toNat < 2 ^ n := by
  have e0 : (-1 : Int64).toBitVec = BitVec.allOnes 64 := by decide
  have z0 : (0 : Int64).toBitVec = 0#64 := by decide
  rw [← Int64.toBitVec_inj, z0, Int64.toBitVec_and, Int64.toBitVec_and, Int64.toBitVec_and, Int64.toBitVec_xor, e0, cr_bits]
  generalize w.toBitVec &&& U.toBitVec = T
  rw [← BitVec.toNat_inj, BitVec.toNat_and, hm, Nat.and_two_pow_sub_one_eq_mod]
  constructor
  · intro h
    have t := Nat.mod_lt T.toNat (Nat.two_pow_pos n)
    rw [h] at t
    exact t
  · exact Nat.mod_eq_of_lt
theorem cr_shr (t : Int64) (x : UInt64) (n : Nat) (hx : x.toNat % 64 = n) : (t.toUInt64 >>> x).toInt64 = 0 ↔ t.toBitVec.toNat < 2 ^ n := by
  rw [← Int64.toBitVec_inj, ← BitVec.toNat_inj]
  show (t.toUInt64 >>> x).toNat = 0 ↔ t.toUInt64.toNat < 2 ^ n
  rw [UInt64.toNat_shiftRight, hx, Nat.shiftRight_eq_div_pow]
  constructor
  · intro h
    have d : t.toUInt64.toNat / 2 ^ n < 1 := by
      rw [h]
      decide
    have e := (Nat.div_lt_iff_lt_mul (Nat.two_pow_pos n)).mp d
    rw [Nat.one_mul] at e
    exact e
  · exact Nat.div_eq_of_lt
theorem cr_amt (s : Int64) : ∃ n, n < 64 ∧ s &&& 63 = lN n ∧ (s.toUInt64 &&& Int64.toUInt64 63).toNat % 64 = n := by
  have e : (s.toUInt64 &&& Int64.toUInt64 63).toNat = s.toUInt64.toNat % 2 ^ 6 := by
    rw [UInt64.toNat_and, show (Int64.toUInt64 63).toNat = 2 ^ 6 - 1 from by decide, Nat.and_two_pow_sub_one_eq_mod]
  refine ⟨s.toUInt64.toNat % 2 ^ 6, by omega, ?_, by omega⟩
  rw [← Int64.toBitVec_inj, ← BitVec.toNat_inj]
  show (s.toUInt64 &&& Int64.toUInt64 63).toNat = (BitVec.ofNat 64 (s.toUInt64.toNat % 2 ^ 6)).toNat
  rw [e, BitVec.toNat_ofNat]
  omega
end
section
/-! signed numbers in ints and longs; branches by integers; the four formats -/
def zz_I (z : Int) : Int32 := Int32.ofInt z
def zz_L (z : Int) : Int64 := Int64.ofInt z
theorem zz_nI (n : Nat) : nI n = zz_I (n : Int) := Int32.ofInt_eq_ofNat.symm
theorem zz_lN (n : Nat) : lN n = zz_L (n : Int) := Int64.ofInt_eq_ofNat.symm
theorem zz_Iadd (a b : Int) : zz_I a + zz_I b = zz_I (a + b) := (Int32.ofInt_add a b).symm
theorem zz_Isub (a b : Int) : zz_I a - zz_I b = zz_I (a - b) := (Int32.ofInt_sub a b).symm
theorem zz_Imul (a b : Int) : zz_I a * zz_I b = zz_I (a * b) := (Int32.ofInt_mul a b).symm
theorem zz_Ineg (a : Int) : -zz_I a = zz_I (-a) := (Int32.ofInt_neg a).symm
theorem zz_Ladd (a b : Int) : zz_L a + zz_L b = zz_L (a + b) := (Int64.ofInt_add a b).symm
theorem zz_Lsub (a b : Int) : zz_L a - zz_L b = zz_L (a - b) := (Int64.ofInt_sub a b).symm
theorem zz_Lmul (a b : Int) : zz_L a * zz_L b = zz_L (a * b) := (Int64.ofInt_mul a b).symm
theorem zz_Lneg (a : Int) : -zz_L a = zz_L (-a) := (Int64.ofInt_neg a).symm
theorem zz_I1 : (1 : Int32) = zz_I 1 := by decide
theorem zz_Im1 : (-1 : Int32) = zz_I (-1) := by decide
theorem zz_I0 : (0 : Int32) = zz_I 0 := by decide
theorem zz_Ip1 (a : Int) : zz_I a + 1 = zz_I (a + 1) := by rw [zz_I1, zz_Iadd]
theorem zz_Is1 (a : Int) : zz_I a - 1 = zz_I (a - 1) := by rw [zz_I1, zz_Isub]
theorem zz_Id1 (a : Int) : zz_I a + (-1) = zz_I (a - 1) := by rw [zz_Im1, zz_Iadd]; rfl
def zz_R (a : Int) : Prop := -2147483648 ≤ a ∧ a < 2147483648
def zz_RL (a : Int) : Prop := -9223372036854775808 ≤ a ∧ a < 9223372036854775808
theorem zz_ItI {a : Int} (h : zz_R a) : (zz_I a).toInt = a := by
  unfold zz_R at h
  exact Int32.toInt_ofInt_of_le (by omega) (by omega)
theorem zz_LtI {a : Int} (h : zz_RL a) : (zz_L a).toInt = a := by
  unfold zz_RL at h
  exact Int64.toInt_ofInt_of_le (by omega) (by omega)
theorem zz_Ile {a b : Int} (ha : zz_R a) (hb : zz_R b) : zz_I a ≤ zz_I b ↔ a ≤ b := by
  rw [Int32.le_iff_toInt_le, zz_ItI ha, zz_ItI hb]
theorem zz_Ilt {a b : Int} (ha : zz_R a) (hb : zz_R b) : zz_I a < zz_I b ↔ a < b := by
  rw [Int32.lt_iff_toInt_lt, zz_ItI ha, zz_ItI hb]
theorem zz_Ieq {a b : Int} (ha : zz_R a) (hb : zz_R b) : zz_I a = zz_I b ↔ a = b := by
  rw [← Int32.toInt_inj, zz_ItI ha, zz_ItI hb]
theorem zz_Lle {a b : Int} (ha : zz_RL a) (hb : zz_RL b) : zz_L a ≤ zz_L b ↔ a ≤ b := by
  rw [Int64.le_iff_toInt_le, zz_LtI ha, zz_LtI hb]
theorem zz_Llt {a b : Int} (ha : zz_RL a) (hb : zz_RL b) : zz_L a < zz_L b ↔ a < b := by
  rw [Int64.lt_iff_toInt_lt, zz_LtI ha, zz_LtI hb]
theorem zz_Leq {a b : Int} (ha : zz_RL a) (hb : zz_RL b) : zz_L a = zz_L b ↔ a = b := by
  rw [← Int64.toInt_inj, zz_LtI ha, zz_LtI hb]
theorem zz_IL {a : Int} (h : zz_R a) : (zz_I a).toInt64 = zz_L a := by
  apply Int64.toInt_inj.mp
  rw [Int32.toInt_toInt64, zz_ItI h, zz_LtI]
  unfold zz_R at h
  unfold zz_RL
  omega
theorem zz_LI (a : Int) : (zz_L a).toInt32 = zz_I a := Int64.toInt32_ofInt
theorem zz_Iof (x : Int32) : ∃ z : Int, zz_R z ∧ x = zz_I z :=
  ⟨x.toInt, ⟨by have := x.le_toInt; omega, by have := x.toInt_lt; omega⟩, (Int32.ofInt_toInt x).symm⟩
/-- branches by integers; ranges by omega -/
theorem zz_le {x y : Int32} {A B : Prop} (a b : Int) (f : a ≤ b → A) (g : b < a → B) (hx : x = zz_I a := by rfl) (hy : y = zz_I b := by rfl) (ha : -2147483648 ≤ a ∧ a < 2147483648 := by omega) (hb : -2147483648 ≤ b ∧ b < 2147483648 := by omega) : (x ≤ y → A) ∧ (¬ x ≤ y → B) := by
  subst hx hy
  rw [zz_Ile ha hb]
  exact ⟨f, fun z => g (by omega)⟩
theorem zz_lt {x y : Int32} {A B : Prop} (a b : Int) (f : a < b → A) (g : b ≤ a → B) (hx : x = zz_I a := by rfl) (hy : y = zz_I b := by rfl) (ha : -2147483648 ≤ a ∧ a < 2147483648 := by omega) (hb : -2147483648 ≤ b ∧ b < 2147483648 := by omega) : (x < y → A) ∧ (¬ x < y → B) := by
  subst hx hy
  rw [zz_Ilt ha hb]
  exact ⟨f, fun z => g (by omega)⟩
theorem zz_eq {x y : Int32} {A B : Prop} (a b : Int) (f : a = b → A) (g : a ≠ b → B) (hx : x = zz_I a := by rfl) (hy : y = zz_I b := by rfl) (ha : -2147483648 ≤ a ∧ a < 2147483648 := by omega) (hb : -2147483648 ≤ b ∧ b < 2147483648 := by omega) : (x = y → A) ∧ (¬ x = y → B) := by
  subst hx hy
  rw [zz_Ieq ha hb]
  exact ⟨f, g⟩
/-- branches of longs by naturals -/
theorem zz_lle {x y : Int64} {A B : Prop} (a b : Nat) (f : a ≤ b → A) (g : b < a → B) (hx : x = lN a := by rfl) (hy : y = lN b := by rfl) (ha : a < 9223372036854775808 := by omega) (hb : b < 9223372036854775808 := by omega) : (x ≤ y → A) ∧ (¬ x ≤ y → B) := by
  subst hx hy
  rw [pk_lLE ha hb]
  exact ⟨f, fun z => g (by omega)⟩
theorem zz_llt {x y : Int64} {A B : Prop} (a b : Nat) (f : a < b → A) (g : b ≤ a → B) (hx : x = lN a := by rfl) (hy : y = lN b := by rfl) (ha : a < 9223372036854775808 := by omega) (hb : b < 9223372036854775808 := by omega) : (x < y → A) ∧ (¬ x < y → B) := by
  subst hx hy
  rw [pk_lLT ha hb]
  exact ⟨f, fun z => g (by omega)⟩
theorem zz_leq {x y : Int64} {A B : Prop} (a b : Nat) (f : a = b → A) (g : a ≠ b → B) (hx : x = lN a := by rfl) (hy : y = lN b := by rfl) (ha : a < 9223372036854775808 := by omega) (hb : b < 9223372036854775808 := by omega) : (x = y → A) ∧ (¬ x = y → B) := by
  subst hx hy
  rw [pk_lEQ ha hb]
  exact ⟨f, g⟩
/-- booleans -/
theorem zz_nb {z : Nat} (h : z < 2) : narrow .boolean (.int (nI z)) = .int (nI z) := by
  rcases (show z = 0 ∨ z = 1 by omega) with rfl | rfl <;> rfl
theorem zz_fb {z : Nat} (h : z < 2) : fits .boolean (.int (nI z)) = true := by
  rcases (show z = 0 ∨ z = 1 by omega) with rfl | rfl <;> rfl
theorem zz_vb {z : Nat} (h : z < 2) : vp_nar .boolean (nI z) = nI z := by
  rcases (show z = 0 ∨ z = 1 by omega) with rfl | rfl <;> rfl
theorem zz_vby {z : Nat} (h : z < 4) : vp_nar .byte (nI z) = nI z := by
  rcases (show z = 0 ∨ z = 1 ∨ z = 2 ∨ z = 3 by omega) with rfl | rfl | rfl | rfl <;> rfl
theorem zz_vby' {z : Nat} (h : z < 4) : vp_nar .byte (nI z).toInt8.toInt32 = nI z := by
  rcases (show z = 0 ∨ z = 1 ∨ z = 2 ∨ z = 3 by omega) with rfl | rfl | rfl | rfl <;> rfl
/-! the formats -/
def fm_b (f : Nat) : Nat := if f < 2 then 2 else 10
def fm_p (f : Nat) : Nat := if f = 0 then 11 else if f = 1 then 24 else 7
def fm_l (f : Nat) : Int := if f = 0 then -24 else if f = 1 then -149 else -101
def fm_g (f : Nat) : Int := if f = 0 then 5 else if f = 1 then 104 else 90
def fm_P (b : Nat) : Nat := if b = 2 then 450 else 230
theorem fm_4 {P : Nat → Prop} (h0 : P 0) (h1 : P 1) (h2 : P 2) (h3 : P 3) {f : Nat} (h : f < 4) : P f := by
  rcases (show f = 0 ∨ f = 1 ∨ f = 2 ∨ f = 3 by omega) with rfl | rfl | rfl | rfl
  · exact h0
  · exact h1
  · exact h2
  · exact h3
theorem fm_b2 (f : Nat) : fm_b f = 2 ∨ fm_b f = 10 := by
  unfold fm_b
  by_cases h : f < 2
  · exact Or.inl (if_pos h)
  · exact Or.inr (if_neg h)
theorem fm_facts {f : Nat} (h : f < 4) : (fm_b f = 2 ∧ (fm_p f = 11 ∧ fm_l f = -24 ∧ fm_g f = 5 ∨ fm_p f = 24 ∧ fm_l f = -149 ∧ fm_g f = 104)) ∨ (fm_b f = 10 ∧ fm_p f = 7 ∧ fm_l f = -101 ∧ fm_g f = 90) := by
  rcases (show f = 0 ∨ f = 1 ∨ f = 2 ∨ f = 3 by omega) with rfl | rfl | rfl | rfl <;> simp [fm_b, fm_p, fm_l, fm_g]
theorem xw_baseOf {post : Int32 → Prop} {f : Nat} (hf : f < 4) (h : post (nI (fm_b f))) : wpX_baseOf post (nI f) := by
  rcases (show f = 0 ∨ f = 1 ∨ f = 2 ∨ f = 3 by omega) with rfl | rfl | rfl | rfl
  · exact br_f (by decide) h
  · exact br_f (by decide) h
  · exact br_t (by decide) h
  · exact br_t (by decide) h
theorem yw_base {post : Int32 → Prop} {f : Nat} (hf : f < 4) (h : post (nI (fm_b f))) : wpY_base post (nI f) := by
  rcases (show f = 0 ∨ f = 1 ∨ f = 2 ∨ f = 3 by omega) with rfl | rfl | rfl | rfl
  · exact br_f (by decide) h
  · exact br_f (by decide) h
  · exact br_t (by decide) h
  · exact br_t (by decide) h
theorem xw_precisionOf {post : Int32 → Prop} {f : Nat} (hf : f < 4) (h : post (nI (fm_p f))) : wpX_precisionOf post (nI f) := by
  rcases (show f = 0 ∨ f = 1 ∨ f = 2 ∨ f = 3 by omega) with rfl | rfl | rfl | rfl
  · exact br_t (by decide) h
  · exact br_f (by decide) (br_t (by decide) h)
  · exact br_f (by decide) (br_f (by decide) h)
  · exact br_f (by decide) (br_f (by decide) h)
theorem yw_precision {post : Int32 → Prop} {f : Nat} (hf : f < 4) (h : post (nI (fm_p f))) : wpY_precision post (nI f) := by
  rcases (show f = 0 ∨ f = 1 ∨ f = 2 ∨ f = 3 by omega) with rfl | rfl | rfl | rfl
  · exact br_t (by decide) h
  · exact br_f (by decide) (br_t (by decide) h)
  · exact br_f (by decide) (br_f (by decide) h)
  · exact br_f (by decide) (br_f (by decide) h)
theorem zz_c24 : zz_I (-24) = -24 := by decide
theorem zz_c149 : zz_I (-149) = -149 := by decide
theorem zz_c101 : zz_I (-101) = -101 := by decide
theorem zz_c5 : zz_I 5 = 5 := by decide
theorem zz_c104 : zz_I 104 = 104 := by decide
theorem zz_c90 : zz_I 90 = 90 := by decide
theorem fm_l0 : zz_I (fm_l 0) = -24 := by decide
theorem fm_l1 : zz_I (fm_l 1) = -149 := by decide
theorem fm_l2 : zz_I (fm_l 2) = -101 := by decide
theorem fm_l3 : zz_I (fm_l 3) = -101 := by decide
theorem fm_g0 : zz_I (fm_g 0) = 5 := by decide
theorem fm_g1 : zz_I (fm_g 1) = 104 := by decide
theorem fm_g2 : zz_I (fm_g 2) = 90 := by decide
theorem fm_g3 : zz_I (fm_g 3) = 90 := by decide
theorem xw_leastOf {post : Int32 → Prop} {f : Nat} (hf : f < 4) (h : post (zz_I (fm_l f))) : wpX_leastOf post (nI f) := by
  rcases (show f = 0 ∨ f = 1 ∨ f = 2 ∨ f = 3 by omega) with rfl | rfl | rfl | rfl
  · exact br_t (by decide) (fm_l0 ▸ h)
  · exact br_f (by decide) (br_t (by decide) (fm_l1 ▸ h))
  · exact br_f (by decide) (br_f (by decide) (fm_l2 ▸ h))
  · exact br_f (by decide) (br_f (by decide) (fm_l3 ▸ h))
theorem yw_least {post : Int32 → Prop} {f : Nat} (hf : f < 4) (h : post (zz_I (fm_l f))) : wpY_least post (nI f) := by
  rcases (show f = 0 ∨ f = 1 ∨ f = 2 ∨ f = 3 by omega) with rfl | rfl | rfl | rfl
  · exact br_t (by decide) (fm_l0 ▸ h)
  · exact br_f (by decide) (br_t (by decide) (fm_l1 ▸ h))
  · exact br_f (by decide) (br_f (by decide) (fm_l2 ▸ h))
  · exact br_f (by decide) (br_f (by decide) (fm_l3 ▸ h))
theorem xw_greatestOf {post : Int32 → Prop} {f : Nat} (hf : f < 4) (h : post (zz_I (fm_g f))) : wpX_greatestOf post (nI f) := by
  rcases (show f = 0 ∨ f = 1 ∨ f = 2 ∨ f = 3 by omega) with rfl | rfl | rfl | rfl
  · exact br_t (by decide) (fm_g0 ▸ h)
  · exact br_f (by decide) (br_t (by decide) (fm_g1 ▸ h))
  · exact br_f (by decide) (br_f (by decide) (fm_g2 ▸ h))
  · exact br_f (by decide) (br_f (by decide) (fm_g3 ▸ h))
theorem yw_greatest {post : Int32 → Prop} {f : Nat} (hf : f < 4) (h : post (zz_I (fm_g f))) : wpY_greatest post (nI f) := by
  rcases (show f = 0 ∨ f = 1 ∨ f = 2 ∨ f = 3 by omega) with rfl | rfl | rfl | rfl
  · exact br_t (by decide) (fm_g0 ▸ h)
  · exact br_f (by decide) (br_t (by decide) (fm_g1 ▸ h))
  · exact br_f (by decide) (br_f (by decide) (fm_g2 ▸ h))
  · exact br_f (by decide) (br_f (by decide) (fm_g3 ▸ h))
theorem yw_point {post : Int32 → Prop} {b : Nat} (hb : b = 2 ∨ b = 10) (h : post (nI (fm_P b))) : wpY_point post (nI b) := by
  rcases hb with rfl | rfl
  · exact br_t (by decide) h
  · exact br_f (by decide) h
theorem xw_isReg {post : Int32 → Prop} {r : Nat} (hr : r < 8) (h : post 1) : wpX_isRegister post (nI r) :=
  br_f (nI_pos (by omega)) (br_f (nI_ge (b := 8) hr (by decide)) h)
theorem yw_in {post : Int32 → Prop} {r n : Nat} (hr : r < n) (hn : n < 2147483648) (h : post 1) : wpY_in post (nI r) (nI n) :=
  br_f (nI_pos (by omega)) (br_f (nI_ge hr (by omega)) h)
theorem xw_isRegN {post : Int32 → Prop} {x : Int32} (hr : ¬ ∃ r : Nat, r < 8 ∧ x = nI r) (h : post 0) : wpX_isRegister post x := by
  rcases pk_ix x (n := 8) (by decide) with h0 | h8 | hj
  · exact br_t h0 h
  · exact br_c (fun _ => h) (fun _ => br_t h8 h)
  · exact absurd hj hr
theorem yw_inN {post : Int32 → Prop} {x : Int32} {n : Nat} (hn : n < 2147483648) (hr : ¬ ∃ r : Nat, r < n ∧ x = nI r) (h : post 0) : wpY_in post x (nI n) := by
  rcases pk_ix x (n := n) hn with h0 | h8 | hj
  · exact br_t h0 h
  · exact br_c (fun _ => h) (fun _ => br_t h8 h)
  · exact absurd hj hr
/-! the same, where both sides have their form already -/
theorem zz_leU {A B : Prop} {a b : Int} (f : a ≤ b → A) (g : b < a → B) (ha : -2147483648 ≤ a ∧ a < 2147483648 := by omega) (hb : -2147483648 ≤ b ∧ b < 2147483648 := by omega) : (zz_I a ≤ zz_I b → A) ∧ (¬ zz_I a ≤ zz_I b → B) := zz_le a b f g rfl rfl ha hb
theorem zz_ltU {A B : Prop} {a b : Int} (f : a < b → A) (g : b ≤ a → B) (ha : -2147483648 ≤ a ∧ a < 2147483648 := by omega) (hb : -2147483648 ≤ b ∧ b < 2147483648 := by omega) : (zz_I a < zz_I b → A) ∧ (¬ zz_I a < zz_I b → B) := zz_lt a b f g rfl rfl ha hb
theorem zz_eqU {A B : Prop} {a b : Int} (f : a = b → A) (g : a ≠ b → B) (ha : -2147483648 ≤ a ∧ a < 2147483648 := by omega) (hb : -2147483648 ≤ b ∧ b < 2147483648 := by omega) : (zz_I a = zz_I b → A) ∧ (¬ zz_I a = zz_I b → B) := zz_eq a b f g rfl rfl ha hb
theorem zz_lleU {A B : Prop} {a b : Nat} (f : a ≤ b → A) (g : b < a → B) (ha : a < 9223372036854775808 := by omega) (hb : b < 9223372036854775808 := by omega) : (lN a ≤ lN b → A) ∧ (¬ lN a ≤ lN b → B) := zz_lle a b f g rfl rfl ha hb
theorem zz_lltU {A B : Prop} {a b : Nat} (f : a < b → A) (g : b ≤ a → B) (ha : a < 9223372036854775808 := by omega) (hb : b < 9223372036854775808 := by omega) : (lN a < lN b → A) ∧ (¬ lN a < lN b → B) := zz_llt a b f g rfl rfl ha hb
theorem zz_leqU {A B : Prop} {a b : Nat} (f : a = b → A) (g : a ≠ b → B) (ha : a < 9223372036854775808 := by omega) (hb : b < 9223372036854775808 := by omega) : (lN a = lN b → A) ∧ (¬ lN a = lN b → B) := zz_leq a b f g rfl rfl ha hb
theorem zn_leU {A B : Prop} {a b : Nat} (f : a ≤ b → A) (g : b < a → B) (ha : a < 2147483648 := by omega) (hb : b < 2147483648 := by omega) : (nI a ≤ nI b → A) ∧ (¬ nI a ≤ nI b → B) := pk_le a b f g rfl rfl ha hb
theorem zn_ltU {A B : Prop} {a b : Nat} (f : a < b → A) (g : b ≤ a → B) (ha : a < 2147483648 := by omega) (hb : b < 2147483648 := by omega) : (nI a < nI b → A) ∧ (¬ nI a < nI b → B) := pk_lt a b f g rfl rfl ha hb
theorem zn_eqU {A B : Prop} {a b : Nat} (f : a = b → A) (g : a ≠ b → B) (ha : a < 2147483648 := by omega) (hb : b < 2147483648 := by omega) : (nI a = nI b → A) ∧ (¬ nI a = nI b → B) := pk_eq a b f g rfl rfl ha hb
end
section
/-! rounding, plain: a number A / (D * b^U); the unit of exponent e is rn_M D b U e -/
def rn_M (D b U : Nat) (e : Int) : Nat := D * b ^ (e + U).toNat
theorem rn_M_add {D b U : Nat} {e : Int} (h : 0 ≤ e + U) (k : Nat) : rn_M D b U (e + k) = rn_M D b U e * b ^ k := by
  unfold rn_M
  have h1 : (e + k + U).toNat = (e + U).toNat + k := by omega
  rw [h1, Nat.pow_add, Nat.mul_assoc]
theorem rn_M_1 {D b U : Nat} {e : Int} (h : 0 ≤ e + U) : rn_M D b U (e + 1) = rn_M D b U e * b := by
  have := rn_M_add (D := D) (b := b) h 1
  rw [Nat.pow_one] at this
  exact this
theorem rn_M_le {D b U : Nat} {e e' : Int} (h : 0 ≤ e + U) (hl : e ≤ e') : rn_M D b U e' = rn_M D b U e * b ^ (e' - e).toNat := by
  have h1 : e' = e + ((e' - e).toNat : Int) := by omega
  have h2 := rn_M_add (D := D) (b := b) h (e' - e).toNat
  rw [← h1] at h2
  exact h2
theorem rn_M_pos {D b U : Nat} {e : Int} (hD : 0 < D) (hb : 0 < b) : 0 < rn_M D b U e := Nat.mul_pos hD (Nat.pow_pos hb)
theorem rn_M_mono {D b U : Nat} {e e' : Int} (hb : 0 < b) (h : 0 ≤ e + U) (hl : e ≤ e') : rn_M D b U e ≤ rn_M D b U e' := by
  rw [rn_M_le h hl]
  exact Nat.le_mul_of_pos_right _ (Nat.pow_pos hb)
def rn_pt (A M : Nat) : Nat := if A % M = 0 then 0 else if 2 * (A % M) < M then 1 else if 2 * (A % M) = M then 2 else 3
theorem rn_pt_le (A M : Nat) : rn_pt A M ≤ 3 := by
  unfold rn_pt
  split
  · omega
  · split
    · omega
    · split <;> omega
theorem rn_pt_0 {A M : Nat} : rn_pt A M = 0 ↔ A % M = 0 := by
  unfold rn_pt
  constructor
  · intro h
    by_cases h0 : A % M = 0
    · exact h0
    · rw [if_neg h0] at h
      split at h
      · omega
      · split at h <;> omega
  · intro h
    rw [if_pos h]
/-- dropping by a factor 2 * h, out of a quotient and a rest -/
theorem rn_pt_drop {A M h : Nat} (hM : 0 < M) (hh : 0 < h) : rn_pt A (M * (2 * h)) = if h < A / M % (2 * h) ∨ (A / M % (2 * h) = h ∧ A % M ≠ 0) then 3 else if A / M % (2 * h) = h then 2 else if 0 < A / M % (2 * h) ∨ A % M ≠ 0 then 1 else 0 := by
  have e1 : A % (M * (2 * h)) = A % M + M * (A / M % (2 * h)) := Nat.mod_mul
  have hr : A % M < M := Nat.mod_lt _ hM
  have e2 : M * (2 * h) = 2 * (M * h) := Nat.mul_left_comm M 2 h
  unfold rn_pt
  rw [e1, e2]
  generalize A / M % (2 * h) = low
  generalize A % M = r at hr
  rcases Nat.lt_trichotomy low h with hl | hl | hl
  · have h1 : M * low + M ≤ M * h := by
      have := Nat.mul_le_mul_left M (show low + 1 ≤ h from hl)
      rw [Nat.mul_add, Nat.mul_one] at this
      exact this
    have n1 : ¬ (h < low ∨ (low = h ∧ r ≠ 0)) := by omega
    have n2 : ¬ low = h := by omega
    rw [if_neg n1, if_neg n2]
    by_cases hz : 0 < low ∨ r ≠ 0
    · rw [if_pos hz]
      have h3 : ¬ (r + M * low = 0) := by
        rcases hz with hz | hz
        · have := Nat.mul_pos hM hz
          omega
        · omega
      rw [if_neg h3, if_pos (by omega)]
    · have z1 : low = 0 := by omega
      have z2 : r = 0 := by omega
      subst z1 z2
      rw [if_neg hz, if_pos (by simp)]
  · subst hl
    have hp : 0 < M * low := Nat.mul_pos hM hh
    have h3 : ¬ (r + M * low = 0) := by omega
    rw [if_neg h3, if_neg (by omega)]
    by_cases hz : r = 0
    · have n1 : ¬ (low < low ∨ (low = low ∧ r ≠ 0)) := by omega
      rw [if_neg n1, if_pos (by omega), if_pos rfl]
    · have n1 : (low < low ∨ (low = low ∧ r ≠ 0)) := by omega
      rw [if_pos n1, if_neg (by omega)]
  · have h1 : M * h + M ≤ M * low := by
      have := Nat.mul_le_mul_left M (show h + 1 ≤ low from hl)
      rw [Nat.mul_add, Nat.mul_one] at this
      exact this
    rw [if_pos (Or.inl hl), if_neg (by omega), if_neg (by omega), if_neg (by omega)]
/-- far below the unit -/
theorem rn_pt_far {A M : Nat} (h : 2 * A < M) : rn_pt A M = if A = 0 then 0 else 1 := by
  have e : A % M = A := Nat.mod_eq_of_lt (by omega)
  unfold rn_pt
  rw [e]
  by_cases h0 : A = 0
  · rw [if_pos h0, if_pos h0]
  · rw [if_neg h0, if_neg h0, if_pos h]
def rn_up (m s part odd : Nat) : Nat :=
  if m = 0 then (if part = 3 ∨ (part = 2 ∧ odd = 1) then 1 else 0)
  else if m = 1 then (if 1 < part then 1 else 0)
  else if m = 2 then (if 0 < part ∧ s = 0 then 1 else 0)
  else if m = 3 then (if 0 < part ∧ ¬ s = 0 then 1 else 0)
  else 0
theorem rn_up_le (m s part odd : Nat) : rn_up m s part odd ≤ 1 := by
  unfold rn_up
  split
  · split <;> omega
  · split
    · split <;> omega
    · split
      · split <;> omega
      · split
        · split <;> omega
        · omega
theorem rn_up_0 (m s odd : Nat) : rn_up m s 0 odd = 0 := by
  unfold rn_up
  simp
def rn_r (m s A M : Nat) : Nat := A / M + rn_up m s (rn_pt A M) (A / M % 2)
theorem rn_r_ex {m s A M : Nat} (h : rn_pt A M = 0) : rn_r m s A M = A / M := by
  unfold rn_r
  rw [h, rn_up_0]
  rfl
/-- the place of the highest digit -/
def rn_T (A D b U : Nat) (t : Int) : Prop := 0 ≤ t + U ∧ rn_M D b U t ≤ A ∧ A < rn_M D b U (t + 1)
theorem rn_T_uniq {A D b U : Nat} {t t' : Int} (hb : 0 < b) (h : rn_T A D b U t) (h' : rn_T A D b U t') : t = t' := by
  obtain ⟨h1, h2, h3⟩ := h
  obtain ⟨g1, g2, g3⟩ := h'
  rcases Int.lt_trichotomy t t' with hl | hl | hl
  · have := rn_M_mono (D := D) (b := b) (U := U) (e := t + 1) (e' := t') hb (by omega) (by omega)
    omega
  · exact hl
  · have := rn_M_mono (D := D) (b := b) (U := U) (e := t' + 1) (e' := t) hb (by omega) (by omega)
    omega
theorem rn_div_le {A D b U : Nat} {e : Int} {v : Nat} (hM : 0 < rn_M D b U e) (hv : v = A / rn_M D b U e) : rn_M D b U e * v ≤ A ∧ A < rn_M D b U e * (v + 1) := by
  subst hv
  exact ⟨Nat.mul_div_le _ _, Nat.lt_mul_div_succ _ hM⟩
/-- out of the digits of a quotient -/
theorem rn_T_of {A D b U : Nat} {e : Int} {v n : Nat} (hD : 0 < D) (hb : 0 < b) (he : 0 ≤ e + U) (hv : v = A / rn_M D b U e) (h1 : b ^ n ≤ v) (h2 : v < b ^ (n + 1)) : rn_T A D b U (e + n) := by
  have hM : 0 < rn_M D b U e := rn_M_pos hD hb
  obtain ⟨g1, g2⟩ := rn_div_le hM hv
  refine ⟨by omega, ?_, ?_⟩
  · rw [rn_M_add he]
    exact Nat.le_trans (Nat.mul_le_mul_left _ h1) g1
  · have e1 : e + (n : Int) + 1 = e + ((n + 1 : Nat) : Int) := by omega
    rw [e1, rn_M_add he]
    exact Nat.lt_of_lt_of_le g2 (Nat.mul_le_mul_left _ h2)
theorem rn_div_up {A D b U : Nat} {e e' : Int} (he : 0 ≤ e + U) (hl : e ≤ e') : A / rn_M D b U e' = A / rn_M D b U e / b ^ (e' - e).toNat := by
  rw [rn_M_le he hl, Nat.div_div_eq_div_mul]
theorem rn_mod_up {A D b U : Nat} {e e' : Int} (he : 0 ≤ e + U) (hl : e ≤ e') (h : ¬ A % rn_M D b U e = 0) : ¬ A % rn_M D b U e' = 0 := by
  rw [rn_M_le he hl, Nat.mod_mul]
  omega
/-- with nothing behind, a finer unit is a multiple -/
theorem rn_fine {A D b U : Nat} {e e' : Int} (hD : 0 < D) (hb : 0 < b) (he : 0 ≤ e' + U) (hl : e' ≤ e) (h : A % rn_M D b U e = 0) : A / rn_M D b U e' = A / rn_M D b U e * b ^ (e - e').toNat ∧ A % rn_M D b U e' = 0 := by
  have hM : 0 < rn_M D b U e' := rn_M_pos hD hb
  have e1 := rn_M_le (D := D) (b := b) he hl
  have e2 : A = rn_M D b U e' * (A / rn_M D b U e * b ^ (e - e').toNat) := by
    have := Nat.div_add_mod A (rn_M D b U e)
    rw [h, Nat.add_zero] at this
    conv => lhs; rw [← this]
    conv => lhs; lhs; rw [e1]
    rw [Nat.mul_assoc, Nat.mul_comm (b ^ (e - e').toNat)]
  constructor
  · conv => lhs; rw [e2]
    exact Nat.mul_div_cancel_left _ hM
  · rw [e2]
    exact Nat.mul_mod_right _ _
/-- by one digit of an even base -/
theorem rn_pt_dig {A M h : Nat} (hM : 0 < M) (hh : 0 < h) : rn_pt A (M * (2 * h)) = if A / M % (2 * h) < h then (if 0 < A / M % (2 * h) ∨ A % M ≠ 0 then 1 else 0) else if A / M % (2 * h) = h ∧ A % M = 0 then 2 else 3 := by
  rw [rn_pt_drop hM hh]
  generalize A / M % (2 * h) = low
  generalize A % M = r
  rcases Nat.lt_trichotomy low h with hl | hl | hl
  · rw [if_neg (by omega), if_neg (by omega), if_pos hl]
  · by_cases hz : r = 0
    · rw [if_neg (by omega), if_pos hl, if_neg (by omega), if_pos ⟨hl, hz⟩]
    · rw [if_pos (by omega), if_neg (by omega), if_neg (by omega)]
  · rw [if_pos (by omega), if_neg (by omega), if_neg (by omega)]
/-! the outcome of a rounding -/
def rn_q (f : Nat) (t : Int) : Int := if t + 1 - (fm_p f : Int) < fm_l f then fm_l f else t + 1 - (fm_p f : Int)
def rn_tiny (f m s A D U : Nat) (t : Int) : Prop := t < fm_l f + (fm_p f : Int) - 1 ∧ (fm_b f = 10 ∨ t < fm_l f + (fm_p f : Int) - 2 ∨ rn_r m s A (rn_M D (fm_b f) U (t + 1 - (fm_p f : Int))) < fm_b f ^ fm_p f)
def rn_st : Nat → Nat → Nat
  | 0, _ => 0
  | k + 1, c => if c % 10 = 0 then rn_st k (c / 10) + 1 else 0
theorem rn_st_0 (c : Nat) : rn_st 0 c = 0 := rfl
theorem rn_st_t {k c : Nat} (h : c % 10 = 0) : rn_st (k + 1) c = rn_st k (c / 10) + 1 := if_pos h
theorem rn_st_f {k c : Nat} (h : ¬ c % 10 = 0) : rn_st (k + 1) c = 0 := if_neg h
theorem rn_st_le : ∀ k c : Nat, rn_st k c ≤ k := by
  intro k
  induction k with
  | zero => intro c; exact Nat.le_refl _
  | succ k ih =>
    intro c
    by_cases h : c % 10 = 0
    · rw [rn_st_t h]
      have := ih (c / 10)
      omega
    · rw [rn_st_f h]
      omega
/-- the coefficient and exponent behind a carry -/
def rn_c1 (f m s A D U : Nat) (q : Int) : Nat := if rn_r m s A (rn_M D (fm_b f) U q) = fm_b f ^ fm_p f then fm_b f ^ fm_p f / fm_b f else rn_r m s A (rn_M D (fm_b f) U q)
def rn_q1 (f m s A D U : Nat) (q : Int) : Int := if rn_r m s A (rn_M D (fm_b f) U q) = fm_b f ^ fm_p f then q + 1 else q
def rn_to (f : Nat) (w : Int) : Int := if w < fm_l f then fm_l f else if fm_g f < w then fm_g f else w
/-- steps of the wish -/
def rn_k (f : Nat) (q w : Int) (c : Nat) : Nat := if fm_b f = 10 then rn_st (rn_to f w - q).toNat c else 0
def rn_tB (f m s A D U : Nat) (t : Int) : Bool := decide (t < fm_l f + (fm_p f : Int) - 1) && (decide (fm_b f = 10) || decide (t < fm_l f + (fm_p f : Int) - 2) || decide (rn_r m s A (rn_M D (fm_b f) U (t + 1 - (fm_p f : Int))) < fm_b f ^ fm_p f))
/-- a rounded number has at most one unit more than its digits -/
theorem rn_r_le {m s A D b U p : Nat} {t q : Int} (hb : 0 < b) (hT : rn_T A D b U t) (hU : 0 ≤ t + 1 - p + U) (hq : t + 1 - p ≤ q) : rn_r m s A (rn_M D b U q) ≤ b ^ p := by
  have h1 : A < rn_M D b U (t + 1) := hT.2.2
  have e1 := rn_M_add (D := D) (b := b) (U := U) (e := t + 1 - p) hU p
  have e2 : t + 1 - (p : Int) + p = t + 1 := by omega
  rw [e2] at e1
  have h2 := rn_M_mono (D := D) (b := b) (U := U) hb hU hq
  have h3 : A < b ^ p * rn_M D b U q := by
    have h4 := Nat.mul_le_mul_right (b ^ p) h2
    rw [Nat.mul_comm (b ^ p)]
    omega
  have h5 : 0 < rn_M D b U q := by
    rcases Nat.eq_zero_or_pos (rn_M D b U q) with h | h
    · rw [h] at h3
      omega
    · exact h
  have h6 : A / rn_M D b U q < b ^ p := (Nat.div_lt_iff_lt_mul h5).mpr h3
  have h7 := rn_up_le m s (rn_pt A (rn_M D b U q)) (A / rn_M D b U q % 2)
  unfold rn_r
  omega
theorem rn_q_ge (f : Nat) (t : Int) : t + 1 - (fm_p f : Int) ≤ rn_q f t ∧ fm_l f ≤ rn_q f t ∧ (rn_q f t = fm_l f ∨ rn_q f t = t + 1 - (fm_p f : Int)) := by
  unfold rn_q
  split <;> omega
theorem rn_c1_lt {f m s A D U : Nat} {t q : Int} (hf : f < 4) (hT : rn_T A D (fm_b f) U t) (hU : 0 ≤ t + 1 - (fm_p f : Int) + U) (hq : t + 1 - (fm_p f : Int) ≤ q) : rn_c1 f m s A D U q < fm_b f ^ fm_p f := by
  have hb := fm_b2 f
  have h := rn_r_le (m := m) (s := s) (b := fm_b f) (p := fm_p f) (by omega) hT hU hq
  have hp : 0 < fm_b f ^ fm_p f := Nat.pow_pos (by omega)
  unfold rn_c1
  by_cases e : rn_r m s A (rn_M D (fm_b f) U q) = fm_b f ^ fm_p f
  · rw [if_pos e]
    exact Nat.div_lt_self hp (by omega)
  · rw [if_neg e]
    omega
end
section
/-! digits of numbers to a base: N / b^k % b -/
theorem dg_split (N B b : Nat) : N % (B * b) = N % B + B * (N / B % b) := Nat.mod_mul
/-- addition with carry -/
def dg_cy (b N1 N2 k : Nat) : Nat := (N1 % b ^ k + N2 % b ^ k) / b ^ k
theorem dg_cy0 (b N1 N2 : Nat) : dg_cy b N1 N2 0 = 0 := by
  unfold dg_cy
  rw [Nat.pow_zero, Nat.mod_one, Nat.mod_one]
theorem dg_cy_le {b : Nat} (hb : 0 < b) (N1 N2 k : Nat) : dg_cy b N1 N2 k ≤ 1 := by
  unfold dg_cy
  have hB : 0 < b ^ k := Nat.pow_pos hb
  have h1 : N1 % b ^ k < b ^ k := Nat.mod_lt _ hB
  have h2 : N2 % b ^ k < b ^ k := Nat.mod_lt _ hB
  have h3 : (N1 % b ^ k + N2 % b ^ k) / b ^ k < 2 := by
    rw [Nat.div_lt_iff_lt_mul hB]
    omega
  omega
theorem dg_add_eq {b : Nat} (hb : 0 < b) (N1 N2 k : Nat) : N1 / b ^ k % b + N2 / b ^ k % b + dg_cy b N1 N2 k = (N1 % b ^ (k + 1) + N2 % b ^ (k + 1)) / b ^ k := by
  have hB : 0 < b ^ k := Nat.pow_pos hb
  rw [Nat.pow_succ, dg_split, dg_split]
  have e : N1 % b ^ k + b ^ k * (N1 / b ^ k % b) + (N2 % b ^ k + b ^ k * (N2 / b ^ k % b)) = N1 % b ^ k + N2 % b ^ k + b ^ k * (N1 / b ^ k % b + N2 / b ^ k % b) := by
    rw [Nat.mul_add]
    omega
  rw [e, Nat.add_mul_div_left _ _ hB]
  unfold dg_cy
  omega
theorem dg_add_div {b : Nat} (hb : 0 < b) (N1 N2 k : Nat) : (N1 / b ^ k % b + N2 / b ^ k % b + dg_cy b N1 N2 k) / b = dg_cy b N1 N2 (k + 1) := by
  rw [dg_add_eq hb, Nat.div_div_eq_div_mul]
  rfl
theorem dg_add_mod {b : Nat} (hb : 0 < b) (N1 N2 k : Nat) : (N1 / b ^ k % b + N2 / b ^ k % b + dg_cy b N1 N2 k) % b = (N1 + N2) / b ^ k % b := by
  have hB : 0 < b ^ k := Nat.pow_pos hb
  rw [dg_add_eq hb]
  have e1 := Nat.mod_add_div N1 (b ^ (k + 1))
  have e2 := Nat.mod_add_div N2 (b ^ (k + 1))
  have e : N1 + N2 = N1 % b ^ (k + 1) + N2 % b ^ (k + 1) + b ^ k * (b * (N1 / b ^ (k + 1) + N2 / b ^ (k + 1))) := by
    have e3 : b ^ k * (b * (N1 / b ^ (k + 1) + N2 / b ^ (k + 1))) = b ^ (k + 1) * (N1 / b ^ (k + 1)) + b ^ (k + 1) * (N2 / b ^ (k + 1)) := by
      rw [← Nat.mul_assoc, ← Nat.pow_succ, Nat.mul_add]
    omega
  conv => rhs; rw [e]
  rw [Nat.add_mul_div_left _ _ hB, Nat.add_mul_mod_self_left]
/-- multiplication by a small number -/
def dg_my (b N y k : Nat) : Nat := N % b ^ k * y / b ^ k
theorem dg_my0 (b N y : Nat) : dg_my b N y 0 = 0 := by
  unfold dg_my
  rw [Nat.pow_zero, Nat.mod_one, Nat.zero_mul]
theorem dg_my_lt {b y : Nat} (hb : 0 < b) (hy : 0 < y) (N k : Nat) : dg_my b N y k < y := by
  unfold dg_my
  have hB : 0 < b ^ k := Nat.pow_pos hb
  have h1 : N % b ^ k < b ^ k := Nat.mod_lt _ hB
  rw [Nat.div_lt_iff_lt_mul hB, Nat.mul_comm y]
  exact Nat.mul_lt_mul_of_pos_right h1 hy
theorem dg_mul_eq {b : Nat} (hb : 0 < b) (N y k : Nat) : N / b ^ k % b * y + dg_my b N y k = N % b ^ (k + 1) * y / b ^ k := by
  have hB : 0 < b ^ k := Nat.pow_pos hb
  rw [Nat.pow_succ, dg_split]
  have e : (N % b ^ k + b ^ k * (N / b ^ k % b)) * y = N % b ^ k * y + b ^ k * (N / b ^ k % b * y) := by
    rw [Nat.add_mul, Nat.mul_assoc]
  rw [e, Nat.add_mul_div_left _ _ hB]
  unfold dg_my
  omega
theorem dg_mul_div {b : Nat} (hb : 0 < b) (N y k : Nat) : (N / b ^ k % b * y + dg_my b N y k) / b = dg_my b N y (k + 1) := by
  rw [dg_mul_eq hb, Nat.div_div_eq_div_mul]
  rfl
theorem dg_mul_mod {b : Nat} (hb : 0 < b) (N y k : Nat) : (N / b ^ k % b * y + dg_my b N y k) % b = N * y / b ^ k % b := by
  have hB : 0 < b ^ k := Nat.pow_pos hb
  rw [dg_mul_eq hb]
  have e1 := Nat.mod_add_div N (b ^ (k + 1))
  have e : N * y = N % b ^ (k + 1) * y + b ^ k * (b * (N / b ^ (k + 1) * y)) := by
    conv => lhs; rw [← e1]
    rw [Nat.add_mul, ← Nat.mul_assoc (b ^ k), ← Nat.pow_succ, Nat.mul_assoc]
  conv => rhs; rw [e]
  rw [Nat.add_mul_div_left _ _ hB, Nat.add_mul_mod_self_left]
/-- division by a small number, from the top -/
theorem dg_over_step {b y : Nat} (hb : 0 < b) (hy : 0 < y) (N k : Nat) :
    (N / b ^ (k + 1) % y * b + N / b ^ k % b) / y = N / y / b ^ k % b ∧ (N / b ^ (k + 1) % y * b + N / b ^ k % b) % y = N / b ^ k % y := by
  have e0 : N / b ^ (k + 1) = N / b ^ k / b := by rw [Nat.pow_succ, Nat.div_div_eq_div_mul]
  rw [e0]
  have e1 : N / y / b ^ k = N / b ^ k / y := by rw [Nat.div_div_eq_div_mul, Nat.div_div_eq_div_mul, Nat.mul_comm]
  rw [e1]
  generalize N / b ^ k = n
  have h1 := Nat.mod_add_div n b
  have h2 := Nat.mod_add_div (n / b) y
  have e2 : n = n / b % y * b + n % b + y * (b * (n / b / y)) := by
    have e3 : b * (n / b) = n / b % y * b + y * (b * (n / b / y)) := by
      conv => lhs; rw [← h2]
      rw [Nat.mul_add, Nat.mul_comm b (n / b % y), Nat.mul_left_comm]
    omega
  have hlt : n / b % y * b + n % b < y * b := by
    have l1 : n / b % y < y := Nat.mod_lt _ hy
    have l2 : n % b < b := Nat.mod_lt _ hb
    have l3 : (n / b % y + 1) * b ≤ y * b := Nat.mul_le_mul_right b l1
    rw [Nat.add_mul, Nat.one_mul] at l3
    omega
  constructor
  · conv => rhs; rw [e2]
    rw [Nat.add_mul_div_left _ _ hy, Nat.add_mul_mod_self_left]
    exact (Nat.mod_eq_of_lt (Nat.div_lt_of_lt_mul hlt)).symm
  · conv => rhs; rw [e2]
    rw [Nat.add_mul_mod_self_left]
theorem dg_step (N b k : Nat) : N / b ^ k = b * (N / b ^ (k + 1)) + N / b ^ k % b := by
  rw [Nat.pow_succ, ← Nat.div_div_eq_div_mul]
  exact (Nat.div_add_mod _ _).symm
theorem dg_modS (N b k : Nat) : N % b ^ (k + 1) = N % b ^ k + b ^ k * (N / b ^ k % b) := by
  rw [Nat.pow_succ, dg_split]
/-- a number laid at a place -/
theorem dg_lay_lo {b c j k : Nat} (hb : 0 < b) (h : k < j) : c * b ^ j / b ^ k % b = 0 := by
  have e : c * b ^ j = b ^ k * (b * (c * b ^ (j - k - 1))) := by
    have e1 : b ^ j = b ^ k * (b * b ^ (j - k - 1)) := by
      rw [← Nat.pow_succ', ← Nat.pow_add]
      congr 1
      omega
    rw [e1, Nat.mul_left_comm, Nat.mul_left_comm c b]
  rw [e, Nat.mul_div_cancel_left _ (Nat.pow_pos hb), Nat.mul_mod_right]
theorem dg_lay_hi {b c j k : Nat} (hb : 0 < b) (h : j ≤ k) : c * b ^ j / b ^ k % b = c / b ^ (k - j) % b := by
  have e1 : b ^ k = b ^ j * b ^ (k - j) := by
    rw [← Nat.pow_add]
    congr 1
    omega
  rw [e1, ← Nat.div_div_eq_div_mul, Nat.mul_div_cancel _ (Nat.pow_pos hb)]
theorem dg_zero_hi {b c k i : Nat} (hb : 0 < b) (h : c / b ^ i = 0) (hk : i ≤ k) : c / b ^ k % b = 0 := by
  have e1 : b ^ k = b ^ i * b ^ (k - i) := by
    rw [← Nat.pow_add]
    congr 1
    omega
  rw [e1, ← Nat.div_div_eq_div_mul, h, Nat.zero_div, Nat.zero_mod]
theorem dg_lt_of_div {b N k : Nat} (hb : 0 < b) (h : N / b ^ k = 0) : N < b ^ k := by
  have hB : 0 < b ^ k := Nat.pow_pos hb
  rcases Nat.lt_or_ge N (b ^ k) with h1 | h1
  · exact h1
  · have := Nat.div_pos h1 hB
    omega
theorem dg_pow_le {b i j : Nat} (hb : 0 < b) (h : i ≤ j) : b ^ i ≤ b ^ j := Nat.pow_le_pow_right hb h
/-- numbers of digits -/
def dg_n (b v n : Nat) : Prop := v < b ^ n ∧ (n = 0 ∨ b ^ (n - 1) ≤ v)
theorem dg_n0 {b v n : Nat} (hb : 0 < b) (h : dg_n b v n) : v = 0 ↔ n = 0 := by
  constructor
  · intro hv
    rcases h.2 with h1 | h1
    · exact h1
    · have : 0 < b ^ (n - 1) := Nat.pow_pos hb
      omega
  · intro hn
    subst hn
    have := h.1
    rw [Nat.pow_zero] at this
    omega
theorem dg_ex {b : Nat} (hb : 2 ≤ b) : ∀ v : Nat, ∃ n, dg_n b v n ∧ n ≤ v := by
  intro v
  induction v using Nat.strongRecOn with
  | _ v ih =>
    by_cases hv : v = 0
    · subst hv
      exact ⟨0, ⟨by rw [Nat.pow_zero]; omega, Or.inl rfl⟩, Nat.le_refl _⟩
    · have hlt : v / b < v := Nat.div_lt_self (by omega) (by omega)
      obtain ⟨n, ⟨h1, h2⟩, h3⟩ := ih (v / b) hlt
      refine ⟨n + 1, ⟨?_, Or.inr ?_⟩, by omega⟩
      · rw [Nat.pow_succ]
        exact (Nat.div_lt_iff_lt_mul (by omega)).mp h1
      · rw [Nat.add_sub_cancel]
        rcases h2 with h2 | h2
        · subst h2
          rw [Nat.pow_zero]
          omega
        · by_cases hn : n = 0
          · subst hn
            rw [Nat.pow_zero]
            omega
          · have e : b ^ n = b ^ (n - 1) * b := by
              rw [← Nat.pow_succ]
              congr 1
              omega
            rw [e]
            exact (Nat.le_div_iff_mul_le (by omega)).mp h2
theorem dg_n_div {b v n : Nat} (hb : 2 ≤ b) (hv : 0 < v) (h : dg_n b v n) : ∃ m, n = m + 1 ∧ dg_n b (v / b) m := by
  have hn : n ≠ 0 := fun e => by
    have := (dg_n0 (by omega) h).mpr e
    omega
  obtain ⟨m, rfl⟩ : ∃ m, n = m + 1 := ⟨n - 1, by omega⟩
  refine ⟨m, rfl, ?_, ?_⟩
  · rw [Nat.div_lt_iff_lt_mul (by omega), ← Nat.pow_succ]
    exact h.1
  · by_cases hm : m = 0
    · exact Or.inl hm
    · right
      have h2 : b ^ m ≤ v := by
        rcases h.2 with h2 | h2
        · omega
        · exact h2
      rw [Nat.le_div_iff_mul_le (by omega), ← Nat.pow_succ]
      have e : (m - 1).succ = m := by omega
      rw [e]
      exact h2
theorem dg_n_le {b v n k : Nat} (hb : 2 ≤ b) (h : dg_n b v n) (hv : v < b ^ k) : n ≤ k := by
  rcases h.2 with h2 | h2
  · omega
  · rcases Nat.lt_or_ge k n with h3 | h3
    · have := dg_pow_le (b := b) (by omega) (show k ≤ n - 1 by omega)
      omega
    · exact h3
theorem dg_n_ge {b v n k : Nat} (hb : 2 ≤ b) (h : dg_n b v n) (hv : b ^ k ≤ v) : k < n := by
  rcases Nat.lt_or_ge k n with h3 | h3
  · exact h3
  · have := dg_pow_le (b := b) (by omega) h3
    have := h.1
    omega
theorem dg_n_uniq {b v n m : Nat} (hb : 2 ≤ b) (h : dg_n b v n) (g : dg_n b v m) : n = m :=
  Nat.le_antisymm (dg_n_le hb h g.1) (dg_n_le hb g h.1)
end
section
/-! the reference's rows of digits -/
def yr_R (b : Nat) (row : Nat → Int32) (o N : Nat) : Prop := ∀ k, k < 800 → row (o + k) = nI (N / b ^ k % b)
theorem yr_fuel {n m : Nat} (h : m < n) : ∃ n', n = n' + 1 := ⟨n - 1, by omega⟩
theorem yr_dm (n : Nat) : zz_I (((n + 1 : Nat) : Int) - 1) = nI n := by
  rw [zz_nI]
  congr 1
  omega
theorem yr_dm1 (n : Nat) : nI n + (-1) = zz_I ((n : Int) - 1) := by
  rw [zz_nI, zz_Id1]
theorem yr_d0 : zz_I (((0 : Nat) : Int) - 1) < 0 := by decide
theorem yr_dlt {b x : Nat} (hb : b = 2 ∨ b = 10) : x % b < 10 ∧ x % b < b := by
  rcases hb with rfl | rfl <;> omega
theorem yr_b {b : Nat} (hb : b = 2 ∨ b = 10) : 0 < b ∧ 2 ≤ b ∧ b ≤ 10 ∧ b < 2147483648 := by
  rcases hb with rfl | rfl <;> omega
theorem yr_n0 {b : Nat} (hb : b = 2 ∨ b = 10) : ¬ (nI b).toInt64 = 0 := by
  rcases hb with rfl | rfl <;> decide
theorem yr_n0' {b : Nat} (hb : b = 2 ∨ b = 10) : ¬ nI b = 0 := by
  rcases hb with rfl | rfl <;> decide
section
variable {f_attribute : Int32} {f_raised : Int32} {f_trapped : Int32} {f_more : Int32} {f_made : Int32} {a_format : Nat → Int32} {a_pattern : Nat → Int32} {a_kind : Nat → Int32} {a_exponent : Nat → Int32} {a_coefficient : Nat → Int64} {a_minus : Nat → Int32} {a_row : Nat → Int32} {post : SY → Prop}
theorem yr_clear_lp : ∀ m k : Nat, k + m = 1600 → ∀ n, m < n → ∀ row : Nat → Int32, (∀ j, j < k → row j = 0) → (∀ row' : Nat → Int32, (∀ j, j < 1600 → row' j = 0) → post (f_attribute, f_raised, f_trapped, 0, f_made, a_format, a_pattern, a_kind, a_exponent, a_coefficient, a_minus, row')) → wY_clear_2 post f_attribute f_raised f_trapped f_more f_made n (nI k) a_format a_pattern a_kind a_exponent a_coefficient a_minus row := by
  intro m
  induction m with
  | zero =>
    intro k hk n hn row hr H
    obtain ⟨n, rfl⟩ := yr_fuel hn
    have hk' : k = 1600 := by omega
    subst hk'
    exact br_t (by decide) (H row hr)
  | succ m ih =>
    intro k hk n hn row hr H
    obtain ⟨n, rfl⟩ := yr_fuel hn
    refine br_f (nI_ge (b := 1600) (by omega) (by decide)) ⟨vp_in_nI (by omega) (by decide), nm_e (nm_r (nI_1 k) ?_)⟩
    refine ih (k + 1) (by omega) n (by omega) _ ?_ H
    intro j hj
    rw [nI_clamp (by omega)]
    by_cases h : j = k
    · subst h
      exact pk_us
    · rw [pk_un h]
      exact hr j (by omega)
theorem yw_clear (H : ∀ row' : Nat → Int32, (∀ j, j < 1600 → row' j = 0) → post (f_attribute, f_raised, f_trapped, 0, f_made, a_format, a_pattern, a_kind, a_exponent, a_coefficient, a_minus, row')) : wpY_clear post (f_attribute, f_raised, f_trapped, f_more, f_made, a_format, a_pattern, a_kind, a_exponent, a_coefficient, a_minus, a_row) := by
  refine ⟨1601, ?_⟩
  exact yr_clear_lp 1600 0 (by omega) 1601 (by omega) a_row (fun j hj => absurd hj (by omega)) H
theorem yr_lay_lp {b o c j : Nat} (hb : b = 2 ∨ b = 10) (ho : o ≤ 800) (hc : c < 9223372036854775808) (row0 : Nat → Int32) (H : ∀ row' : Nat → Int32, yr_R b row' o (c * b ^ j) → (∀ k, (k < o ∨ o + 800 ≤ k) → row' k = row0 k) → post (f_attribute, f_raised, f_trapped, f_more, f_made, a_format, a_pattern, a_kind, a_exponent, a_coefficient, a_minus, row')) : ∀ m i : Nat, dg_n b (c / b ^ i) m → j + i + m ≤ 800 → ∀ n, m < n → ∀ row : Nat → Int32, (∀ k, k < 800 → row (o + k) = nI (if j ≤ k ∧ k < j + i then c / b ^ (k - j) % b else 0)) → (∀ k, (k < o ∨ o + 800 ≤ k) → row k = row0 k) → wY_lay_14 post (nI b) f_attribute f_raised f_trapped f_more f_made n (lN (c / b ^ i)) (nI (o + j + i)) a_format a_pattern a_kind a_exponent a_coefficient a_minus row := by
  obtain ⟨b0, b2, b10, bb⟩ := yr_b hb
  intro m
  induction m with
  | zero =>
    intro i hd hle n hn row hr hu
    obtain ⟨n, rfl⟩ := yr_fuel hn
    have hz : c / b ^ i = 0 := (dg_n0 b0 hd).mpr rfl
    have hz' : lN (c / b ^ i) ≤ 0 := by rw [hz]; decide
    refine br_t hz' (H row ?_ hu)
    intro k hk
    rw [hr k hk]
    congr 1
    by_cases hjk : j ≤ k
    · rw [dg_lay_hi b0 hjk]
      by_cases h2 : k < j + i
      · rw [if_pos ⟨hjk, h2⟩]
      · rw [if_neg (fun h => h2 h.2), dg_zero_hi b0 hz (by omega)]
    · rw [if_neg (fun h => hjk h.1), dg_lay_lo b0 (by omega)]
  | succ m ih =>
    intro i hd hle n hn row hr hu
    obtain ⟨n, rfl⟩ := yr_fuel hn
    have hL : c / b ^ i < 9223372036854775808 := Nat.lt_of_le_of_lt (Nat.div_le_self _ _) hc
    have hpos : 0 < c / b ^ i := by
      rcases Nat.eq_zero_or_pos (c / b ^ i) with h | h
      · have := (dg_n0 b0 hd).mp h
        omega
      · exact h
    obtain ⟨m', e, hd'⟩ := dg_n_div b2 hpos hd
    have e' : m' = m := by omega
    subst e'
    have e2 : c / b ^ i / b = c / b ^ (i + 1) := by rw [Nat.div_div_eq_div_mul, Nat.pow_succ]
    have hnz : ¬ lN (c / b ^ i) ≤ 0 := by
      rw [show (0 : Int64) = lN 0 from rfl, pk_lLE hL (by decide)]
      omega
    have ebl : (nI b).toInt64 = lN b := nI_l bb
    refine br_f hnz ⟨yr_n0 hb, vp_in_nI (by omega) (by decide), nm_e ⟨yr_n0 hb, nm_r (e' := lN (c / b ^ (i + 1))) ?_ (nm_r (nI_1 (o + j + i)) ?_)⟩⟩
    · rw [ebl, pk_lDiv hL b0 (by omega), e2]
    · have e3 : o + j + i + 1 = o + j + (i + 1) := by omega
      rw [e3]
      rw [e2] at hd'
      refine ih (i + 1) hd' (by omega) n (by omega) _ ?_ ?_
      · intro k hk
        rw [nI_clamp (by omega), ebl, pk_lRem hL b0 (by omega), lN_i]
        by_cases h : k = j + i
        · subst h
          rw [if_pos ⟨by omega, by omega⟩]
          have e4 : o + (j + i) = o + j + i := by omega
          rw [e4, pk_us, show j + i - j = i by omega]
        · rw [pk_un (by omega), hr k hk]
          congr 1
          by_cases h3 : j ≤ k ∧ k < j + i
          · rw [if_pos h3, if_pos ⟨h3.1, by omega⟩]
          · rw [if_neg h3, if_neg (by omega)]
      · intro k hk
        rw [nI_clamp (by omega), pk_un (by omega)]
        exact hu k hk
theorem yw_lay {b o c j : Nat} {e : Int} (hb : b = 2 ∨ b = 10) (ho : o ≤ 800) (hc : c < 9223372036854775808) (hj : (j : Int) = fm_P b + e) (hj8 : j ≤ 800) (hfit : c * b ^ j < b ^ 800) (h0 : ∀ k, k < 800 → a_row (o + k) = 0) (H : ∀ row' : Nat → Int32, yr_R b row' o (c * b ^ j) → (∀ k, (k < o ∨ o + 800 ≤ k) → row' k = a_row k) → post (f_attribute, f_raised, f_trapped, f_more, f_made, a_format, a_pattern, a_kind, a_exponent, a_coefficient, a_minus, row')) : wpY_lay post (f_attribute, f_raised, f_trapped, f_more, f_made, a_format, a_pattern, a_kind, a_exponent, a_coefficient, a_minus, a_row) (nI o) (nI b) (lN c) (zz_I e) := by
  obtain ⟨b0, b2, b10, bb⟩ := yr_b hb
  unfold wpY_lay
  dsimp only
  refine yw_point hb ?_
  refine nm_r (e' := nI (o + j + 0)) ?_ ?_
  · rw [zz_nI, zz_nI, zz_nI, zz_Iadd, zz_Iadd]
    congr 1
    omega
  · obtain ⟨m, hm, hmc⟩ := dg_ex b2 c
    have hjm : j + m ≤ 800 := by
      rcases Nat.lt_or_ge 800 (j + m) with h | h
      · exfalso
        have hm0 : m ≠ 0 ∨ m = 0 := by omega
        rcases hm0 with hm0 | hm0
        · have h1 : b ^ (m - 1) ≤ c := by
            rcases hm.2 with h2 | h2
            · exact absurd h2 hm0
            · exact h2
          have h3 : b ^ (m - 1) * b ^ j ≤ c * b ^ j := Nat.mul_le_mul_right _ h1
          rw [← Nat.pow_add] at h3
          have h4 := dg_pow_le (b := b) b0 (show 800 ≤ m - 1 + j by omega)
          omega
        · subst hm0
          omega
      · exact h
    refine ⟨m + 1, ?_⟩
    have e0 : lN c = lN (c / b ^ 0) := by rw [Nat.pow_zero, Nat.div_one]
    rw [e0]
    refine yr_lay_lp hb ho hc a_row H m 0 (by rw [Nat.pow_zero, Nat.div_one]; exact hm) (by omega) (m + 1) (by omega) a_row ?_ (fun _ _ => rfl)
    intro k hk
    rw [h0 k hk, if_neg (by omega)]
    rfl
end
end
section
/-! the reference's rows: sums, differences, products, quotients -/
section
variable {f_attribute : Int32} {f_raised : Int32} {f_trapped : Int32} {f_more : Int32} {f_made : Int32} {a_format : Nat → Int32} {a_pattern : Nat → Int32} {a_kind : Nat → Int32} {a_exponent : Nat → Int32} {a_coefficient : Nat → Int64} {a_minus : Nat → Int32} {a_row : Nat → Int32} {post : SY → Prop}
theorem yr_add_lp {b N1 N2 : Nat} (hb : b = 2 ∨ b = 10) (H : ∀ row' : Nat → Int32, yr_R b row' 0 (N1 + N2) → post (f_attribute, f_raised, f_trapped, f_more, f_made, a_format, a_pattern, a_kind, a_exponent, a_coefficient, a_minus, row')) : ∀ m k : Nat, k + m = 800 → ∀ n, m < n → ∀ row : Nat → Int32, (∀ j, j < 800 → row j = nI (if j < k then (N1 + N2) / b ^ j % b else N1 / b ^ j % b)) → yr_R b row 800 N2 → wY_addRows_4 post (nI b) f_attribute f_raised f_trapped f_more f_made n (nI (dg_cy b N1 N2 k)) (nI k) a_format a_pattern a_kind a_exponent a_coefficient a_minus row := by
  obtain ⟨b0, b2, b10, bb⟩ := yr_b hb
  intro m
  induction m with
  | zero =>
    intro k hk n hn row hr h2
    obtain ⟨n, rfl⟩ := yr_fuel hn
    have hk' : k = 800 := by omega
    subst hk'
    refine br_t (by decide) (H row ?_)
    intro j hj
    rw [Nat.zero_add, hr j hj, if_pos hj]
  | succ m ih =>
    intro k hk n hn row hr h2
    obtain ⟨n, rfl⟩ := yr_fuel hn
    have e8 : (800 : Int32) + nI k = nI (800 + k) := nI_add 800 k
    have l1 := (yr_dlt (x := N1 / b ^ k) hb).1
    have l2 := (yr_dlt (x := N2 / b ^ k) hb).1
    have l3 := dg_cy_le b0 N1 N2 k
    have eq0 : row k = nI (N1 / b ^ k % b) := by rw [hr k (by omega), if_neg (by omega)]
    have eq1 : row (800 + k) = nI (N2 / b ^ k % b) := h2 k (by omega)
    refine br_f (nI_ge (b := 800) (by omega) (by decide)) ⟨vp_in_nI (by omega) (by decide), ?_, nm_r (e' := nI (N1 / b ^ k % b + N2 / b ^ k % b + dg_cy b N1 N2 k)) ?_ ⟨yr_n0' hb, vp_in_nI (by omega) (by decide), nm_e ⟨yr_n0' hb, nm_r (e' := nI (dg_cy b N1 N2 (k + 1))) ?_ (nm_r (nI_1 k) ?_)⟩⟩⟩
    · rw [e8]
      exact vp_in_nI (by omega) (by decide)
    · rw [e8, nI_clamp (by omega), nI_clamp (by omega), eq0, eq1, nI_add, nI_add]
    · rw [pk_div (by omega) b0 bb, dg_add_div b0]
    · refine ih (k + 1) (by omega) n (by omega) _ ?_ ?_
      · intro j hj
        rw [nI_clamp (by omega), pk_rem (by omega) b0 bb, dg_add_mod b0]
        by_cases h : j = k
        · subst h
          rw [pk_us, if_pos (by omega)]
        · rw [pk_un h, hr j hj]
          congr 1
          by_cases h3 : j < k
          · rw [if_pos h3, if_pos (by omega)]
          · rw [if_neg h3, if_neg (by omega)]
      · intro j hj
        rw [nI_clamp (by omega), pk_un (by omega)]
        exact h2 j hj
theorem yw_addRows {b N1 N2 : Nat} (hb : b = 2 ∨ b = 10) (h1 : yr_R b a_row 0 N1) (h2 : yr_R b a_row 800 N2) (H : ∀ row' : Nat → Int32, yr_R b row' 0 (N1 + N2) → post (f_attribute, f_raised, f_trapped, f_more, f_made, a_format, a_pattern, a_kind, a_exponent, a_coefficient, a_minus, row')) : wpY_addRows post (f_attribute, f_raised, f_trapped, f_more, f_made, a_format, a_pattern, a_kind, a_exponent, a_coefficient, a_minus, a_row) (nI b) := by
  refine ⟨801, ?_⟩
  have h := yr_add_lp (N1 := N1) (N2 := N2) hb H 800 0 (by omega) 801 (by omega) a_row (fun j hj => by
    have := h1 j hj
    rw [Nat.zero_add] at this
    rw [this, if_neg (by omega)]) h2
  rw [dg_cy0] at h
  exact h
theorem yr_sub_step {post : SY → Prop} {J : Int32 → Int32 → (Nat → Int32) → (Nat → Int32) → (Nat → Int32) → (Nat → Int32) → (Nat → Int64) → (Nat → Int32) → (Nat → Int32) → Prop} {b d1 d2 g cy cy' k : Nat} {x2 z : Int32} (hb : b = 2 ∨ b = 10) (hk : k < 800) (hg : g < b) (hcy : cy' ≤ 1) (hz : z = zz_I ((d1 : Int) - d2)) (hd : d1 + b * cy' = d2 + g + cy) (H : J (nI cy') (nI (k + 1)) a_format a_pattern a_kind a_exponent a_coefficient a_minus (upd a_row k (nI g))) : wY_subtractRows_58 post J (nI b) x2 (nI cy) (nI k) z f_attribute f_raised f_trapped f_more f_made a_format a_pattern a_kind a_exponent a_coefficient a_minus a_row := by
  obtain ⟨b0, b2, b10, bb⟩ := yr_b hb
  have e1 : z - nI cy = zz_I ((g : Int) - (b * cy' : Nat)) := by
    rw [hz, zz_nI, zz_Isub]
    congr 1
    omega
  refine nm_r e1 ?_
  rcases (show cy' = 0 ∨ cy' = 1 by omega) with h | h
  · subst h
    have hp : (0 : Int32) ≤ zz_I ((g : Int) - (b * 0 : Nat)) := by
      rw [zz_I0, zz_Ile (by unfold zz_R; omega) (by unfold zz_R; omega)]
      omega
    have e2 : zz_I ((g : Int) - (b * 0 : Nat)) = nI g := by
      rw [zz_nI]
      exact congrArg zz_I (by omega)
    refine br_t hp (br_t hp ⟨vp_in_nI (by omega) (by decide), nm_e (nm_r (nI_1 k) ?_)⟩)
    rw [nI_clamp (by omega), e2]
    exact H
  · subst h
    have hp : ¬ (0 : Int32) ≤ zz_I ((g : Int) - (b * 1 : Nat)) := by
      rw [zz_I0, zz_Ile (by unfold zz_R; omega) (by unfold zz_R; omega)]
      omega
    have e2 : zz_I ((g : Int) - (b * 1 : Nat)) + nI b = nI g := by
      rw [zz_nI, zz_nI, zz_Iadd]
      congr 1
      omega
    refine br_f hp (br_f hp ⟨vp_in_nI (by omega) (by decide), nm_e (nm_r (nI_1 k) ?_)⟩)
    rw [nI_clamp (by omega), e2]
    exact H
/-- what is taken away, what is left -/
theorem yr_sub_lp {b L G : Nat} {x2 : Int32} (o : Nat) (hb : b = 2 ∨ b = 10) (ho : (x2 = 0 ∧ o = 0) ∨ (¬ x2 = 0 ∧ o = 800)) (H : ∀ row' : Nat → Int32, yr_R b row' 0 G → post (f_attribute, f_raised, f_trapped, f_more, f_made, a_format, a_pattern, a_kind, a_exponent, a_coefficient, a_minus, row')) : ∀ m k : Nat, k + m = 800 → ∀ n, m < n → ∀ row : Nat → Int32, (∀ j, j < k → row j = nI (G / b ^ j % b)) → (∀ j, k ≤ j → j < 800 → row (o + j) = nI ((L + G) / b ^ j % b) ∧ row (800 - o + j) = nI (L / b ^ j % b)) → wY_subtractRows_5 post (nI b) x2 f_attribute f_raised f_trapped f_more f_made n (nI (dg_cy b L G k)) (nI k) a_format a_pattern a_kind a_exponent a_coefficient a_minus row := by
  obtain ⟨b0, b2, b10, bb⟩ := yr_b hb
  intro m
  induction m with
  | zero =>
    intro k hk n hn row hr h2
    obtain ⟨n, rfl⟩ := yr_fuel hn
    have hk' : k = 800 := by omega
    subst hk'
    refine br_t (by decide) (H row ?_)
    intro j hj
    rw [Nat.zero_add, hr j hj]
  | succ m ih =>
    intro k hk n hn row hr h2
    obtain ⟨n, rfl⟩ := yr_fuel hn
    have e8 : (800 : Int32) + nI k = nI (800 + k) := nI_add 800 k
    have ew := h2 k (by omega) (by omega)
    have l1 := (yr_dlt (x := (L + G) / b ^ k) hb).2
    have l2 := (yr_dlt (x := L / b ^ k) hb).2
    have l4 := (yr_dlt (x := G / b ^ k) hb).2
    have l3 := dg_cy_le b0 L G k
    have l5 := dg_cy_le b0 L G (k + 1)
    have key : (L + G) / b ^ k % b + b * dg_cy b L G (k + 1) = L / b ^ k % b + G / b ^ k % b + dg_cy b L G k := by
      have := Nat.mod_add_div (L / b ^ k % b + G / b ^ k % b + dg_cy b L G k) b
      rw [dg_add_mod b0, dg_add_div b0] at this
      exact this
    have hin : vp_in (800 + nI k) 1600 := by
      rw [e8]
      exact vp_in_nI (by omega) (by decide)
    have hin0 : vp_in (nI k) 1600 := vp_in_nI (by omega) (by decide)
    have hJ : wY_subtractRows_5 post (nI b) x2 f_attribute f_raised f_trapped f_more f_made n (nI (dg_cy b L G (k + 1))) (nI (k + 1)) a_format a_pattern a_kind a_exponent a_coefficient a_minus (upd row k (nI (G / b ^ k % b))) := by
      refine ih (k + 1) (by omega) n (by omega) _ ?_ ?_
      · intro j hj
        by_cases h : j = k
        · subst h
          exact pk_us
        · rw [pk_un h]
          exact hr j (by omega)
      · intro j hj1 hj2
        rcases ho with ⟨_, rfl⟩ | ⟨_, rfl⟩
        · rw [pk_un (by omega), pk_un (by omega)]
          exact h2 j (by omega) hj2
        · rw [pk_un (by omega), pk_un (by omega)]
          exact h2 j (by omega) hj2
    refine br_f (nI_ge (b := 800) (by omega) (by decide)) ?_
    rcases ho with ⟨hx, rfl⟩ | ⟨hx, rfl⟩
    · refine br_t hx ⟨hin0, hin, ?_⟩
      refine yr_sub_step (d1 := (L + G) / b ^ k % b) (d2 := L / b ^ k % b) (g := G / b ^ k % b) (cy' := dg_cy b L G (k + 1)) hb (by omega) l4 l5 ?_ key hJ
      have e1 := ew.1
      have e2 := ew.2
      rw [Nat.zero_add] at e1
      rw [Nat.sub_zero] at e2
      rw [e8, nI_clamp (by omega), nI_clamp (by omega), e1, e2, zz_nI, zz_nI, zz_Isub]
    · refine br_f hx ⟨hin, hin0, ?_⟩
      refine yr_sub_step (d1 := (L + G) / b ^ k % b) (d2 := L / b ^ k % b) (g := G / b ^ k % b) (cy' := dg_cy b L G (k + 1)) hb (by omega) l4 l5 ?_ key hJ
      have e1 := ew.1
      have e2 := ew.2
      rw [Nat.sub_self, Nat.zero_add] at e2
      rw [e8, nI_clamp (by omega), nI_clamp (by omega), e1, e2, zz_nI, zz_nI, zz_Isub]
theorem yw_subtractRows {b L G : Nat} {x2 : Int32} (o : Nat) (hb : b = 2 ∨ b = 10) (ho : (x2 = 0 ∧ o = 0) ∨ (¬ x2 = 0 ∧ o = 800)) (h1 : yr_R b a_row o (L + G)) (h2 : yr_R b a_row (800 - o) L) (H : ∀ row' : Nat → Int32, yr_R b row' 0 G → post (f_attribute, f_raised, f_trapped, f_more, f_made, a_format, a_pattern, a_kind, a_exponent, a_coefficient, a_minus, row')) : wpY_subtractRows post (f_attribute, f_raised, f_trapped, f_more, f_made, a_format, a_pattern, a_kind, a_exponent, a_coefficient, a_minus, a_row) (nI b) x2 := by
  refine ⟨801, ?_⟩
  have h := yr_sub_lp (L := L) (G := G) o hb ho H 800 0 (by omega) 801 (by omega) a_row (fun j hj => absurd hj (by omega)) (fun j _ hj => ⟨h1 j hj, h2 j hj⟩)
  rw [dg_cy0] at h
  exact h
theorem yr_times_lp {b N y : Nat} (hb : b = 2 ∨ b = 10) (hy0 : 0 < y) (hy : y ≤ 10) (H : ∀ row' : Nat → Int32, yr_R b row' 0 (N * y) → post (f_attribute, f_raised, f_trapped, f_more, f_made, a_format, a_pattern, a_kind, a_exponent, a_coefficient, a_minus, row')) : ∀ m k : Nat, k + m = 800 → ∀ n, m < n → ∀ row : Nat → Int32, (∀ j, j < 800 → row j = nI (if j < k then N * y / b ^ j % b else N / b ^ j % b)) → wY_times_5 post (nI b) (nI y) f_attribute f_raised f_trapped f_more f_made n (nI (dg_my b N y k)) (nI k) a_format a_pattern a_kind a_exponent a_coefficient a_minus row := by
  obtain ⟨b0, b2, b10, bb⟩ := yr_b hb
  intro m
  induction m with
  | zero =>
    intro k hk n hn row hr
    obtain ⟨n, rfl⟩ := yr_fuel hn
    have hk' : k = 800 := by omega
    subst hk'
    refine br_t (by decide) (H row ?_)
    intro j hj
    rw [Nat.zero_add, hr j hj, if_pos hj]
  | succ m ih =>
    intro k hk n hn row hr
    obtain ⟨n, rfl⟩ := yr_fuel hn
    have l1 := (yr_dlt (x := N / b ^ k) hb).1
    have l3 := dg_my_lt b0 hy0 N k
    have l4 : N / b ^ k % b * y ≤ 10 * 10 := Nat.mul_le_mul (by omega) hy
    have eq0 : row k = nI (N / b ^ k % b) := by rw [hr k (by omega), if_neg (by omega)]
    refine br_f (nI_ge (b := 800) (by omega) (by decide)) ⟨vp_in_nI (by omega) (by decide), nm_r (e' := nI (N / b ^ k % b * y + dg_my b N y k)) ?_ ⟨yr_n0' hb, vp_in_nI (by omega) (by decide), nm_e ⟨yr_n0' hb, nm_r (e' := nI (dg_my b N y (k + 1))) ?_ (nm_r (nI_1 k) ?_)⟩⟩⟩
    · rw [nI_clamp (by omega), eq0, pk_mul, nI_add]
    · rw [pk_div (by omega) b0 bb, dg_mul_div b0]
    · refine ih (k + 1) (by omega) n (by omega) _ ?_
      intro j hj
      rw [nI_clamp (by omega), pk_rem (by omega) b0 bb, dg_mul_mod b0]
      by_cases h : j = k
      · subst h
        rw [pk_us, if_pos (by omega)]
      · rw [pk_un h, hr j hj]
        congr 1
        by_cases h3 : j < k
        · rw [if_pos h3, if_pos (by omega)]
        · rw [if_neg h3, if_neg (by omega)]
theorem yw_times {b N y : Nat} (hb : b = 2 ∨ b = 10) (hy0 : 0 < y) (hy : y ≤ 10) (h1 : yr_R b a_row 0 N) (H : ∀ row' : Nat → Int32, yr_R b row' 0 (N * y) → post (f_attribute, f_raised, f_trapped, f_more, f_made, a_format, a_pattern, a_kind, a_exponent, a_coefficient, a_minus, row')) : wpY_times post (f_attribute, f_raised, f_trapped, f_more, f_made, a_format, a_pattern, a_kind, a_exponent, a_coefficient, a_minus, a_row) (nI b) (nI y) := by
  refine ⟨801, ?_⟩
  have h := yr_times_lp (N := N) hb hy0 hy H 800 0 (by omega) 801 (by omega) a_row (fun j hj => by
    have := h1 j hj
    rw [Nat.zero_add] at this
    rw [this, if_neg (by omega)])
  rw [dg_my0] at h
  exact h
theorem yr_over_lp {b N y mo : Nat} (hb : b = 2 ∨ b = 10) (hy0 : 0 < y) (hy : y ≤ 10) (hmo : mo < 2) (H : ∀ (row' : Nat → Int32) (mo' : Nat), mo' < 2 → yr_R b row' 0 (N / y) → (mo' = 0 ↔ mo = 0 ∧ N % y = 0) → post (f_attribute, f_raised, f_trapped, nI mo', f_made, a_format, a_pattern, a_kind, a_exponent, a_coefficient, a_minus, row')) : ∀ k : Nat, k ≤ 800 → ∀ n, k < n → ∀ row : Nat → Int32, (∀ j, j < 800 → row j = nI (if j < k then N / b ^ j % b else N / y / b ^ j % b)) → wY_over_7 post (nI b) (nI y) f_attribute f_raised f_trapped (nI mo) f_made n (nI (N / b ^ k % y)) (zz_I ((k : Int) - 1)) a_format a_pattern a_kind a_exponent a_coefficient a_minus row := by
  obtain ⟨b0, b2, b10, bb⟩ := yr_b hb
  have hy' : y < 2147483648 := by omega
  have ny : ¬ nI y = 0 := nI_ne0 hy0 hy'
  intro k
  induction k with
  | zero =>
    intro hk n hn row hr
    obtain ⟨n, rfl⟩ := yr_fuel hn
    refine br_t yr_d0 ?_
    have hR : yr_R b row 0 (N / y) := by
      intro j hj
      rw [Nat.zero_add, hr j hj, if_neg (by omega)]
    have er : N / b ^ 0 % y = N % y := by rw [Nat.pow_zero, Nat.div_one]
    have hlt : N % y < y := Nat.mod_lt _ hy0
    rw [er]
    by_cases hz : N % y = 0
    · have e1 : nI mo ||| 0 = nI mo := Int32.or_zero
      refine br_t (by rw [hz]; rfl) (nm_r e1 ⟨zz_nb hmo, zz_fb hmo, ?_⟩)
      exact H row mo hmo hR ⟨fun h => ⟨h, hz⟩, fun h => h.1⟩
    · have e1 : nI mo ||| 1 = nI 1 := by
        rcases (show mo = 0 ∨ mo = 1 by omega) with rfl | rfl <;> decide
      refine br_f (nI_ne0 (by omega) (by omega)) (nm_r e1 ⟨zz_nb (by decide), zz_fb (by decide), ?_⟩)
      exact H row 1 (by decide) hR ⟨fun h => absurd h (by decide), fun h => absurd h.2 hz⟩
  | succ k ih =>
    intro hk n hn row hr
    obtain ⟨n, rfl⟩ := yr_fuel hn
    rw [yr_dm]
    have l1 := (yr_dlt (x := N / b ^ k) hb).1
    have l2 : N / b ^ (k + 1) % y < y := Nat.mod_lt _ hy0
    have l4 : N / b ^ (k + 1) % y * b ≤ 10 * 10 := Nat.mul_le_mul (by omega) b10
    have eq0 : row k = nI (N / b ^ k % b) := by rw [hr k (by omega), if_pos (by omega)]
    obtain ⟨s1, s2⟩ := dg_over_step b0 hy0 N k
    refine br_f (nI_pos (by omega)) ⟨vp_in_nI (by omega) (by decide), nm_r (e' := nI (N / b ^ (k + 1) % y * b + N / b ^ k % b)) ?_ ⟨ny, vp_in_nI (by omega) (by decide), nm_e ⟨ny, nm_r (e' := nI (N / b ^ k % y)) ?_ (nm_r (yr_dm1 k) ?_)⟩⟩⟩
    · rw [nI_clamp (by omega), eq0, pk_mul, nI_add]
    · rw [pk_rem (by omega) hy0 hy', s2]
    · refine ih (by omega) n (by omega) _ ?_
      intro j hj
      rw [nI_clamp (by omega), pk_div (by omega) hy0 hy', s1]
      by_cases h : j = k
      · subst h
        rw [pk_us, if_neg (by omega)]
      · rw [pk_un h, hr j hj]
        congr 1
        by_cases h3 : j < k
        · rw [if_pos h3, if_pos (by omega)]
        · rw [if_neg h3, if_neg (by omega)]
theorem yw_over {b N y mo : Nat} (hb : b = 2 ∨ b = 10) (hy0 : 0 < y) (hy : y ≤ 10) (hmo : mo < 2) (h1 : yr_R b a_row 0 N) (hN : N < b ^ 800) (H : ∀ (row' : Nat → Int32) (mo' : Nat), mo' < 2 → yr_R b row' 0 (N / y) → (mo' = 0 ↔ mo = 0 ∧ N % y = 0) → post (f_attribute, f_raised, f_trapped, nI mo', f_made, a_format, a_pattern, a_kind, a_exponent, a_coefficient, a_minus, row')) : wpY_over post (f_attribute, f_raised, f_trapped, nI mo, f_made, a_format, a_pattern, a_kind, a_exponent, a_coefficient, a_minus, a_row) (nI b) (nI y) := by
  refine ⟨801, ?_⟩
  have h := yr_over_lp (N := N) hb hy0 hy hmo H 800 (by omega) 801 (by omega) a_row (fun j hj => by
    have := h1 j hj
    rw [Nat.zero_add] at this
    rw [this, if_pos (by omega)])
  rw [Nat.div_eq_of_lt hN, Nat.zero_mod] at h
  exact h
end
end
section
/-! the reference's rows: what is read -/
def yr_pt (b d lo : Nat) : Nat := if d < b / 2 then (if 0 < d ∨ lo ≠ 0 then 1 else 0) else if d = b / 2 ∧ lo = 0 then 2 else 3
section
variable {f_attribute : Int32} {f_raised : Int32} {f_trapped : Int32} {f_more : Int32} {f_made : Int32} {a_format : Nat → Int32} {a_pattern : Nat → Int32} {a_kind : Nat → Int32} {a_exponent : Nat → Int32} {a_coefficient : Nat → Int64} {a_minus : Nat → Int32} {a_row : Nat → Int32}
theorem yr_high_lp {post : Int32 → Prop} {b N : Nat} (hb : b = 2 ∨ b = 10) (hr : yr_R b a_row 0 N) (H0 : N = 0 → post (-1000)) (H1 : ∀ h : Nat, h < 800 → b ^ h ≤ N → N < b ^ (h + 1) → post (zz_I ((h : Int) - fm_P b))) : ∀ m : Nat, m ≤ 800 → N / b ^ m = 0 → ∀ n, m < n → wY_highest_4 post (nI b) f_attribute f_raised f_trapped f_more f_made a_format a_pattern a_kind a_exponent a_coefficient a_minus a_row n (zz_I ((m : Int) - 1)) := by
  obtain ⟨b0, b2, b10, bb⟩ := yr_b hb
  intro m
  induction m with
  | zero =>
    intro hm hz n hn
    obtain ⟨n, rfl⟩ := yr_fuel hn
    rw [Nat.pow_zero, Nat.div_one] at hz
    exact br_t yr_d0 (H0 hz)
  | succ m ih =>
    intro hm hz n hn
    obtain ⟨n, rfl⟩ := yr_fuel hn
    rw [yr_dm]
    have l1 := (yr_dlt (x := N / b ^ m) hb).1
    have eq0 : a_row m = nI (N / b ^ m % b) := by
      have := hr m (by omega)
      rw [Nat.zero_add] at this
      exact this
    have hs := dg_step N b m
    rw [hz, Nat.mul_zero, Nat.zero_add] at hs
    refine br_f (nI_pos (by omega)) ⟨vp_in_nI (by omega) (by decide), ?_⟩
    by_cases hd : N / b ^ m % b = 0
    · refine br_t ?_ (nm_r (yr_dm1 m) (ih (by omega) (by omega) n (by omega)))
      rw [nI_clamp (by omega), eq0, hd]
      rfl
    · refine br_f ?_ (yw_point hb ?_)
      · rw [nI_clamp (by omega), eq0]
        exact nI_ne0 (by omega) (by omega)
      · rw [zz_nI, zz_nI, zz_Isub]
        refine H1 m (by omega) ?_ (dg_lt_of_div b0 hz)
        rcases Nat.lt_or_ge N (b ^ m) with h | h
        · have := Nat.div_eq_of_lt h
          omega
        · exact h
theorem yw_highest {post : Int32 → Prop} {b N : Nat} (hb : b = 2 ∨ b = 10) (hr : yr_R b a_row 0 N) (hN : N < b ^ 800) (H0 : N = 0 → post (-1000)) (H1 : ∀ h : Nat, h < 800 → b ^ h ≤ N → N < b ^ (h + 1) → post (zz_I ((h : Int) - fm_P b))) : wpY_highest post (f_attribute, f_raised, f_trapped, f_more, f_made, a_format, a_pattern, a_kind, a_exponent, a_coefficient, a_minus, a_row) (nI b) := by
  refine ⟨801, ?_⟩
  exact yr_high_lp hb hr H0 H1 800 (by omega) (Nat.div_eq_of_lt hN) 801 (by omega)
theorem yr_low_lp {post : Int32 → Prop} {b N : Nat} (hb : b = 2 ∨ b = 10) (hr : yr_R b a_row 0 N) (hN : N < b ^ 800) (hN0 : 0 < N) (H1 : ∀ h : Nat, h < 800 → N % b ^ h = 0 → ¬ N % b ^ (h + 1) = 0 → post (zz_I ((h : Int) - fm_P b))) : ∀ m k : Nat, k + m = 800 → N % b ^ k = 0 → ∀ n, m < n → wY_lowest_2 post (nI b) f_attribute f_raised f_trapped f_more f_made a_format a_pattern a_kind a_exponent a_coefficient a_minus a_row n (nI k) := by
  obtain ⟨b0, b2, b10, bb⟩ := yr_b hb
  intro m
  induction m with
  | zero =>
    intro k hk hz n hn
    have hk' : k = 800 := by omega
    subst hk'
    rw [Nat.mod_eq_of_lt hN] at hz
    omega
  | succ m ih =>
    intro k hk hz n hn
    obtain ⟨n, rfl⟩ := yr_fuel hn
    have l1 := (yr_dlt (x := N / b ^ k) hb).1
    have eq0 : a_row k = nI (N / b ^ k % b) := by
      have := hr k (by omega)
      rw [Nat.zero_add] at this
      exact this
    have hs := dg_modS N b k
    rw [hz, Nat.zero_add] at hs
    have hB : 0 < b ^ k := Nat.pow_pos b0
    refine And.intro (vp_in_nI (by omega) (by decide)) ?_
    by_cases hd : N / b ^ k % b = 0
    · refine br_t ?_ (nm_r (nI_1 k) (ih (k + 1) (by omega) (by rw [hs, hd, Nat.mul_zero]) n (by omega)))
      rw [nI_clamp (by omega), eq0, hd]
      rfl
    · refine br_f ?_ (yw_point hb ?_)
      · rw [nI_clamp (by omega), eq0]
        exact nI_ne0 (by omega) (by omega)
      · rw [zz_nI, zz_nI, zz_Isub]
        refine H1 k (by omega) hz ?_
        rw [hs]
        have := Nat.mul_pos hB (show 0 < N / b ^ k % b by omega)
        omega
theorem yw_lowest {post : Int32 → Prop} {b N : Nat} (hb : b = 2 ∨ b = 10) (hr : yr_R b a_row 0 N) (hN : N < b ^ 800) (hN0 : 0 < N) (H1 : ∀ h : Nat, h < 800 → N % b ^ h = 0 → ¬ N % b ^ (h + 1) = 0 → post (zz_I ((h : Int) - fm_P b))) : wpY_lowest post (f_attribute, f_raised, f_trapped, f_more, f_made, a_format, a_pattern, a_kind, a_exponent, a_coefficient, a_minus, a_row) (nI b) := by
  refine ⟨801, ?_⟩
  exact yr_low_lp hb hr hN hN0 H1 800 0 (by omega) (by rw [Nat.pow_zero, Nat.mod_one]) 801 (by omega)
theorem yr_whole_lp {post : Int64 → Prop} {b N g : Nat} {q : Int} (hb : b = 2 ∨ b = 10) (hr : yr_R b a_row 0 N) (hg : (g : Int) = q + fm_P b) (H : post (lN (N / b ^ g))) : ∀ m : Nat, g + m ≤ 800 → ∀ n, m < n → wY_whole_14 post (nI b) (zz_I q) f_attribute f_raised f_trapped f_more f_made a_format a_pattern a_kind a_exponent a_coefficient a_minus a_row n (lN (N / b ^ (g + m))) (zz_I (((g + m : Nat) : Int) - 1)) := by
  obtain ⟨b0, b2, b10, bb⟩ := yr_b hb
  have eg : zz_I q + nI (fm_P b) = zz_I (g : Int) := by
    rw [zz_nI, zz_Iadd]
    congr 1
    omega
  intro m
  induction m with
  | zero =>
    intro hm n hn
    obtain ⟨n, rfl⟩ := yr_fuel hn
    rw [wY_whole_14]
    refine yw_point hb ?_
    rw [eg]
    exact zz_ltU (fun _ => H) (fun h => absurd h (by omega))
  | succ m ih =>
    intro hm n hn
    obtain ⟨n, rfl⟩ := yr_fuel hn
    rw [wY_whole_14]
    refine yw_point hb ?_
    rw [eg]
    have e0 : ((g + (m + 1) : Nat) : Int) - 1 = ((g + m : Nat) : Int) := by omega
    rw [e0]
    have l1 := (yr_dlt (x := N / b ^ (g + m)) hb).1
    have eq0 : a_row (g + m) = nI (N / b ^ (g + m) % b) := by
      have := hr (g + m) (by omega)
      rw [Nat.zero_add] at this
      exact this
    refine zz_ltU (fun h => absurd h (by omega)) (fun _ => ?_)
    rw [← zz_nI]
    refine ⟨vp_in_nI (by omega) (by decide), nm_r (e' := lN (N / b ^ (g + m))) ?_ (nm_r (yr_dm1 (g + m)) (ih (by omega) n (by omega)))⟩
    rw [nI_clamp (by omega), eq0, nI_l bb, nI_l (by omega), lN_mul, lN_add]
    congr 1
    have := dg_step N b (g + m)
    rw [Nat.mul_comm] at this
    exact this.symm
theorem yw_whole {post : Int64 → Prop} {b N g : Nat} {q : Int} (hb : b = 2 ∨ b = 10) (hr : yr_R b a_row 0 N) (hN : N < b ^ 800) (hg : (g : Int) = q + fm_P b) (hg8 : g < 100000) (H : post (lN (N / b ^ g))) : wpY_whole post (f_attribute, f_raised, f_trapped, f_more, f_made, a_format, a_pattern, a_kind, a_exponent, a_coefficient, a_minus, a_row) (nI b) (zz_I q) := by
  obtain ⟨b0, b2, b10, bb⟩ := yr_b hb
  have hP : fm_P b ≤ 450 := by rcases hb with rfl | rfl <;> decide
  unfold wpY_whole
  dsimp only
  refine yw_highest hb hr hN ?_ ?_
  · intro hz
    refine yw_point hb ?_
    refine nm_r (e' := zz_I (-1000 + fm_P b)) ?_ ?_
    · rw [zz_nI, ← zz_Iadd]
      rfl
    · refine ⟨0 + 1, ?_⟩
      rw [wY_whole_14]
      refine yw_point hb ?_
      have eg : zz_I q + nI (fm_P b) = zz_I (g : Int) := by
        rw [zz_nI, zz_Iadd]
        congr 1
        omega
      rw [eg]
      refine zz_ltU (fun _ => ?_) (fun h => absurd h (by omega))
      rw [hz, Nat.zero_div] at H
      exact H
  · intro h h8 h1 h2
    refine yw_point hb ?_
    refine nm_r (e' := zz_I (h : Int)) ?_ ?_
    · rw [zz_nI, zz_Iadd]
      congr 1
      omega
    · by_cases hle : g ≤ h + 1
      · obtain ⟨m, hm⟩ : ∃ m, h + 1 = g + m := ⟨h + 1 - g, by omega⟩
        refine ⟨m + 1, ?_⟩
        have hh : wY_whole_14 post (nI b) (zz_I q) f_attribute f_raised f_trapped f_more f_made a_format a_pattern a_kind a_exponent a_coefficient a_minus a_row (m + 1) (lN (N / b ^ (g + m))) (zz_I (((g + m : Nat) : Int) - 1)) := yr_whole_lp hb hr hg H m (by omega) (m + 1) (by omega)
        rw [← hm, Nat.div_eq_of_lt h2] at hh
        have e0 : ((h + 1 : Nat) : Int) - 1 = (h : Int) := by omega
        rw [e0] at hh
        exact hh
      · refine ⟨0 + 1, ?_⟩
        rw [wY_whole_14]
        refine yw_point hb ?_
        have eg : zz_I q + nI (fm_P b) = zz_I (g : Int) := by
          rw [zz_nI, zz_Iadd]
          congr 1
          omega
        rw [eg]
        refine zz_ltU (fun _ => ?_) (fun h => absurd h (by omega))
        have := dg_pow_le (b := b) b0 (show h + 1 ≤ g by omega)
        rw [Nat.div_eq_of_lt (by omega)] at H
        exact H
theorem yr_rest_lp {post : Int32 → Prop} {b N kk mo : Nat} (hb : b = 2 ∨ b = 10) (hr : yr_R b a_row 0 N) (hkk : kk < 800) (H : ∀ lo, lo < 2 → (lo = 0 ↔ mo = 0 ∧ N % b ^ kk = 0) → post (nI (yr_pt b (N / b ^ kk % b) lo))) : ∀ m i : Nat, i + m = kk → ∀ n, m < n → ∀ lo, lo < 2 → (lo = 0 ↔ mo = 0 ∧ N % b ^ i = 0) → wY_rest_18 post (nI b) (nI kk) f_attribute f_raised f_trapped f_more f_made a_format a_pattern a_kind a_exponent a_coefficient a_minus a_row n (nI lo) (nI i) := by
  obtain ⟨b0, b2, b10, bb⟩ := yr_b hb
  intro m
  induction m with
  | zero =>
    intro i hi n hn lo hlo hlo2
    obtain ⟨n, rfl⟩ := yr_fuel hn
    have hi' : i = kk := by omega
    subst hi'
    have HH := H lo hlo hlo2
    have l1 := (yr_dlt (x := N / b ^ i) hb)
    have eq0 : a_row i = nI (N / b ^ i % b) := by
      have := hr i (by omega)
      rw [Nat.zero_add] at this
      exact this
    refine br_t (nI_le (Nat.le_refl _) (by omega)) ⟨vp_in_nI (by omega) (by decide), nm_r (e' := nI (N / b ^ i % b)) ?_ ⟨by decide, ?_⟩⟩
    · rw [nI_clamp (by omega), eq0]
    · have eb2 : nI b / 2 = nI (b / 2) := pk_div (by omega) (by decide) (by decide)
      rw [eb2]
      generalize N / b ^ i % b = d at HH l1
      unfold yr_pt at HH
      have hb2 : 0 < b / 2 := by omega
      refine pk_le (b / 2) d (fun h1 => ⟨by decide, pk_eq d (b / 2) (fun h2 => pk_eq lo 0 (fun h3 => ?_) (fun h3 => ?_)) (fun h2 => ?_)⟩) (fun h1 => pk_lt 0 d (fun h2 => ?_) (fun h2 => pk_eq lo 0 (fun h3 => ?_) (fun h3 => ?_)))
      · rw [if_neg (by omega), if_pos ⟨h2, h3⟩] at HH
        exact HH
      · rw [if_neg (by omega), if_neg (fun h => h3 h.2)] at HH
        exact HH
      · rw [if_neg (by omega), if_neg (fun h => h2 h.1)] at HH
        exact HH
      · rw [if_pos h1, if_pos (Or.inl h2)] at HH
        exact HH
      · rw [if_pos h1, if_neg (by omega)] at HH
        exact HH
      · rw [if_pos h1, if_pos (Or.inr h3)] at HH
        exact HH
  | succ m ih =>
    intro i hi n hn lo hlo hlo2
    obtain ⟨n, rfl⟩ := yr_fuel hn
    have l1 := (yr_dlt (x := N / b ^ i) hb)
    have hs := dg_modS N b i
    have hB : 0 < b ^ i := Nat.pow_pos b0
    have eq0 : a_row i = nI (N / b ^ i % b) := by
      have := hr i (by omega)
      rw [Nat.zero_add] at this
      exact this
    refine br_f (nI_ge (by omega) (by omega)) ⟨vp_in_nI (by omega) (by decide), ?_⟩
    by_cases hd : N / b ^ i % b = 0
    · refine br_t (by rw [nI_clamp (by omega), eq0, hd]; rfl) (nm_r (e' := nI lo) Int32.or_zero (nm_r (nI_1 i) ?_))
      refine ih (i + 1) (by omega) n (by omega) lo hlo ?_
      rw [hs, hd, Nat.mul_zero, Nat.add_zero]
      exact hlo2
    · refine br_f (by rw [nI_clamp (by omega), eq0]; exact nI_ne0 (by omega) (by omega)) (nm_r (e' := nI 1) ?_ (nm_r (nI_1 i) ?_))
      · rcases (show lo = 0 ∨ lo = 1 by omega) with rfl | rfl <;> decide
      · refine ih (i + 1) (by omega) n (by omega) 1 (by decide) ?_
        have h9 := Nat.mul_pos hB (show 0 < N / b ^ i % b by omega)
        refine ⟨fun h => absurd h (by decide), fun h => ?_⟩
        have h8 := h.2
        rw [hs] at h8
        exfalso
        exact Nat.ne_of_gt (Nat.lt_of_lt_of_le h9 (Nat.le_add_left _ _)) h8
theorem yw_rest {post : Int32 → Prop} {b N kk mo : Nat} {q : Int} (hb : b = 2 ∨ b = 10) (hr : yr_R b a_row 0 N) (hmo : mo < 2) (hq : (kk : Int) = q + fm_P b - 1) (hkk : kk < 800) (H : ∀ lo, lo < 2 → (lo = 0 ↔ mo = 0 ∧ N % b ^ kk = 0) → post (nI (yr_pt b (N / b ^ kk % b) lo))) : wpY_rest post (f_attribute, f_raised, f_trapped, nI mo, f_made, a_format, a_pattern, a_kind, a_exponent, a_coefficient, a_minus, a_row) (nI b) (zz_I q) := by
  unfold wpY_rest
  dsimp only
  refine yw_point hb ?_
  refine nm_r (e' := nI kk) ?_ ?_
  · rw [zz_nI, zz_nI, zz_Iadd, zz_Is1]
    congr 1
    omega
  · refine ⟨kk + 1, ?_⟩
    refine yr_rest_lp hb hr hkk H kk 0 (by omega) (kk + 1) (by omega) mo hmo ?_
    rw [Nat.pow_zero, Nat.mod_one]
    simp
theorem yr_cmp_lp {post : Int32 → Prop} {b N1 N2 : Nat} (hb : b = 2 ∨ b = 10) (h1 : yr_R b a_row 0 N1) (h2 : yr_R b a_row 800 N2) (H0 : N1 = N2 → post 0) (H1 : N2 < N1 → post 1) (H2 : N1 < N2 → post (-1)) : ∀ m : Nat, m ≤ 800 → N1 / b ^ m = N2 / b ^ m → ∀ n, m < n → wY_compareRows_4 post f_attribute f_raised f_trapped f_more f_made a_format a_pattern a_kind a_exponent a_coefficient a_minus a_row n (zz_I ((m : Int) - 1)) := by
  obtain ⟨b0, b2, b10, bb⟩ := yr_b hb
  intro m
  induction m with
  | zero =>
    intro hm hz n hn
    obtain ⟨n, rfl⟩ := yr_fuel hn
    rw [Nat.pow_zero, Nat.div_one, Nat.div_one] at hz
    exact br_t yr_d0 (H0 hz)
  | succ m ih =>
    intro hm hz n hn
    obtain ⟨n, rfl⟩ := yr_fuel hn
    rw [yr_dm]
    have e8 : (800 : Int32) + nI m = nI (800 + m) := nI_add 800 m
    have l1 := (yr_dlt (x := N1 / b ^ m) hb).1
    have l2 := (yr_dlt (x := N2 / b ^ m) hb).1
    have eq1 : a_row m = nI (N1 / b ^ m % b) := by
      have := h1 m (by omega)
      rw [Nat.zero_add] at this
      exact this
    have eq2 : a_row (800 + m) = nI (N2 / b ^ m % b) := h2 m (by omega)
    have s1 := dg_step N1 b m
    have s2 := dg_step N2 b m
    rw [hz] at s1
    have hin1 : vp_in (nI m) 1600 := vp_in_nI (by omega) (by decide)
    have hin2 : vp_in (800 + nI m) 1600 := by
      rw [e8]
      exact vp_in_nI (by omega) (by decide)
    have key : ∀ a c : Nat, a / b ^ m < c / b ^ m → a < c := by
      intro a c h
      rcases Nat.lt_or_ge a c with h3 | h3
      · exact h3
      · have := Nat.div_le_div_right (c := b ^ m) h3
        omega
    refine br_f (nI_pos (by omega)) ⟨hin1, hin2, ?_⟩
    rw [e8, nI_clamp (show m < 2 ^ 31 by omega), nI_clamp (show 800 + m < 2 ^ 31 by omega), eq1, eq2]
    refine zn_eqU (fun h => nm_r (yr_dm1 m) (ih (by omega) (by omega) n (by omega))) (fun h => ⟨hin1, by rw [← e8]; exact hin2, zn_leU (fun h3 => H1 (key _ _ (by omega))) (fun h3 => H2 (key _ _ (by omega)))⟩)
theorem yw_compareRows {post : Int32 → Prop} {b N1 N2 : Nat} (hb : b = 2 ∨ b = 10) (h1 : yr_R b a_row 0 N1) (h2 : yr_R b a_row 800 N2) (hN1 : N1 < b ^ 800) (hN2 : N2 < b ^ 800) (H0 : N1 = N2 → post 0) (H1 : N2 < N1 → post 1) (H2 : N1 < N2 → post (-1)) : wpY_compareRows post (f_attribute, f_raised, f_trapped, f_more, f_made, a_format, a_pattern, a_kind, a_exponent, a_coefficient, a_minus, a_row) := by
  refine ⟨801, ?_⟩
  exact yr_cmp_lp hb h1 h2 H0 H1 H2 800 (by omega) (by rw [Nat.div_eq_of_lt hN1, Nat.div_eq_of_lt hN2]) 801 (by omega)
end
end
section
/-! declets; patterns put together -/
theorem mi_if {α : Type} {c : Prop} [Decidable c] {post : α → Prop} {A B : Prop} {a b : α} (h : post (if c then a else b)) (hA : c → post a → A) (hB : ¬ c → post b → B) : (c → A) ∧ (¬ c → B) := by
  constructor
  · intro hc
    rw [if_pos hc] at h
    exact hA hc h
  · intro hc
    rw [if_neg hc] at h
    exact hB hc h
/-- the component's digitsOf -/
def pa_dx (p0 : Int32) : Int32 :=
  let x1 := (p0 >>> ((7 : Int32) &&& 31)) &&& 6
  let x2 := (p0 >>> ((4 : Int32) &&& 31)) &&& 6
  let x3 := (p0 >>> ((7 : Int32) &&& 31)) &&& 1
  let x4 := (p0 >>> ((4 : Int32) &&& 31)) &&& 1
  let x5 := p0 &&& 1
  let x6 := x1 ||| x3
  let x7 := x2 ||| x4
  let k := (p0 >>> ((1 : Int32) &&& 31)) &&& 3
  if (p0 &&& 8) = 0 then (((100 * x6) + (10 * x7)) + (p0 &&& 7))
  else if 2 < k then
    (if 4 < x2 then ((((100 * (8 + x3)) + (10 * (8 + x4))) + 8) + x5)
     else if x2 = 0 then (((100 * (8 + x3)) + (10 * (8 + x4))) + (x1 ||| x5))
     else if x2 = 2 then ((((100 * (8 + x3)) + (10 * (x1 ||| x4))) + 8) + x5)
     else ((((100 * x6) + (10 * (8 + x4))) + 8) + x5))
  else if k = 0 then ((((100 * x6) + (10 * x7)) + 8) + x5)
  else if k = 1 then (((100 * x6) + (10 * (8 + x4))) + (x2 ||| x5))
  else (((100 * (8 + x3)) + (10 * x7)) + (x1 ||| x5))
/-- the reference's declet -/
def pa_dy (p0 : Int32) : Int32 :=
  let x1 := (p0 >>> ((7 : Int32) &&& 31)) &&& 7
  let x2 := (p0 >>> ((4 : Int32) &&& 31)) &&& 7
  let x3 := p0 &&& 1
  let x4 := 8 + ((p0 >>> ((7 : Int32) &&& 31)) &&& 1)
  let x5 := 8 + ((p0 >>> ((4 : Int32) &&& 31)) &&& 1)
  let x6 := (2 * ((p0 >>> ((8 : Int32) &&& 31)) &&& 3)) + x3
  let x7 := (p0 >>> ((5 : Int32) &&& 31)) &&& 3
  let x8 := (p0 >>> ((1 : Int32) &&& 31)) &&& 3
  if ((p0 >>> ((3 : Int32) &&& 31)) &&& 1) = 0 then (((100 * x1) + (10 * x2)) + (p0 &&& 7))
  else if x8 = 0 then ((((100 * x1) + (10 * x2)) + 8) + x3)
  else if x8 = 1 then ((((100 * x1) + (10 * x5)) + (2 * x7)) + x3)
  else if x8 = 2 then (((100 * x4) + (10 * x2)) + x6)
  else if x7 = 0 then (((100 * x4) + (10 * x5)) + x6)
  else if x7 = 1 then ((((100 * x4) + (10 * ((2 * ((p0 >>> ((8 : Int32) &&& 31)) &&& 3)) + ((p0 >>> ((4 : Int32) &&& 31)) &&& 1)))) + 8) + x3)
  else if x7 = 2 then ((((100 * x1) + (10 * x5)) + 8) + x3)
  else ((((100 * x4) + (10 * x5)) + 8) + x3)
theorem pa_wdy {post : Int32 → Prop} {p : Int32} (h : post (pa_dy p)) : wpY_declet post p := by
  unfold pa_dy at h
  refine nm_e (nm_e (nm_e (nm_e (nm_e (nm_e (nm_e ?_))))))
  refine mi_if h (fun _ h => h) (fun _ h => nm_e ?_)
  refine mi_if h (fun _ h => h) (fun _ h => ?_)
  refine mi_if h (fun _ h => h) (fun _ h => ?_)
  refine mi_if h (fun _ h => h) (fun _ h => ?_)
  refine mi_if h (fun _ h => h) (fun _ h => ?_)
  refine mi_if h (fun _ h => h) (fun _ h => ?_)
  exact mi_if h (fun _ h => h) (fun _ h => h)
/-- what the masks give -/
theorem pa_k3 (x : Int32) : ∃ j : Nat, j < 4 ∧ x &&& 3 = nI j := pk_andE x 2 (by decide)
theorem pa_k6 (x : Int32) : x &&& 6 = 0 ∨ x &&& 6 = 2 ∨ x &&& 6 = 4 ∨ x &&& 6 = 6 := by
  have e : x &&& 6 = (x &&& 7) &&& 6 := by
    rw [Int32.and_assoc]
    congr 1
  obtain ⟨j, hj, hx⟩ := pk_andE x (m := 7) 3 (by decide)
  rw [e, hx]
  rcases (show j = 0 ∨ j = 1 ∨ j = 2 ∨ j = 3 ∨ j = 4 ∨ j = 5 ∨ j = 6 ∨ j = 7 by omega) with rfl | rfl | rfl | rfl | rfl | rfl | rfl | rfl <;> decide
theorem pa_wdx {post : Int32 → Prop} {p : Int32} (h : post (pa_dx p)) : wpX_digitsOf post p := by
  unfold pa_dx at h
  refine nm_e (nm_e (nm_e (nm_e (nm_e (nm_e (nm_e ?_))))))
  refine mi_if h (fun _ h => h) (fun _ h => nm_e ?_)
  obtain ⟨j, hj, hk⟩ := pa_k3 (p >>> ((1 : Int32) &&& 31))
  have n0 : ¬ ((p >>> ((1 : Int32) &&& 31)) &&& 3) < 0 := by
    rw [hk]
    exact nI_pos (by omega)
  refine br_f n0 ?_
  refine mi_if h (fun _ h => ?_) (fun h2 h => ?_)
  · have e6 := pa_k6 (p >>> ((4 : Int32) &&& 31))
    have m0 : ¬ ((p >>> ((4 : Int32) &&& 31)) &&& 6) < 0 := by
      rcases e6 with e | e | e | e <;> rw [e] <;> decide
    refine br_f m0 ?_
    refine mi_if h (fun _ h => h) (fun h4 h => ?_)
    refine mi_if h (fun _ h => h) (fun h0 h => ?_)
    have m1 : ¬ ((p >>> ((4 : Int32) &&& 31)) &&& 6) = 1 := by
      rcases e6 with e | e | e | e <;> rw [e] <;> decide
    refine br_f m1 ?_
    refine mi_if h (fun _ h => h) (fun h2 h => ?_)
    have m3 : ¬ ((p >>> ((4 : Int32) &&& 31)) &&& 6) = 3 := by
      rcases e6 with e | e | e | e <;> rw [e] <;> decide
    refine br_f m3 ?_
    exact br_c (fun _ => h) (fun _ => True.intro)
  · refine mi_if h (fun _ h => h) (fun h0 h => ?_)
    refine mi_if h (fun _ h => h) (fun h0 h => ?_)
    exact br_c (fun _ => h) (fun _ => True.intro)
/-- both agree, and give three digits -/
theorem pa_dxy : ∀ d : Nat, d < 1024 → pa_dx (nI d) = pa_dy (nI d) ∧ (pa_dy (nI d)).toNatClampNeg < 1000 ∧ pa_dy (nI d) = nI (pa_dy (nI d)).toNatClampNeg := by decide +kernel
/-- the component's decletOf, by its digits -/
def pa_ex (x1 x2 x3 : Int32) : Int32 :=
  let k : Int32 := ((if x1 ≤ 7 then 0 else 4) ||| (if x2 ≤ 7 then 0 else 2)) ||| (if x3 ≤ 7 then 0 else 1)
  if 6 < k then ((((((x1 &&& 1) <<< ((7 : Int32) &&& 31)) ||| 96) ||| ((x2 &&& 1) <<< ((4 : Int32) &&& 31))) ||| 14) ||| (x3 &&& 1))
  else if k = 0 then (((x1 <<< ((7 : Int32) &&& 31)) ||| (x2 <<< ((4 : Int32) &&& 31))) ||| x3)
  else if k = 1 then ((((x1 <<< ((7 : Int32) &&& 31)) ||| (x2 <<< ((4 : Int32) &&& 31))) ||| 8) ||| (x3 &&& 1))
  else if k = 2 then (((((x1 <<< ((7 : Int32) &&& 31)) ||| ((x3 &&& 6) <<< ((4 : Int32) &&& 31))) ||| ((x2 &&& 1) <<< ((4 : Int32) &&& 31))) ||| 10) ||| (x3 &&& 1))
  else if k = 3 then (((((x1 <<< ((7 : Int32) &&& 31)) ||| 64) ||| ((x2 &&& 1) <<< ((4 : Int32) &&& 31))) ||| 14) ||| (x3 &&& 1))
  else if k = 4 then ((((((x3 &&& 6) <<< ((7 : Int32) &&& 31)) ||| ((x1 &&& 1) <<< ((7 : Int32) &&& 31))) ||| (x2 <<< ((4 : Int32) &&& 31))) ||| 12) ||| (x3 &&& 1))
  else if k = 5 then (((((((x2 &&& 6) <<< ((7 : Int32) &&& 31)) ||| ((x1 &&& 1) <<< ((7 : Int32) &&& 31))) ||| 32) ||| ((x2 &&& 1) <<< ((4 : Int32) &&& 31))) ||| 14) ||| (x3 &&& 1))
  else ((((((x3 &&& 6) <<< ((7 : Int32) &&& 31)) ||| ((x1 &&& 1) <<< ((7 : Int32) &&& 31))) ||| ((x2 &&& 1) <<< ((4 : Int32) &&& 31))) ||| 14) ||| (x3 &&& 1))
def pa_e (n : Nat) : Int32 := pa_ex (nI (n / 100)) (nI (n / 10 % 10)) (nI (n % 10))
theorem pa_wex {post : Int32 → Prop} {x1 x2 x3 : Int32} (h : post (pa_ex x1 x2 x3)) : (x1 ≤ 7 → wX_decletOf_29 post x1 x2 x3 0) ∧ (¬ x1 ≤ 7 → wX_decletOf_29 post x1 x2 x3 4) := by
  have fin : ∀ z0 z1 : Int32, (((z1 ||| z0) = 0 ∨ (z1 ||| z0) = 1 ∨ (z1 ||| z0) = 2 ∨ (z1 ||| z0) = 3 ∨ (z1 ||| z0) = 4 ∨ (z1 ||| z0) = 5 ∨ (z1 ||| z0) = 6 ∨ (z1 ||| z0) = 7)) → ((if x1 ≤ 7 then 0 else 4) ||| (if x2 ≤ 7 then 0 else 2)) ||| (if x3 ≤ 7 then (0 : Int32) else 1) = z1 ||| z0 → wX_decletOf_52 post x1 x2 x3 z0 z1 := by
    intro z0 z1 h8 e
    unfold pa_ex at h
    rw [e] at h
    refine nm_e ?_
    have n0 : ¬ (z1 ||| z0) < 0 := by
      rcases h8 with e | e | e | e | e | e | e | e <;> rw [e] <;> decide
    refine br_f n0 ?_
    refine mi_if h (fun _ h => h) (fun h6 h => ?_)
    refine mi_if h (fun _ h => h) (fun h6 h => ?_)
    refine mi_if h (fun _ h => h) (fun h6 h => ?_)
    refine mi_if h (fun _ h => h) (fun h6 h => ?_)
    refine mi_if h (fun _ h => h) (fun h6 h => ?_)
    refine mi_if h (fun _ h => h) (fun h6 h => ?_)
    refine mi_if h (fun _ h => h) (fun h6 h => ?_)
    exact br_c (fun _ => h) (fun _ => True.intro)
  refine br_c (fun h1 => ?_) (fun h1 => ?_) <;> refine br_c (fun h2 => ?_) (fun h2 => ?_) <;> refine br_c (fun h3 => ?_) (fun h3 => ?_)
  · exact fin _ _ (by decide) (by rw [if_pos h1, if_pos h2, if_pos h3])
  · exact fin _ _ (by decide) (by rw [if_pos h1, if_pos h2, if_neg h3])
  · exact fin _ _ (by decide) (by rw [if_pos h1, if_neg h2, if_pos h3])
  · exact fin _ _ (by decide) (by rw [if_pos h1, if_neg h2, if_neg h3])
  · exact fin _ _ (by decide) (by rw [if_neg h1, if_pos h2, if_pos h3])
  · exact fin _ _ (by decide) (by rw [if_neg h1, if_pos h2, if_neg h3])
  · exact fin _ _ (by decide) (by rw [if_neg h1, if_neg h2, if_pos h3])
  · exact fin _ _ (by decide) (by rw [if_neg h1, if_neg h2, if_neg h3])
theorem pa_we {post : Int32 → Prop} {n : Nat} (hn : n < 1000) (h : post (pa_e n)) : wpX_decletOf post (nI n) := by
  refine And.intro (by decide) (nm_r (e' := nI (n / 100)) (pk_div (by omega) (by decide) (by decide)) ⟨by decide, by decide, nm_r (e' := nI (n / 10 % 10)) ?_ ⟨by decide, nm_r (e' := nI (n % 10)) (pk_rem (by omega) (by decide) (by decide)) (pa_wex h)⟩⟩)
  have e : nI n / 10 = nI (n / 10) := pk_div (by omega) (by decide) (by decide)
  rw [e]
  exact pk_rem (d := 10) (by omega) (by decide) (by decide)
/-- the least declet of a number -/
theorem pa_least1 : ∀ n : Nat, n < 1000 → (pa_e n).toNatClampNeg < 1024 ∧ pa_e n = nI (pa_e n).toNatClampNeg ∧ pa_dy (pa_e n) = nI n := by decide +kernel
theorem pa_least2 : ∀ d : Nat, d < 1024 → (pa_e (pa_dy (nI d)).toNatClampNeg).toNatClampNeg ≤ d := by decide +kernel
theorem pa_packed_lp {post : Int32 → Prop} {n : Nat} (hn : n < 1000) (h : post (pa_e n)) : ∀ m d : Nat, d + m = (pa_e n).toNatClampNeg → ∀ k, m < k → wY_packed_2 post (nI n) k (nI d) := by
  obtain ⟨a1, a2, a3⟩ := pa_least1 n hn
  intro m
  induction m with
  | zero =>
    intro d hd k hk
    obtain ⟨k, rfl⟩ := yr_fuel hk
    rw [Nat.add_zero] at hd
    rw [wY_packed_2]
    refine pa_wdy ?_
    refine br_t ?_ ?_
    · rw [hd, ← a2, a3]
    · rw [hd, ← a2]
      exact h
  | succ m ih =>
    intro d hd k hk
    obtain ⟨k, rfl⟩ := yr_fuel hk
    rw [wY_packed_2]
    refine pa_wdy ?_
    refine br_f ?_ (nm_r (nI_1 d) (ih (d + 1) (by omega) k (by omega)))
    intro he
    have h2 := pa_least2 d (by omega)
    rw [he, nI_clamp (by omega)] at h2
    omega
theorem pa_packed {post : Int32 → Prop} {n : Nat} (hn : n < 1000) (h : post (pa_e n)) : wpY_packed post (nI n) :=
  ⟨(pa_e n).toNatClampNeg + 1, pa_packed_lp hn h (pa_e n).toNatClampNeg 0 (by omega) _ (by omega)⟩
/-! patterns -/
def pa_s (f s : Nat) : Int32 := if s = 0 then 0 else if f = 0 then 32768 else -2147483648
theorem pa_wsX {post : Int32 → Prop} {f s : Nat} (hf : f < 4) (hs : s < 2) (h : post (pa_s f s)) : wpX_signOf post (nI f) (nI s) := by
  unfold pa_s at h
  exact pk_eq s 0 (fun e => by rw [if_pos e] at h; exact h) (fun e => by
    rw [if_neg e] at h
    exact pk_eq f 0 (fun e => by rw [if_pos e] at h; exact h) (fun e => by rw [if_neg e] at h; exact h))
theorem pa_wsY {post : Int32 → Prop} {f s : Nat} (hf : f < 4) (hs : s < 2) (h : post (pa_s f s)) : wpY_sign post (nI f) (nI s) := by
  unfold pa_s at h
  exact pk_eq s 0 (fun e => by rw [if_pos e] at h; exact h) (fun e => by
    rw [if_neg e] at h
    exact pk_eq f 0 (fun e => by rw [if_pos e] at h; exact h) (fun e => by rw [if_neg e] at h; exact h))
def pa_inf (f s : Nat) : Int32 := if f = 0 then pa_s f s ||| 31744 else if f = 1 then pa_s f s ||| 2139095040 else pa_s f s ||| 2013265920
theorem pa_winfX {post : Int32 → Prop} {f s : Nat} (hf : f < 4) (hs : s < 2) (h : post (pa_inf f s)) : wpX_infinity post (nI f) (nI s) := by
  unfold pa_inf at h
  refine pa_wsX hf hs ?_
  exact pk_eq f 0 (fun e => by rw [if_pos e] at h; exact h) (fun e => by
    rw [if_neg e] at h
    exact pk_eq f 1 (fun e => by rw [if_pos e] at h; exact h) (fun e => by rw [if_neg e] at h; exact h))
theorem pa_winfY {post : Int32 → Prop} {f s : Nat} (hf : f < 4) (hs : s < 2) (h : post (pa_inf f s)) : wpY_infinite post (nI f) (nI s) := by
  unfold pa_inf at h
  refine pa_wsY hf hs ?_
  exact pk_eq f 0 (fun e => by rw [if_pos e] at h; exact h) (fun e => by
    rw [if_neg e] at h
    exact pk_eq f 1 (fun e => by rw [if_pos e] at h; exact h) (fun e => by rw [if_neg e] at h; exact h))
def pa_nan (f : Nat) : Int32 := if f = 0 then 32256 else if f = 1 then 2143289344 else 2080374784
theorem pa_wnanX {post : Int32 → Prop} {f : Nat} (hf : f < 4) (h : post (pa_nan f)) : wpX_nan post (nI f) := by
  unfold pa_nan at h
  exact pk_eq f 0 (fun e => by rw [if_pos e] at h; exact h) (fun e => by
    rw [if_neg e] at h
    exact pk_eq f 1 (fun e => by rw [if_pos e] at h; exact h) (fun e => by rw [if_neg e] at h; exact h))
theorem pa_wnanY {post : Int32 → Prop} {f : Nat} (hf : f < 4) (h : post (pa_nan f)) : wpY_nan post (nI f) := by
  unfold pa_nan at h
  exact pk_eq f 0 (fun e => by rw [if_pos e] at h; exact h) (fun e => by
    rw [if_neg e] at h
    exact pk_eq f 1 (fun e => by rw [if_pos e] at h; exact h) (fun e => by rw [if_neg e] at h; exact h))
end
section
/-! patterns of finite numbers -/
def pa_P0 (s c : Nat) (x : Int32) : Int32 := if c < 1024 then pa_s 0 s ||| nI c else (pa_s 0 s ||| ((x + 1) <<< (nI 10 &&& 31))) ||| nI (c - 1024)
def pa_P1 (s c : Nat) (x : Int32) : Int32 := if c < 8388608 then pa_s 1 s ||| nI c else (pa_s 1 s ||| ((x + 1) <<< (nI 23 &&& 31))) ||| nI (c - 8388608)
def pa_P2 (s c : Nat) (x : Int32) : Int32 := if c < 8388608 then (pa_s 2 s ||| (x <<< ((23 : Int32) &&& 31))) ||| nI c else ((pa_s 2 s ||| 1610612736) ||| (x <<< ((21 : Int32) &&& 31))) ||| nI (c - 8388608)
def pa_P3t (c : Nat) (x : Int32) : Int32 := if c / 1000000 < 8 then ((x >>> ((6 : Int32) &&& 31)) <<< ((3 : Int32) &&& 31)) ||| nI (c / 1000000) else (24 ||| ((x >>> ((6 : Int32) &&& 31)) <<< ((1 : Int32) &&& 31))) ||| nI (c / 1000000 - 8)
def pa_P3 (s c : Nat) (x : Int32) : Int32 := (((pa_s 3 s ||| ((pa_P3t c x) <<< ((26 : Int32) &&& 31))) ||| ((x &&& 63) <<< ((20 : Int32) &&& 31))) ||| ((pa_e (c / 1000 % 1000)) <<< ((10 : Int32) &&& 31))) ||| pa_e (c % 1000)
def pa_P (f s c : Nat) (q : Int) : Int32 := if f = 0 then pa_P0 s c (zz_I (q - fm_l 0)) else if f = 1 then pa_P1 s c (zz_I (q - fm_l 1)) else if f = 2 then pa_P2 s c (zz_I (q - fm_l 2)) else pa_P3 s c (zz_I (q - fm_l 3))
theorem pa_wPX {post : Int32 → Prop} {f s c : Nat} {q : Int} (hf : f < 4) (hs : s < 2) (hc : c < fm_b f ^ fm_p f) (h : post (pa_P f s c q)) : wpX_pack post (nI f) (nI s) (lN c) (zz_I q) := by
  refine pa_wsX hf hs (xw_leastOf hf (nm_r (zz_Isub q (fm_l f)) ?_))
  rw [lN_i]
  rcases (show f = 0 ∨ f = 1 ∨ f = 2 ∨ f = 3 by omega) with rfl | rfl | rfl | rfl
  · have hc' : c < 2048 := hc
    have h' : post (pa_P0 s c (zz_I (q - fm_l 0))) := h
    unfold pa_P0 at h'
    refine br_f (by decide) (xw_precisionOf (f := 0) (by decide) (nm_r (e' := nI 10) (by decide) ?_))
    have e1 : nI c >>> (nI 10 &&& 31) = nI (c / 2 ^ 10) := pk_shrN (by omega) _ 10 (by decide)
    have e2 : nI c &&& (((1 : Int32) <<< (nI 10 &&& 31)) - 1) = nI (c % 2 ^ 10) := pk_andN (by omega) 10 (by decide)
    rw [e1, e2]
    refine pk_eq (c / 2 ^ 10) 0 (fun e => ?_) (fun e => ?_)
    · rw [if_pos (by omega)] at h'
      exact h'
    · rw [if_neg (by omega)] at h'
      have e3 : c % 2 ^ 10 = c - 1024 := by omega
      rw [e3]
      exact h'
  · have hc' : c < 16777216 := hc
    have h' : post (pa_P1 s c (zz_I (q - fm_l 1))) := h
    unfold pa_P1 at h'
    refine br_f (by decide) (xw_precisionOf (f := 1) (by decide) (nm_r (e' := nI 23) (by decide) ?_))
    have e1 : nI c >>> (nI 23 &&& 31) = nI (c / 2 ^ 23) := pk_shrN (by omega) _ 23 (by decide)
    have e2 : nI c &&& (((1 : Int32) <<< (nI 23 &&& 31)) - 1) = nI (c % 2 ^ 23) := pk_andN (by omega) 23 (by decide)
    rw [e1, e2]
    refine pk_eq (c / 2 ^ 23) 0 (fun e => ?_) (fun e => ?_)
    · rw [if_pos (by omega)] at h'
      exact h'
    · rw [if_neg (by omega)] at h'
      have e3 : c % 2 ^ 23 = c - 8388608 := by omega
      rw [e3]
      exact h'
  · have hc' : c < 10000000 := hc
    have h' : post (pa_P2 s c (zz_I (q - fm_l 2))) := h
    unfold pa_P2 at h'
    refine br_t (by decide) (br_t (by decide) ?_)
    have e2 : nI c &&& 2097151 = nI (c % 2 ^ 21) := pk_andN (by omega) 21 (by decide)
    rw [e2]
    refine pk_le 8388608 c (fun e => ?_) (fun e => ?_)
    · rw [if_neg (by omega)] at h'
      have e3 : c % 2 ^ 21 = c - 8388608 := by omega
      rw [e3]
      exact h'
    · rw [if_pos (by omega)] at h'
      exact h'
  · have hc' : c < 10000000 := hc
    have h' : post (pa_P3 s c (zz_I (q - fm_l 3))) := h
    unfold pa_P3 pa_P3t at h'
    refine br_t (by decide) (br_f (by decide) ⟨by decide, nm_r (e' := nI (c / 1000000)) (pk_div (by omega) (by decide) (by decide)) ⟨by decide, by decide, ?_⟩⟩)
    have ed : nI c / 1000 = nI (c / 1000) := pk_div (by omega) (by decide) (by decide)
    have e1 : nI c / 1000 - nI c / 1000 / 1000 * 1000 = nI (c / 1000 % 1000) := by
      rw [ed]
      exact pk_rem (d := 1000) (by omega) (by decide) (by decide)
    have e2 : nI c - nI c / 1000 * 1000 = nI (c % 1000) := pk_rem (d := 1000) (by omega) (by decide) (by decide)
    rw [e1]
    refine pa_we (by omega) ⟨by decide, ?_⟩
    rw [e2]
    refine pa_we (by omega) ?_
    refine pk_le 8 (c / 1000000) (fun e => ?_) (fun e => ?_)
    · rw [if_neg (by omega)] at h'
      have e3 : nI (c / 1000000) &&& 1 = nI (c / 1000000 - 8) := by
        rw [pk_andN (by omega) 1 (by decide)]
        congr 1
        omega
      rw [e3]
      exact h'
    · rw [if_pos (by omega)] at h'
      exact h'
theorem pa_wPY {post : Int32 → Prop} {f s c : Nat} {q : Int} (hf : f < 4) (hs : s < 2) (hc : c < fm_b f ^ fm_p f) (h : post (pa_P f s c q)) : wpY_finite post (nI f) (nI s) (lN c) (zz_I q) := by
  refine pa_wsY hf hs (yw_least hf (nm_r (zz_Isub q (fm_l f)) ?_))
  rw [lN_i]
  rcases (show f = 0 ∨ f = 1 ∨ f = 2 ∨ f = 3 by omega) with rfl | rfl | rfl | rfl
  · have hc' : c < 2048 := hc
    have h' : post (pa_P0 s c (zz_I (q - fm_l 0))) := h
    unfold pa_P0 at h'
    refine br_f (by decide) (yw_precision (f := 0) (by decide) (nm_r (e' := nI 10) (by decide) ?_))
    have e1 : (1 : Int32) <<< (nI 10 &&& 31) = nI 1024 := by decide
    rw [e1]
    refine pk_le 1024 c (fun e => ?_) (fun e => ?_)
    · rw [if_neg (by omega)] at h'
      rw [pk_sub (by omega)]
      exact h'
    · rw [if_pos (by omega)] at h'
      exact h'
  · have hc' : c < 16777216 := hc
    have h' : post (pa_P1 s c (zz_I (q - fm_l 1))) := h
    unfold pa_P1 at h'
    refine br_f (by decide) (yw_precision (f := 1) (by decide) (nm_r (e' := nI 23) (by decide) ?_))
    have e1 : (1 : Int32) <<< (nI 23 &&& 31) = nI 8388608 := by decide
    rw [e1]
    refine pk_le 8388608 c (fun e => ?_) (fun e => ?_)
    · rw [if_neg (by omega)] at h'
      rw [pk_sub (by omega)]
      exact h'
    · rw [if_pos (by omega)] at h'
      exact h'
  · have hc' : c < 10000000 := hc
    have h' : post (pa_P2 s c (zz_I (q - fm_l 2))) := h
    unfold pa_P2 at h'
    refine br_t (by decide) (br_t (by decide) ?_)
    refine pk_le 8388608 c (fun e => ?_) (fun e => ?_)
    · rw [if_neg (by omega)] at h'
      have e2 : nI c - 8388608 = nI (c - 8388608) := pk_sub (b := 8388608) e
      rw [e2]
      exact h'
    · rw [if_pos (by omega)] at h'
      exact h'
  · have hc' : c < 10000000 := hc
    have h' : post (pa_P3 s c (zz_I (q - fm_l 3))) := h
    unfold pa_P3 at h'
    refine br_t (by decide) (br_f (by decide) ⟨by decide, nm_r (e' := nI (c / 1000000)) (pk_div (by omega) (by decide) (by decide)) ?_⟩)
    have ed : nI c / 1000 = nI (c / 1000) := pk_div (by omega) (by decide) (by decide)
    have e1 : nI c / 1000 - nI c / 1000 / 1000 * 1000 = nI (c / 1000 % 1000) := by
      rw [ed]
      exact pk_rem (d := 1000) (by omega) (by decide) (by decide)
    have e2 : nI c - nI c / 1000 * 1000 = nI (c % 1000) := pk_rem (d := 1000) (by omega) (by decide) (by decide)
    have fin : ∀ z0 : Int32, z0 = pa_P3t c (zz_I (q - fm_l 3)) → wY_finite_156 post (nI c) (pa_s 3 s) (zz_I (q - fm_l 3)) z0 := by
      intro z0 hz
      refine And.intro (by decide) ⟨by decide, ?_⟩
      rw [e1]
      refine pa_packed (by omega) ⟨by decide, ?_⟩
      rw [e2]
      refine pa_packed (by omega) ?_
      rw [hz]
      exact h'
    refine pk_le 8 (c / 1000000) (fun e => fin _ ?_) (fun e => fin _ ?_)
    · unfold pa_P3t
      rw [if_neg (by omega)]
      have e3 : nI (c / 1000000) - 8 = nI (c / 1000000 - 8) := pk_sub (b := 8) e
      rw [e3]
    · unfold pa_P3t
      rw [if_pos (by omega)]
end
section
/-! the component: settling, powers, digits -/
/-- what is kept of a state: raised, trapped, mode, format, bits -/
def xs_S (u : SX) (rs tr md : Int32) (fo bi : Nat → Int32) : Prop := u.1 = rs ∧ u.2.1 = tr ∧ u.2.2.1 = md ∧ u.2.2.2.2.2.2.2.2.2.1 = fo ∧ u.2.2.2.2.2.2.2.2.2.2.1 = bi
def ys_S (u : SY) (rs tr md : Int32) (fo bi : Nat → Int32) : Prop := u.2.1 = rs ∧ u.2.2.1 = tr ∧ u.1 = md ∧ u.2.2.2.2.2.1 = fo ∧ u.2.2.2.2.2.2.1 = bi
def st_bi (tr : Int32) (bi : Nat → Int32) (d : Nat) (fl pt : Int32) : Nat → Int32 := if fl &&& tr = 0 then upd bi d pt else bi
/-- how a call that writes a register ends -/
def xs_D (post : Int32 → SX → Prop) (rs tr md : Int32) (fo bi : Nat → Int32) (d : Nat) (fl pt : Int32) : Prop := ∀ u' : SX, xs_S u' (rs ||| fl) tr md fo (st_bi tr bi d fl pt) → post fl u'
def ys_D (post : Int32 → SY → Prop) (rs tr md : Int32) (fo bi : Nat → Int32) (d : Nat) (fl pt : Int32) : Prop := ∀ u' : SY, ys_S u' (rs ||| fl) tr md fo (st_bi tr bi d fl pt) → post fl u'
section
variable {f_raised : Int32} {f_trapped : Int32} {f_mode : Int32} {f_below : Int32} {f_value : Int64} {f_power : Int32} {f_rest : Int32} {f_wish : Int32} {f_exact : Int32} {a_format : Nat → Int32} {a_bits : Nat → Int32} {a_kind : Nat → Int32} {a_minus : Nat → Int32} {a_coefficient : Nat → Int64} {a_exponent : Nat → Int32} {a_wide : Nat → Int32} {post : Int32 → SX → Prop}
theorem xw_settle {d : Nat} {fl pt : Int32} (hd : d < 8) (H : xs_D post f_raised f_trapped f_mode a_format a_bits d fl pt) : wpX_settle post (f_raised, f_trapped, f_mode, f_below, f_value, f_power, f_rest, f_wish, f_exact, a_format, a_bits, a_kind, a_minus, a_coefficient, a_exponent, a_wide) (nI d) fl pt := by
  refine nm_e (br_c (fun h => ⟨vp_in_nI hd (by decide), nm_e ?_⟩) (fun h => ?_))
  · refine H _ ⟨rfl, rfl, rfl, rfl, ?_⟩
    show upd a_bits (nI d).toNatClampNeg pt = st_bi f_trapped a_bits d fl pt
    unfold st_bi
    rw [if_pos h, nI_clamp (by omega)]
  · refine H _ ⟨rfl, rfl, rfl, rfl, ?_⟩
    show a_bits = st_bi f_trapped a_bits d fl pt
    unfold st_bi
    rw [if_neg h]
theorem xw_invalid {d f : Nat} (hd : d < 8) (hf : f < 4) (ef : a_format d = nI f) (H : xs_D post f_raised f_trapped f_mode a_format a_bits d 1 (pa_nan f)) : wpX_invalid post (f_raised, f_trapped, f_mode, f_below, f_value, f_power, f_rest, f_wish, f_exact, a_format, a_bits, a_kind, a_minus, a_coefficient, a_exponent, a_wide) (nI d) := by
  refine And.intro (vp_in_nI hd (by decide)) ?_
  rw [nI_clamp (by omega), ef]
  exact pa_wnanX hf (xw_settle hd (fun u' h => H u' h))
theorem xw_infinite {d f s : Nat} {fl : Int32} (hd : d < 8) (hf : f < 4) (hs : s < 2) (ef : a_format d = nI f) (H : xs_D post f_raised f_trapped f_mode a_format a_bits d fl (pa_inf f s)) : wpX_infinite post (f_raised, f_trapped, f_mode, f_below, f_value, f_power, f_rest, f_wish, f_exact, a_format, a_bits, a_kind, a_minus, a_coefficient, a_exponent, a_wide) (nI d) (nI s) fl := by
  refine And.intro (vp_in_nI hd (by decide)) ?_
  rw [nI_clamp (by omega), ef]
  exact pa_winfX hf hs (xw_settle hd (fun u' h => H u' h))
end
theorem xw_raise_lp {post : Int64 → Prop} {N : Nat} (hN : N < 2147483648) (h : post (lN (10 ^ N))) : ∀ m k : Nat, k + m = N → ∀ n, m < n → wX_raise_14 post (nI N) n (lN (10 ^ k)) (nI k) := by
  intro m
  induction m with
  | zero =>
    intro k hk n hn
    obtain ⟨n, rfl⟩ := yr_fuel hn
    have e : k = N := by omega
    subst e
    exact br_t (nI_le (Nat.le_refl _) hN) h
  | succ m ih =>
    intro k hk n hn
    obtain ⟨n, rfl⟩ := yr_fuel hn
    refine br_f (nI_ge (by omega) hN) (nm_r (e' := lN (10 ^ (k + 1))) ?_ (nm_r (nI_1 k) (ih (k + 1) (by omega) n (by omega))))
    rw [Nat.pow_succ, ← lN_mul]
    rfl
theorem xw_raise {post : Int64 → Prop} {b n : Nat} (hb : b = 2 ∨ b = 10) (hn : n < 63) (h : post (lN (b ^ n))) : wpX_raise post (nI b) (nI n) := by
  rcases hb with rfl | rfl
  · refine br_t (by decide) ?_
    have e := wb_shl 1 (k := n) (by omega)
    rw [Nat.one_mul] at e
    rw [← e] at h
    exact h
  · refine br_f (by decide) ⟨n + 1, ?_⟩
    exact xw_raise_lp (by omega) h n 0 (by omega) (n + 1) (by omega)
theorem yw_power_lp {post : Int64 → Prop} {b N : Nat} (hb : b < 2147483648) (hN : N < 2147483648) (h : post (lN (b ^ N))) : ∀ m k : Nat, k + m = N → ∀ n, m < n → wY_power_5 post (nI b) (nI N) n (lN (b ^ k)) (nI k) := by
  intro m
  induction m with
  | zero =>
    intro k hk n hn
    obtain ⟨n, rfl⟩ := yr_fuel hn
    have e : k = N := by omega
    subst e
    exact br_t (nI_le (Nat.le_refl _) hN) h
  | succ m ih =>
    intro k hk n hn
    obtain ⟨n, rfl⟩ := yr_fuel hn
    refine br_f (nI_ge (by omega) hN) (nm_r (e' := lN (b ^ (k + 1))) ?_ (nm_r (nI_1 k) (ih (k + 1) (by omega) n (by omega))))
    rw [Nat.pow_succ, ← lN_mul, nI_l hb]
theorem yw_power {post : Int64 → Prop} {b N : Nat} (hb : b < 2147483648) (hN : N < 2147483648) (h : post (lN (b ^ N))) : wpY_power post (nI b) (nI N) :=
  ⟨N + 1, yw_power_lp hb hN h N 0 (by omega) (N + 1) (by omega)⟩
theorem xw_digits_lp {post : Int32 → Prop} {b N : Nat} (hb : b = 2 ∨ b = 10) (h : post (nI N)) : ∀ m k v : Nat, k + m = N → v < 9223372036854775808 → dg_n b v m → ∀ n, m < n → wX_digits_5 post (nI b) n (nI k) (lN v) := by
  obtain ⟨b0, b2, b10, bb⟩ := yr_b hb
  intro m
  induction m with
  | zero =>
    intro k v hk hv hd n hn
    obtain ⟨n, rfl⟩ := yr_fuel hn
    have hz : v = 0 := (dg_n0 b0 hd).mpr rfl
    have e : k = N := by omega
    subst hz e
    exact br_t (by decide) h
  | succ m ih =>
    intro k v hk hv hd n hn
    obtain ⟨n, rfl⟩ := yr_fuel hn
    have hpos : 0 < v := by
      rcases Nat.eq_zero_or_pos v with h | h
      · have := (dg_n0 b0 hd).mp h
        omega
      · exact h
    obtain ⟨m', e, hd'⟩ := dg_n_div b2 hpos hd
    have e' : m' = m := by omega
    subst e'
    refine zz_lle v 0 (fun h => absurd h (by omega)) (fun _ => nm_r (nI_1 k) ⟨yr_n0 hb, nm_r (e' := lN (v / b)) ?_ (ih (k + 1) (v / b) (by omega) (Nat.lt_of_le_of_lt (Nat.div_le_self _ _) hv) hd' n (by omega))⟩)
    rw [nI_l bb, pk_lDiv hv b0 (by omega)]
theorem xw_digits {post : Int32 → Prop} {b v N : Nat} (hb : b = 2 ∨ b = 10) (hv : v < 9223372036854775808) (hd : dg_n b v N) (h : post (nI N)) : wpX_digits post (nI b) (lN v) :=
  ⟨N + 1, xw_digits_lp hb h N 0 v (by omega) hv hd (N + 1) (by omega)⟩
def xr_w (b : Nat) : Nat := if b = 2 then 61 else 18
theorem xw_room {post : Int32 → Prop} {b v N : Nat} (hb : b = 2 ∨ b = 10) (hv : v < 9223372036854775808) (hd : dg_n b v N) (hN : N ≤ xr_w b) (h : post (nI (xr_w b - N))) : wpX_room post (nI b) (lN v) := by
  refine xw_digits hb hv hd ?_
  rcases hb with rfl | rfl
  · refine br_t (by decide) ?_
    have e : (61 : Int32) - nI N = nI (61 - N) := pk_sub (a := 61) hN
    rw [e]
    exact h
  · refine br_f (by decide) ?_
    have e : (18 : Int32) - nI N = nI (18 - N) := pk_sub (a := 18) hN
    rw [e]
    exact h
end
section
/-! the component: the result as a whole number of units -/
section
variable {f_raised : Int32} {f_trapped : Int32} {f_mode : Int32} {f_below : Int32} {f_value : Int64} {f_power : Int32} {f_rest : Int32} {f_wish : Int32} {f_exact : Int32} {a_format : Nat → Int32} {a_bits : Nat → Int32} {a_kind : Nat → Int32} {a_minus : Nat → Int32} {a_coefficient : Nat → Int64} {a_exponent : Nat → Int32} {a_wide : Nat → Int32}
theorem xw_enl_lp {post : Int64 → Prop} {b v K mo : Nat} (hb : b = 2 ∨ b = 10) (hK : K < 2147483648) (hmo : mo * b ≤ 4000000000000000000) (H : ∀ c, c < 9223372036854775808 → (c = v * b ^ K ∨ (mo < c ∧ c ≤ v * b ^ K)) → post (lN c)) : ∀ j k : Nat, k + j = K → v * b ^ k < 9223372036854775808 → ∀ n, j < n → wX_enlarged_16 post (nI b) (nI K) (lN mo) f_raised f_trapped f_mode f_below f_value f_power f_rest f_wish f_exact a_format a_bits a_kind a_minus a_coefficient a_exponent a_wide n (lN (v * b ^ k)) (nI k) := by
  obtain ⟨b0, b2, b10, bb⟩ := yr_b hb
  have hmo' : mo < 9223372036854775808 := by
    have : mo * 1 ≤ mo * b := Nat.mul_le_mul_left mo (by omega)
    omega
  intro j
  induction j with
  | zero =>
    intro k hk hc n hn
    obtain ⟨n, rfl⟩ := yr_fuel hn
    have e : k = K := by omega
    subst e
    exact br_t (nI_le (Nat.le_refl _) hK) (H _ hc (Or.inl rfl))
  | succ j ih =>
    intro k hk hc n hn
    obtain ⟨n, rfl⟩ := yr_fuel hn
    have hle : v * b ^ k ≤ v * b ^ K := Nat.mul_le_mul_left v (dg_pow_le b0 (by omega))
    refine br_f (nI_ge (by omega) hK) (zz_lle (v * b ^ k) 0 (fun h => ?_) (fun h0 => zz_llt mo (v * b ^ k) (fun h => ?_) (fun h => ?_)))
    · refine H _ hc (Or.inl ?_)
      have h1 : v * b ^ k = 0 := by omega
      rw [h1]
      rcases Nat.mul_eq_zero.mp h1 with h2 | h2
      · rw [h2, Nat.zero_mul]
      · have : 0 < b ^ k := Nat.pow_pos b0
        omega
    · exact H _ hc (Or.inr ⟨h, hle⟩)
    · refine nm_r (e' := lN (v * b ^ (k + 1))) ?_ (nm_r (nI_1 k) (ih (k + 1) (by omega) ?_ n (by omega)))
      · rw [nI_l bb, lN_mul, Nat.pow_succ, Nat.mul_assoc]
      · rw [Nat.pow_succ, ← Nat.mul_assoc]
        have := Nat.mul_le_mul_right b h
        omega
theorem xw_enlarged {post : Int64 → Prop} {b v K : Nat} (hb : b = 2 ∨ b = 10) (hK : K < 2147483648) (hv : v < 9223372036854775808) (H : ∀ c, c < 9223372036854775808 → (c = v * b ^ K ∨ (4000000000000000000 / b < c ∧ c ≤ v * b ^ K)) → post (lN c)) : wpX_enlarged post (f_raised, f_trapped, f_mode, f_below, lN v, f_power, f_rest, f_wish, f_exact, a_format, a_bits, a_kind, a_minus, a_coefficient, a_exponent, a_wide) (nI b) (nI K) := by
  obtain ⟨b0, b2, b10, bb⟩ := yr_b hb
  refine And.intro (yr_n0 hb) (nm_r (e' := lN (4000000000000000000 / b)) ?_ ⟨K + 1, ?_⟩)
  · rw [nI_l bb]
    exact pk_lDiv (a := 4000000000000000000) (by decide) b0 (by omega)
  · have h : wX_enlarged_16 post (nI b) (nI K) (lN (4000000000000000000 / b)) f_raised f_trapped f_mode f_below (lN v) f_power f_rest f_wish f_exact a_format a_bits a_kind a_minus a_coefficient a_exponent a_wide (K + 1) (lN (v * b ^ 0)) (nI 0) := xw_enl_lp hb hK (Nat.div_mul_le_self _ _) H K 0 (by omega) (by rw [Nat.pow_zero, Nat.mul_one]; exact hv) (K + 1) (by omega)
    rw [Nat.pow_zero, Nat.mul_one] at h
    exact h
variable {post : Int64 → SX → Prop}
def xr_u0 (m s pt : Nat) : Nat := if m = 2 then (if pt = 0 then 0 else if s = 0 then 1 else 0) else if m = 3 then (if pt = 0 then 0 else if s = 0 then 0 else 1) else if pt = 3 then 1 else 0
def xr_u (m pt u0 odd : Nat) : Nat := if m = 4 then 0 else if pt = 2 ∧ m < 2 then (if m = 1 then 1 else odd) else u0
theorem xr_u_eq : ∀ m, m < 5 → ∀ pt, pt < 4 → ∀ s, s < 2 → ∀ odd, odd < 2 → xr_u m pt (xr_u0 m s pt) odd = rn_up m s pt odd := by decide
theorem xw_288 {m c u : Nat} (hm : m < 5) (hu : u < 2) (H : post (lN (c + if m = 4 then 0 else u)) (f_raised, f_trapped, f_mode, f_below, f_value, f_power, f_rest, f_wish, f_exact, a_format, a_bits, a_kind, a_minus, a_coefficient, a_exponent, a_wide)) : wX_whole_288 post (nI m) (lN c) (nI u) f_raised f_trapped f_mode f_below f_value f_power f_rest f_wish f_exact a_format a_bits a_kind a_minus a_coefficient a_exponent a_wide := by
  have fin : ∀ u', u' < 2 → u' = (if m = 4 then 0 else u) → wX_whole_296 post (lN c) (nI u') f_raised f_trapped f_mode f_below f_value f_power f_rest f_wish f_exact a_format a_bits a_kind a_minus a_coefficient a_exponent a_wide := by
    intro u' h2 e
    rw [← e] at H
    refine pk_eq u' 0 (fun h => ?_) (fun h => ?_)
    · rw [h] at H
      exact H
    · have h1 : u' = 1 := by omega
      rw [h1, ← lN_1] at H
      exact H
  refine pk_eq m 4 (fun h => ?_) (fun h => ?_)
  · exact fin 0 (by decide) (by rw [if_pos h])
  · exact fin u hu (by rw [if_neg h])
theorem xw_254 {m c pt u0 : Nat} (hm : m < 5) (hp : pt < 4) (hu : u0 < 2) (hc : c < 9223372036854775808) (H : post (lN (c + xr_u m pt u0 (c % 2))) (f_raised, f_trapped, f_mode, f_below, f_value, f_power, f_rest, f_wish, f_exact, a_format, a_bits, a_kind, a_minus, a_coefficient, a_exponent, a_wide)) : wX_whole_254 post (nI m) (lN c) (nI pt) (nI u0) f_raised f_trapped f_mode f_below f_value f_power f_rest f_wish f_exact a_format a_bits a_kind a_minus a_coefficient a_exponent a_wide := by
  unfold xr_u at H
  have odd : lN c &&& 1 = lN (c % 2) := wb_a1 (by omega)
  refine pk_eq pt 2 (fun h => pk_le 2 m (fun h2 => xw_288 hm hu ?_) (fun h2 => pk_eq m 1 (fun h1 => xw_288 (u := 1) hm (by decide) ?_) (fun h1 => ?_))) (fun h => xw_288 hm hu ?_)
  · by_cases h4 : m = 4
    · rw [if_pos h4] at H ⊢
      exact H
    · rw [if_neg h4, if_neg (by omega)] at H
      rw [if_neg h4]
      exact H
  · rw [if_neg (by omega), if_pos ⟨h, by omega⟩, if_pos h1] at H
    rw [if_neg (by omega)]
    exact H
  · rw [odd]
    rw [if_neg (by omega), if_pos ⟨h, by omega⟩, if_neg h1] at H
    refine zz_leq (c % 2) 1 (fun h3 => xw_288 (u := 1) hm (by decide) ?_) (fun h3 => xw_288 (u := 0) hm (by decide) ?_)
    · rw [if_neg (by omega)]
      rw [h3] at H
      exact H
    · rw [if_neg (by omega)]
      rw [show c % 2 = 0 by omega] at H
      exact H
  · by_cases h4 : m = 4
    · rw [if_pos h4] at H ⊢
      exact H
    · rw [if_neg h4, if_neg (fun hh => h hh.1)] at H
      rw [if_neg h4]
      exact H
theorem xw_190 {m c pt s z : Nat} (hm : m < 5) (hp : pt < 4) (hs : s < 2) (hz : z < 2) (hc : c < 9223372036854775808) (H : post (lN (c + rn_up m s pt (c % 2))) (f_raised, f_trapped, f_mode, nI s, f_value, f_power, f_rest, f_wish, nI z, a_format, a_bits, a_kind, a_minus, a_coefficient, a_exponent, a_wide)) : wX_whole_190 post (nI m) (lN c) (nI pt) (nI z) f_raised f_trapped f_mode (nI s) f_value f_power f_rest f_wish f_exact a_format a_bits a_kind a_minus a_coefficient a_exponent a_wide := by
  rw [← xr_u_eq m hm pt hp s hs (c % 2) (by omega)] at H
  have fin : ∀ u0, u0 < 2 → u0 = xr_u0 m s pt → wX_whole_254 post (nI m) (lN c) (nI pt) (nI u0) f_raised f_trapped f_mode (nI s) f_value f_power f_rest f_wish (nI z) a_format a_bits a_kind a_minus a_coefficient a_exponent a_wide := by
    intro u0 h2 e
    rw [← e] at H
    exact xw_254 hm hp h2 hc H
  unfold xr_u0 at fin
  refine And.intro (zz_nb hz) ⟨zz_fb hz, ?_⟩
  refine pk_eq m 2 (fun h2 => pk_le pt 0 (fun h0 => ?_) (fun h0 => pk_eq s 0 (fun h1 => ?_) (fun h1 => ?_))) (fun h2 => pk_eq m 3 (fun h3 => pk_le pt 0 (fun h0 => ?_) (fun h0 => pk_eq s 0 (fun h1 => ?_) (fun h1 => ?_))) (fun h3 => pk_eq pt 3 (fun h1 => ?_) (fun h1 => ?_)))
  · exact fin 0 (by decide) (by rw [if_pos h2, if_pos (by omega)])
  · exact fin 1 (by decide) (by rw [if_pos h2, if_neg (by omega), if_pos h1])
  · exact fin 0 (by decide) (by rw [if_pos h2, if_neg (by omega), if_neg h1])
  · exact fin 0 (by decide) (by rw [if_neg h2, if_pos h3, if_pos (by omega)])
  · exact fin 0 (by decide) (by rw [if_neg h2, if_pos h3, if_neg (by omega), if_pos h1])
  · exact fin 1 (by decide) (by rw [if_neg h2, if_pos h3, if_neg (by omega), if_neg h1])
  · exact fin 1 (by decide) (by rw [if_neg h2, if_neg h3, if_pos h1])
  · exact fin 0 (by decide) (by rw [if_neg h2, if_neg h3, if_neg h1])
theorem xw_179 {m c pt s : Nat} (hm : m < 5) (hp : pt < 4) (hs : s < 2) (hc : c < 9223372036854775808) (H : post (lN (c + rn_up m s pt (c % 2))) (f_raised, f_trapped, f_mode, nI s, f_value, f_power, f_rest, f_wish, nI (if pt = 0 then 1 else 0), a_format, a_bits, a_kind, a_minus, a_coefficient, a_exponent, a_wide)) : wX_whole_179 post (nI m) (lN c) (nI pt) f_raised f_trapped f_mode (nI s) f_value f_power f_rest f_wish f_exact a_format a_bits a_kind a_minus a_coefficient a_exponent a_wide := by
  refine pk_eq pt 0 (fun h => ?_) (fun h => ?_)
  · rw [if_pos h] at H
    exact xw_190 hm hp hs (by decide) hc H
  · rw [if_neg h] at H
    exact xw_190 hm hp hs (by decide) hc H
/-- how many digits a drop may have -/
def xr_most (b : Nat) : Nat := if b = 2 then 62 else 18
def xr_bd (b : Nat) : Nat := if b = 2 then 4611686018427387904 else 5000000000000000000
theorem xw_76 {b m v r s k A M : Nat} {z0 : Nat} (hb : b = 2 ∨ b = 10) (hm : m < 5) (hs : s < 2) (hr2 : r < 2) (hM : 0 < M) (hv : v = A / M) (hr : r = 0 ↔ A % M = 0) (hbd : v < xr_bd b) (hk : 0 < k) (hk2 : k < 1000000) (hz : z0 = if A = 0 then 0 else 1) (H : post (lN (rn_r m s A (M * b ^ k))) (f_raised, f_trapped, f_mode, nI s, lN v, f_power, nI r, f_wish, nI (if rn_pt A (M * b ^ k) = 0 then 1 else 0), a_format, a_bits, a_kind, a_minus, a_coefficient, a_exponent, a_wide)) : wX_whole_76 post (nI b) (nI m) (nI k) (nI (xr_most b)) (lN 0) (nI z0) f_raised f_trapped f_mode (nI s) (lN v) f_power (nI r) f_wish f_exact a_format a_bits a_kind a_minus a_coefficient a_exponent a_wide := by
  obtain ⟨b0, b2, b10, bb⟩ := yr_b hb
  have hmost : xr_most b ≤ 62 := by rcases hb with rfl | rfl <;> decide
  have hbd' : xr_bd b < 9223372036854775808 := by rcases hb with rfl | rfl <;> decide
  refine pk_lt (xr_most b) k (fun hl => ?_) (fun hl => ?_)
  · -- beyond
    have h1 : 2 * (v + 1) ≤ b ^ k := by
      rcases hb with rfl | rfl
      · have := dg_pow_le (b := 2) (by decide) (show 63 ≤ k from hl)
        have h3 : xr_bd 2 = 4611686018427387904 := rfl
        have h4 : (2 : Nat) ^ 63 = 9223372036854775808 := by decide
        omega
      · have := dg_pow_le (b := 10) (by decide) (show 19 ≤ k from hl)
        have h3 : xr_bd 10 = 5000000000000000000 := rfl
        have h4 : (10 : Nat) ^ 19 = 10000000000000000000 := by decide
        omega
    have h2 : A < M * (v + 1) := by
      rw [hv]
      exact Nat.lt_mul_div_succ _ hM
    have h3 : 2 * A < M * b ^ k := by
      have h4 : M * (2 * (v + 1)) ≤ M * b ^ k := Nat.mul_le_mul_left M h1
      rw [Nat.mul_left_comm] at h4
      omega
    have ept := rn_pt_far h3
    have e0 : A / (M * b ^ k) = 0 := Nat.div_eq_of_lt (by omega)
    unfold rn_r at H
    rw [ept, e0, ← hz] at H
    have hz2 : z0 < 2 := by
      rw [hz]
      split <;> omega
    exact xw_179 hm (by omega) hs (by decide) H
  · have hby : 0 < b ^ k := Nat.pow_pos b0
    have hbyL : b ^ k < 9223372036854775808 := by
      rcases hb with rfl | rfl
      · have := dg_pow_le (b := 2) (by decide) (show k ≤ 62 from hl)
        have h4 : (2 : Nat) ^ 62 = 4611686018427387904 := by decide
        omega
      · have := dg_pow_le (b := 10) (by decide) (show k ≤ 18 from hl)
        have h4 : (10 : Nat) ^ 18 = 1000000000000000000 := by decide
        omega
    have hev : b ^ k = 2 * (b ^ k / 2) := by
      obtain ⟨k', rfl⟩ : ∃ k', k = k' + 1 := ⟨k - 1, by omega⟩
      rw [Nat.pow_succ]
      rcases hb with rfl | rfl <;> omega
    have hh : 0 < b ^ k / 2 := by omega
    have hvL : v < 9223372036854775808 := by omega
    have hlow : v % b ^ k < b ^ k := Nat.mod_lt _ hby
    have eq1 : A / (M * b ^ k) = v / b ^ k := by rw [← Nat.div_div_eq_div_mul, ← hv]
    have eq2 : rn_pt A (M * b ^ k) = if b ^ k / 2 < v % b ^ k ∨ (v % b ^ k = b ^ k / 2 ∧ r ≠ 0) then 3 else if v % b ^ k = b ^ k / 2 then 2 else if 0 < v % b ^ k ∨ r ≠ 0 then 1 else 0 := by
      have h5 := rn_pt_drop (A := A) hM hh
      rw [← hev, ← hv] at h5
      rw [h5]
      have h6 : (A % M = 0) = (r = 0) := propext hr.symm
      simp only [ne_eq, h6]
    unfold rn_r at H
    rw [eq1] at H
    have hcL : v / b ^ k < 9223372036854775808 := Nat.lt_of_le_of_lt (Nat.div_le_self _ _) hvL
    have fin : ∀ pt, pt < 4 → rn_pt A (M * b ^ k) = pt → wX_whole_179 post (nI m) (lN (v / b ^ k)) (nI pt) f_raised f_trapped f_mode (nI s) (lN v) f_power (nI r) f_wish f_exact a_format a_bits a_kind a_minus a_coefficient a_exponent a_wide := by
      intro pt hp e
      rw [e] at H
      exact xw_179 hm hp hs hcL H
    rw [eq2] at fin
    have ne : ¬ lN (b ^ k) = 0 := by
      rw [show (0 : Int64) = lN 0 from rfl, pk_lEQ hbyL (by decide)]
      omega
    have h146 : ¬ (b ^ k / 2 < v % b ^ k ∨ (v % b ^ k = b ^ k / 2 ∧ r ≠ 0)) → wX_whole_146 post (nI m) (lN (v / b ^ k)) (lN (v % b ^ k)) (lN (b ^ k / 2)) f_raised f_trapped f_mode (nI s) (lN v) f_power (nI r) f_wish f_exact a_format a_bits a_kind a_minus a_coefficient a_exponent a_wide := by
      intro hn
      rw [if_neg hn] at fin
      refine zz_leqU (fun h1 => ?_) (fun h1 => zz_llt 0 (v % b ^ k) (fun h2 => ?_) (fun h2 => pk_eq r 0 (fun h3 => ?_) (fun h3 => ?_)))
      · exact fin 2 (by decide) (by rw [if_pos h1])
      · exact fin 1 (by decide) (by rw [if_neg h1, if_pos (Or.inl h2)])
      · exact fin 0 (by decide) (by rw [if_neg h1, if_neg (by omega)])
      · exact fin 1 (by decide) (by rw [if_neg h1, if_pos (Or.inr h3)])
    refine xw_raise hb (by omega) ⟨ne, nm_r (e' := lN (v % b ^ k)) (pk_lRem hvL hby hbyL) ⟨ne, nm_r (e' := lN (v / b ^ k)) (pk_lDiv hvL hby hbyL) ⟨by decide, nm_r (e' := lN (b ^ k / 2)) (pk_lDiv (b := 2) hbyL (by decide) (by decide)) ?_⟩⟩⟩
    refine zz_lltU (fun h1 => ?_) (fun h1 => zz_leqU (fun h2 => pk_eq r 0 (fun h3 => h146 (by omega)) (fun h3 => ?_)) (fun h2 => h146 (by omega)))
    · exact fin 3 (by decide) (by rw [if_pos (Or.inl h1)])
    · exact fin 3 (by decide) (by rw [if_pos (Or.inr ⟨h2, h3⟩)])
theorem xw_whole_up {b m v r s A D U : Nat} {pw q : Int} (hb : b = 2 ∨ b = 10) (hm : m < 5) (hs : s < 2) (hr2 : r < 2) (hD : 0 < D) (hU : 0 ≤ pw + U) (hv : v = A / rn_M D b U pw) (hr : r = 0 ↔ A % rn_M D b U pw = 0) (hbd : v < xr_bd b) (hq : pw < q) (hr1 : -100000 < pw) (hr3 : q < 100000) (H : post (lN (rn_r m s A (rn_M D b U q))) (f_raised, f_trapped, f_mode, nI s, lN v, zz_I pw, nI r, f_wish, nI (if rn_pt A (rn_M D b U q) = 0 then 1 else 0), a_format, a_bits, a_kind, a_minus, a_coefficient, a_exponent, a_wide)) : wpX_whole post (f_raised, f_trapped, f_mode, nI s, lN v, zz_I pw, nI r, f_wish, f_exact, a_format, a_bits, a_kind, a_minus, a_coefficient, a_exponent, a_wide) (nI b) (zz_I q) (nI m) := by
  obtain ⟨b0, b2, b10, bb⟩ := yr_b hb
  obtain ⟨k, hk⟩ : ∃ k : Nat, q = pw + k := ⟨(q - pw).toNat, by omega⟩
  have eM : rn_M D b U q = rn_M D b U pw * b ^ k := by rw [hk, rn_M_add hU]
  rw [eM] at H
  have hM : 0 < rn_M D b U pw := rn_M_pos hD b0
  have hbd' : xr_bd b < 9223372036854775808 := by rcases hb with rfl | rfl <;> decide
  have A0 : A = 0 ↔ (v = 0 ∧ r = 0) := by
    constructor
    · intro h
      rw [h, Nat.zero_mod] at hr
      rw [h, Nat.zero_div] at hv
      exact ⟨hv, hr.mpr rfl⟩
    · intro h
      have e := Nat.div_add_mod A (rn_M D b U pw)
      rw [← hv, h.1, hr.mp h.2] at e
      omega
  have go : ∀ z0 : Nat, z0 = (if A = 0 then 0 else 1) → wX_whole_76 post (nI b) (nI m) (nI k) (nI (xr_most b)) (lN 0) (nI z0) f_raised f_trapped f_mode (nI s) (lN v) (zz_I pw) (nI r) f_wish f_exact a_format a_bits a_kind a_minus a_coefficient a_exponent a_wide := fun z0 hz => xw_76 hb hm hs hr2 hM hv hr hbd (by omega) (by omega) hz H
  have e1 : zz_I q - zz_I pw = nI k := by
    rw [zz_Isub, zz_nI]
    congr 1
    omega
  have h20 : wX_whole_20 post (nI b) (nI m) (nI k) (nI (xr_most b)) f_raised f_trapped f_mode (nI s) (lN v) (zz_I pw) (nI r) f_wish f_exact a_format a_bits a_kind a_minus a_coefficient a_exponent a_wide := by
    refine pk_lt 0 k (fun _ => pk_eq r 0 (fun h1 => zz_lle v 0 (fun h2 => ?_) (fun h2 => ?_)) (fun h1 => ?_)) (fun h => absurd h (by omega))
    · exact go 0 (by rw [if_pos (A0.mpr ⟨by omega, h1⟩)])
    · exact go 1 (by rw [if_neg (fun h => by have := (A0.mp h).1; omega)])
    · exact go 1 (by rw [if_neg (fun h => h1 (A0.mp h).2)])
  refine nm_r e1 ?_
  rcases hb with rfl | rfl
  · exact br_t (by decide) h20
  · exact br_f (by decide) h20
theorem xw_whole_dn {b m v : Nat} {pw q : Int} (hb : b = 2 ∨ b = 10) (hv : v < 9223372036854775808) (hq : q ≤ pw) (hr1 : -100000 < q) (hr3 : pw < 100000) (H : ∀ c, c < 9223372036854775808 → (c = v * b ^ (pw - q).toNat ∨ (4000000000000000000 / b < c ∧ c ≤ v * b ^ (pw - q).toNat)) → post (lN c) (f_raised, f_trapped, f_mode, f_below, lN v, zz_I pw, 0, f_wish, 1, a_format, a_bits, a_kind, a_minus, a_coefficient, a_exponent, a_wide)) : wpX_whole post (f_raised, f_trapped, f_mode, f_below, lN v, zz_I pw, 0, f_wish, f_exact, a_format, a_bits, a_kind, a_minus, a_coefficient, a_exponent, a_wide) (nI b) (zz_I q) (nI m) := by
  have h20 : ∀ z0, wX_whole_20 post (nI b) (nI m) (zz_I (q - pw)) z0 f_raised f_trapped f_mode f_below (lN v) (zz_I pw) 0 f_wish f_exact a_format a_bits a_kind a_minus a_coefficient a_exponent a_wide := by
    intro z0
    refine zz_lt 0 (q - pw) (fun h => absurd h (by omega)) (fun _ => br_t rfl ?_)
    refine And.intro rfl ⟨rfl, ?_⟩
    have e1 : -zz_I (q - pw) = nI (pw - q).toNat := by
      rw [zz_Ineg, zz_nI]
      congr 1
      omega
    rw [e1]
    exact xw_enlarged hb (by omega) hv H
  refine nm_r (zz_Isub q pw) ?_
  rcases hb with rfl | rfl
  · exact br_t (by decide) (h20 _)
  · exact br_f (by decide) (h20 _)
/-- both ways -/
theorem xw_whole {b m v r s A D U : Nat} {pw q : Int} (hb : b = 2 ∨ b = 10) (hm : m < 5) (hs : s < 2) (hr2 : r < 2) (hD : 0 < D) (hU : 0 ≤ pw + U) (hUq : 0 ≤ q + U) (hv : v = A / rn_M D b U pw) (hr : r = 0 ↔ A % rn_M D b U pw = 0) (hbd : v < xr_bd b) (hq : pw < q ∨ (r = 0 ∧ v * b ^ (pw - q).toNat ≤ 4000000000000000000 / b)) (hr1 : -100000 < pw) (hr1' : -100000 < q) (hr3 : q < 100000) (hr3' : pw < 100000) (H : post (lN (rn_r m s A (rn_M D b U q))) (f_raised, f_trapped, f_mode, nI s, lN v, zz_I pw, nI r, f_wish, nI (if rn_pt A (rn_M D b U q) = 0 then 1 else 0), a_format, a_bits, a_kind, a_minus, a_coefficient, a_exponent, a_wide)) : wpX_whole post (f_raised, f_trapped, f_mode, nI s, lN v, zz_I pw, nI r, f_wish, f_exact, a_format, a_bits, a_kind, a_minus, a_coefficient, a_exponent, a_wide) (nI b) (zz_I q) (nI m) := by
  obtain ⟨b0, b2, b10, bb⟩ := yr_b hb
  have hbd' : xr_bd b < 9223372036854775808 := by rcases hb with rfl | rfl <;> decide
  by_cases hl : pw < q
  · exact xw_whole_up hb hm hs hr2 hD hU hv hr hbd hl hr1 hr3 H
  · obtain ⟨h0, hsm⟩ : r = 0 ∧ v * b ^ (pw - q).toNat ≤ 4000000000000000000 / b := by
      rcases hq with h | h
      · exact absurd h hl
      · exact h
    subst h0
    obtain ⟨g1, g2⟩ := rn_fine (D := D) (b := b) (U := U) hD b0 hUq (show q ≤ pw by omega) (hr.mp rfl)
    have gp : rn_pt A (rn_M D b U q) = 0 := rn_pt_0.mpr g2
    rw [rn_r_ex gp, gp, if_pos rfl, g1, ← hv] at H
    refine xw_whole_dn hb (by omega) (by omega) hr1' hr3' ?_
    intro c hc he
    have e : c = v * b ^ (pw - q).toNat := by
      rcases he with he | he
      · exact he
      · omega
    rw [e]
    exact H
end
end
section
/-! the component's round -/
def rn_ov (f m s : Nat) : Int32 := if m = 4 ∨ (m = 2 ∧ ¬ s = 0) ∨ (m = 3 ∧ s = 0) then pa_P f s (fm_b f ^ fm_p f - 1) (fm_g f) else pa_inf f s
def rn_fl (f m s A D U : Nat) (t : Int) : Nat := if fm_g f < rn_q1 f m s A D U (rn_q f t) then 20 else if rn_pt A (rn_M D (fm_b f) U (rn_q f t)) = 0 then 0 else if rn_tB f m s A D U t = true then 24 else 16
def rn_px (f m s A D U : Nat) (t w : Int) : Int32 := pa_P f s (rn_c1 f m s A D U (rn_q f t) / 10 ^ rn_k f (rn_q1 f m s A D U (rn_q f t)) w (rn_c1 f m s A D U (rn_q f t))) (rn_q1 f m s A D U (rn_q f t) + rn_k f (rn_q1 f m s A D U (rn_q f t)) w (rn_c1 f m s A D U (rn_q f t)))
def rn_pat (f m s A D U : Nat) (t w : Int) : Int32 := if fm_g f < rn_q1 f m s A D U (rn_q f t) then rn_ov f m s else if rn_pt A (rn_M D (fm_b f) U (rn_q f t)) = 0 then rn_px f m s A D U t w else pa_P f s (rn_c1 f m s A D U (rn_q f t)) (rn_q1 f m s A D U (rn_q f t))
theorem fm_pw {f : Nat} (hf : f < 4) : fm_p f < 63 ∧ fm_b f ^ fm_p f < 2147483648 ∧ 1 < fm_b f ^ fm_p f := by
  rcases (show f = 0 ∨ f = 1 ∨ f = 2 ∨ f = 3 by omega) with rfl | rfl | rfl | rfl <;> decide
theorem xf_0 {fu : Nat} (h : fu = 0 ∨ fu = 16) : nI fu ||| nI 0 = nI fu := by rcases h with rfl | rfl <;> decide
theorem xf_16 {fu : Nat} (h : fu = 0 ∨ fu = 16) : (nI fu ||| 16) ||| 0 = nI fu ||| nI 16 := by rcases h with rfl | rfl <;> decide
theorem xf_24 {fu : Nat} (h : fu = 0 ∨ fu = 16) : (nI fu ||| 16) ||| 8 = nI fu ||| nI 24 := by rcases h with rfl | rfl <;> decide
theorem xf_20 {fu : Nat} (h : fu = 0 ∨ fu = 16) : (nI fu ||| 4) ||| 16 = nI fu ||| nI 20 := by rcases h with rfl | rfl <;> decide
section
variable {f_raised : Int32} {f_trapped : Int32} {f_mode : Int32} {f_below : Int32} {f_value : Int64} {f_power : Int32} {f_rest : Int32} {f_wish : Int32} {f_exact : Int32} {a_format : Nat → Int32} {a_bits : Nat → Int32} {a_kind : Nat → Int32} {a_minus : Nat → Int32} {a_coefficient : Nat → Int64} {a_exponent : Nat → Int32} {a_wide : Nat → Int32} {post : Int32 → SX → Prop}
theorem xw_343 {d f s c : Nat} {q : Int} {fl : Int32} (hd : d < 8) (hf : f < 4) (hs : s < 2) (hc : c < fm_b f ^ fm_p f) (H : xs_D post f_raised f_trapped f_mode a_format a_bits d fl (pa_P f s c q)) : wX_round_343 post (nI d) (nI f) (zz_I q) (lN c) fl f_raised f_trapped f_mode (nI s) f_value f_power f_rest f_wish f_exact a_format a_bits a_kind a_minus a_coefficient a_exponent a_wide :=
  pa_wPX hf hs hc (xw_settle hd (fun u' h => H u' h))
theorem xw_85 {d f s : Nat} {q : Int} {fl : Int32} (hd : d < 8) (hf : f < 4) (hs : s < 2) (H : xs_D post f_raised f_trapped f_mode a_format a_bits d fl (pa_P f s 0 q)) : wX_round_85 post (nI d) fl (nI f) (zz_I q) f_raised f_trapped f_mode (nI s) f_value f_power f_rest f_wish f_exact a_format a_bits a_kind a_minus a_coefficient a_exponent a_wide :=
  pa_wPX (c := 0) hf hs (Nat.pow_pos (by have := fm_b2 f; omega)) (xw_settle hd (fun u' h => H u' h))
def rn_zq (f : Nat) (w : Int) : Int := if fm_b f = 2 then fm_l f else rn_to f w
theorem xw_round_0 {d f fu s : Nat} {w : Int} (hd : d < 8) (hf : f < 4) (hs : s < 2) (hw : -100000 < w ∧ w < 100000) (ef : a_format d = nI f) (H : xs_D post f_raised f_trapped f_mode a_format a_bits d (nI fu) (pa_P f s 0 (rn_zq f w))) : wpX_round post (f_raised, f_trapped, f_mode, nI s, lN 0, f_power, 0, zz_I w, f_exact, a_format, a_bits, a_kind, a_minus, a_coefficient, a_exponent, a_wide) (nI d) (nI fu) := by
  refine And.intro (vp_in_nI hd (by decide)) (nm_r (e' := nI f) (by rw [nI_clamp (by omega)]; exact ef) ?_)
  refine xw_baseOf hf (xw_precisionOf hf (xw_leastOf hf (xw_greatestOf hf ?_)))
  refine br_t rfl (br_t rfl ?_)
  unfold rn_zq at H
  have hff := fm_facts hf
  refine zz_lt w (fm_l f) (fun h => ?_) (fun h => pk_eq (fm_b f) 2 (fun h2 => ?_) (fun h2 => zz_le w (fm_g f) (fun h3 => ?_) (fun h3 => ?_)))
  · refine xw_85 hd hf hs ?_
    unfold rn_to at H
    rw [if_pos h] at H
    by_cases h2 : fm_b f = 2
    · rw [if_pos h2] at H
      exact H
    · rw [if_neg h2] at H
      exact H
  · rw [if_pos h2] at H
    exact xw_85 hd hf hs H
  · unfold rn_to at H
    rw [if_neg h2, if_neg (by omega), if_neg (by omega)] at H
    exact xw_85 hd hf hs H
  · unfold rn_to at H
    rw [if_neg h2, if_neg (by omega), if_pos h3] at H
    exact xw_85 hd hf hs H
theorem xw_311 {d f s : Nat} {to : Int} {fl : Int32} (hd : d < 8) (hf : f < 4) (hs : s < 2) (hto : -100000 < to ∧ to < 100000) : ∀ k c : Nat, ∀ q : Int, (to - q).toNat = k → -100000 < q → q < 100000 → c < fm_b f ^ fm_p f → xs_D post f_raised f_trapped f_mode a_format a_bits d fl (pa_P f s (c / 10 ^ rn_st k c) (q + rn_st k c)) → ∀ n, k < n → wX_round_311 post (nI d) (nI f) fl (zz_I to) f_raised f_trapped f_mode (nI s) f_value f_power f_rest f_wish f_exact a_format a_bits a_kind a_minus a_coefficient a_exponent a_wide n (zz_I q) (lN c) := by
  obtain ⟨-, hpw, -⟩ := fm_pw hf
  intro k
  induction k with
  | zero =>
    intro c q hk hq1 hq2 hc H n hn
    obtain ⟨n, rfl⟩ := yr_fuel hn
    refine zz_le to q (fun _ => xw_343 hd hf hs hc ?_) (fun h => absurd h (by omega))
    rw [rn_st_0, Nat.pow_zero, Nat.div_one] at H
    have e : q + ((0 : Nat) : Int) = q := by omega
    rw [e] at H
    exact H
  | succ k ih =>
    intro c q hk hq1 hq2 hc H n hn
    obtain ⟨n, rfl⟩ := yr_fuel hn
    have erem : lN c - lN c / 10 * 10 = lN (c % 10) := pk_lRem (b := 10) (by omega) (by decide) (by decide)
    refine zz_le to q (fun h => absurd h (by omega)) (fun _ => ⟨by decide, ?_⟩)
    rw [erem]
    refine zz_leq (c % 10) 0 (fun h0 => ⟨by decide, nm_r (e' := lN (c / 10)) (pk_lDiv (b := 10) (by omega) (by decide) (by decide)) (nm_r (zz_Ip1 q) ?_)⟩) (fun h0 => ?_)
    · rw [rn_st_t h0] at H
      refine ih (c / 10) (q + 1) (by omega) (by omega) (by omega) (by omega) ?_ n (by omega)
      have e1 : c / 10 / 10 ^ rn_st k (c / 10) = c / 10 ^ (rn_st k (c / 10) + 1) := by
        rw [Nat.div_div_eq_div_mul, ← Nat.pow_succ']
      have e2 : q + 1 + (rn_st k (c / 10) : Int) = q + ((rn_st k (c / 10) + 1 : Nat) : Int) := by omega
      rw [e1, e2]
      exact H
    · rw [rn_st_f h0, Nat.pow_zero, Nat.div_one] at H
      have e : q + ((0 : Nat) : Int) = q := by omega
      rw [e] at H
      exact xw_343 hd hf hs hc H
theorem xw_58 {d f s : Nat} {fl : Int32} (hd : d < 8) (hf : f < 4) (hs : s < 2) (H : xs_D post f_raised f_trapped f_mode a_format a_bits d fl (pa_P f s (fm_b f ^ fm_p f - 1) (fm_g f))) : wX_tooGreat_58 post (nI d) (nI f) fl f_raised f_trapped f_mode (nI s) f_value f_power f_rest f_wish f_exact a_format a_bits a_kind a_minus a_coefficient a_exponent a_wide := by
  obtain ⟨h63, hpw, h1⟩ := fm_pw hf
  refine xw_baseOf hf (xw_precisionOf hf (xw_raise (fm_b2 f) h63 (nm_r (e' := lN (fm_b f ^ fm_p f - 1)) (lN_sub (b := 1) (by omega)) (xw_greatestOf hf ?_))))
  exact pa_wPX hf hs (by omega) (xw_settle hd (fun u' h => H u' h))
theorem xw_tooGreat {d f m s fu : Nat} (hd : d < 8) (hf : f < 4) (hm : m < 5) (hs : s < 2) (hfu : fu = 0 ∨ fu = 16) (ef : a_format d = nI f) (H : xs_D post f_raised f_trapped (nI m) a_format a_bits d (nI fu ||| nI 20) (rn_ov f m s)) : wpX_tooGreat post (f_raised, f_trapped, nI m, nI s, f_value, f_power, f_rest, f_wish, f_exact, a_format, a_bits, a_kind, a_minus, a_coefficient, a_exponent, a_wide) (nI d) (nI f) (nI fu) := by
  unfold rn_ov at H
  refine nm_r (xf_20 hfu) ?_
  have hin : (m = 4 ∨ (m = 2 ∧ ¬ s = 0) ∨ (m = 3 ∧ s = 0)) → wX_tooGreat_58 post (nI d) (nI f) (nI fu ||| nI 20) f_raised f_trapped (nI m) (nI s) f_value f_power f_rest f_wish f_exact a_format a_bits a_kind a_minus a_coefficient a_exponent a_wide := by
    intro h
    rw [if_pos h] at H
    exact xw_58 hd hf hs H
  have hout : ¬ (m = 4 ∨ (m = 2 ∧ ¬ s = 0) ∨ (m = 3 ∧ s = 0)) → wX_tooGreat_46 post (nI d) (nI fu ||| nI 20) f_raised f_trapped (nI m) (nI s) f_value f_power f_rest f_wish f_exact a_format a_bits a_kind a_minus a_coefficient a_exponent a_wide := by
    intro h
    rw [if_neg h] at H
    exact xw_infinite hd hf hs ef (fun u' h => H u' h)
  have h31 : ¬ m = 4 → ¬ (m = 2 ∧ ¬ s = 0) → wX_tooGreat_31 post (nI d) (nI f) (nI fu ||| nI 20) f_raised f_trapped (nI m) (nI s) f_value f_power f_rest f_wish f_exact a_format a_bits a_kind a_minus a_coefficient a_exponent a_wide := by
    intro h4 h2
    refine pk_eq m 3 (fun h3 => pk_eq s 0 (fun h0 => hin (by omega)) (fun h0 => hout (by omega))) (fun h3 => hout (by omega))
  exact pk_eq m 4 (fun h4 => hin (by omega)) (fun h4 => pk_eq m 2 (fun h2 => pk_eq s 0 (fun h0 => h31 h4 (by omega)) (fun h0 => hin (by omega))) (fun h2 => h31 h4 (by omega)))
theorem xw_261 {d f s c z : Nat} {q w : Int} {fl : Int32} (hd : d < 8) (hf : f < 4) (hs : s < 2) (hz : z < 2) (hc : c < fm_b f ^ fm_p f) (hq : -100000 < q ∧ q < 100000) (hw : -100000 < w ∧ w < 100000) (H0 : z = 0 → xs_D post f_raised f_trapped f_mode a_format a_bits d fl (pa_P f s c q)) (H1 : z = 1 → xs_D post f_raised f_trapped f_mode a_format a_bits d fl (pa_P f s (c / 10 ^ rn_k f q w c) (q + rn_k f q w c))) : wX_round_261 post (nI d) (nI f) (nI (fm_b f)) (zz_I (fm_l f)) (zz_I (fm_g f)) (zz_I q) (lN c) fl f_raised f_trapped f_mode (nI s) f_value f_power f_rest (zz_I w) (nI z) a_format a_bits a_kind a_minus a_coefficient a_exponent a_wide := by
  have hff := fm_facts hf
  refine pk_eq z 0 (fun h => xw_343 hd hf hs hc (H0 h)) (fun h => ?_)
  have H := H1 (by omega)
  unfold rn_k at H
  refine pk_eq (fm_b f) 10 (fun h10 => ?_) (fun h10 => ?_) (ha := by omega)
  · rw [if_pos h10] at H
    unfold rn_to at H
    have go : ∀ to : Int, -100000 < to ∧ to < 100000 → to = (if w < fm_l f then fm_l f else if fm_g f < w then fm_g f else w) → ∃ n, wX_round_311 post (nI d) (nI f) fl (zz_I to) f_raised f_trapped f_mode (nI s) f_value f_power f_rest (zz_I w) (nI z) a_format a_bits a_kind a_minus a_coefficient a_exponent a_wide n (zz_I q) (lN c) := by
      intro to hto e
      rw [← e] at H
      exact ⟨_, xw_311 hd hf hs hto _ c q rfl hq.1 hq.2 hc H _ (Nat.lt_succ_self _)⟩
    refine zz_le (fm_l f) w (fun h1 => zz_le w (fm_g f) (fun h2 => go w hw ?_) (fun h2 => go (fm_g f) (by omega) ?_)) (fun h1 => go (fm_l f) (by omega) ?_)
    · rw [if_neg (by omega), if_neg (by omega)]
    · rw [if_neg (by omega), if_pos h2]
    · rw [if_pos h1]
  · rw [if_neg h10, Nat.pow_zero, Nat.div_one] at H
    have e : q + ((0 : Nat) : Int) = q := by omega
    rw [e] at H
    exact xw_343 hd hf hs hc H
theorem xw_219 {d f m s fu c z ti : Nat} {q w : Int} (hd : d < 8) (hf : f < 4) (hm : m < 5) (hs : s < 2) (hz : z < 2) (hti : ti < 2) (hfu : fu = 0 ∨ fu = 16) (ef : a_format d = nI f) (hc : c < fm_b f ^ fm_p f) (hq : -100000 < q ∧ q < 100000) (hw : -100000 < w ∧ w < 100000) (Hov : fm_g f < q → xs_D post f_raised f_trapped (nI m) a_format a_bits d (nI fu ||| nI 20) (rn_ov f m s)) (H0 : q ≤ fm_g f → z = 0 → xs_D post f_raised f_trapped (nI m) a_format a_bits d (nI fu ||| nI (if ti = 1 then 24 else 16)) (pa_P f s c q)) (H1 : q ≤ fm_g f → z = 1 → xs_D post f_raised f_trapped (nI m) a_format a_bits d (nI fu ||| nI 0) (pa_P f s (c / 10 ^ rn_k f q w c) (q + rn_k f q w c))) : wX_round_219 post (nI d) (nI fu) (nI f) (nI (fm_b f)) (zz_I (fm_l f)) (zz_I (fm_g f)) (zz_I q) (nI ti) (lN c) f_raised f_trapped (nI m) (nI s) f_value f_power f_rest (zz_I w) (nI z) a_format a_bits a_kind a_minus a_coefficient a_exponent a_wide := by
  have hff := fm_facts hf
  refine zz_le q (fm_g f) (fun h => pk_eq z 0 (fun h0 => pk_eq ti 0 (fun ht => ?_) (fun ht => ?_)) (fun h0 => ?_)) (fun h => ?_)
  · have H := H0 h h0
    rw [if_neg (by omega), ← xf_16 hfu] at H
    exact xw_261 hd hf hs hz hc hq hw (fun _ => H) (fun h1 => absurd h1 (by omega))
  · have H := H0 h h0
    rw [if_pos (by omega), ← xf_24 hfu] at H
    exact xw_261 hd hf hs hz hc hq hw (fun _ => H) (fun h1 => absurd h1 (by omega))
  · have H := H1 h (by omega)
    rw [xf_0 hfu] at H
    exact xw_261 hd hf hs hz hc hq hw (fun h1 => absurd h1 h0) (fun _ => H)
  · exact xw_tooGreat hd hf hm hs hfu ef (fun u' hu => Hov h u' hu)
end
end
section
/-! the component's round, its whole -/
theorem rn_small {A D b U p v : Nat} {pw q t : Int} (hb : 0 < b) (hD : 0 < D) (hU : 0 ≤ pw + U) (hT : rn_T A D b U t) (hv : v = A / rn_M D b U pw) (h1 : t + 1 - p ≤ q) (h2 : q ≤ pw) (h3 : pw ≤ t) : v * b ^ (pw - q).toNat ≤ b ^ p := by
  have hM : 0 < rn_M D b U pw := rn_M_pos hD hb
  have e1 := rn_M_le (D := D) (b := b) hU (show pw ≤ t + 1 by omega)
  have h4 : v < b ^ (t + 1 - pw).toNat := by
    rw [hv, Nat.div_lt_iff_lt_mul hM, Nat.mul_comm, ← e1]
    exact hT.2.2
  have h5 : v * b ^ (pw - q).toNat ≤ b ^ (t + 1 - pw).toNat * b ^ (pw - q).toNat := Nat.mul_le_mul_right _ (by omega)
  rw [← Nat.pow_add] at h5
  exact Nat.le_trans h5 (dg_pow_le hb (by omega))
theorem rn_pw_le {A D b U v : Nat} {pw t : Int} (hb : 0 < b) (hD : 0 < D) (hT : rn_T A D b U t) (hv : v = A / rn_M D b U pw) (hv0 : 0 < v) : pw ≤ t := by
  have hM : 0 < rn_M D b U pw := rn_M_pos hD hb
  have h1 : rn_M D b U pw ≤ A := by
    rcases Nat.lt_or_ge A (rn_M D b U pw) with h | h
    · have := Nat.div_eq_of_lt h
      omega
    · exact h
  rcases Int.lt_or_le t pw with h | h
  · have := rn_M_mono (D := D) (b := b) (U := U) (e := t + 1) (e' := pw) hb (by have := hT.1; omega) (by omega)
    have := hT.2.2
    omega
  · exact h
theorem xw_cap {f v b p : Nat} (hf : f < 4) (hb : b = fm_b f) (hp : p = fm_p f) {x : Nat} (h : x ≤ b ^ p) : x ≤ 4000000000000000000 / b := by
  subst hb hp
  rcases (show f = 0 ∨ f = 1 ∨ f = 2 ∨ f = 3 by omega) with rfl | rfl | rfl | rfl
  · exact Nat.le_trans h (by decide)
  · exact Nat.le_trans h (by decide)
  · exact Nat.le_trans h (by decide)
  · exact Nat.le_trans h (by decide)
section
variable {f_raised : Int32} {f_trapped : Int32} {f_mode : Int32} {f_below : Int32} {f_value : Int64} {f_power : Int32} {f_rest : Int32} {f_wish : Int32} {f_exact : Int32} {a_format : Nat → Int32} {a_bits : Nat → Int32} {a_kind : Nat → Int32} {a_minus : Nat → Int32} {a_coefficient : Nat → Int64} {a_exponent : Nat → Int32} {a_wide : Nat → Int32} {post : Int32 → SX → Prop}
theorem xw_isTiny {f m v r s A D U : Nat} {pw t ov : Int} (hf : f < 4) (hm : m < 5) (hs : s < 2) (hr2 : r < 2) (hD : 0 < D) (hU : 0 ≤ pw + U) (hUt : 0 ≤ t + 1 - (fm_p f : Int) + U) (hT : rn_T A D (fm_b f) U t) (hv : v = A / rn_M D (fm_b f) U pw) (hr : r = 0 ↔ A % rn_M D (fm_b f) U pw = 0) (hbd : v < xr_bd (fm_b f)) (hv0 : 0 < v) (hq : r = 0 ∨ pw < t + 1 - (fm_p f : Int)) (hr1 : -90000 < pw) (hr2' : t < 90000) (hov : ov = t + 1 - fm_l f - (fm_p f : Int)) (H : ∀ (z : Int32) (ti : Nat), ti < 2 → (ti = 1 ↔ rn_tB f m s A D U t = true) → post (nI ti) (f_raised, f_trapped, nI m, nI s, lN v, zz_I pw, nI r, f_wish, z, a_format, a_bits, a_kind, a_minus, a_coefficient, a_exponent, a_wide)) : wpX_isTiny post (f_raised, f_trapped, nI m, nI s, lN v, zz_I pw, nI r, f_wish, f_exact, a_format, a_bits, a_kind, a_minus, a_coefficient, a_exponent, a_wide) (nI (fm_b f)) (zz_I ov) (zz_I (fm_l f)) (lN (fm_b f ^ fm_p f)) := by
  have hff := fm_facts hf
  have hb := fm_b2 f
  obtain ⟨h63, hpw, h1p⟩ := fm_pw hf
  have hpt := rn_pw_le (by omega) hD hT hv hv0
  unfold rn_tB at H
  have go : ∀ (z : Int32) (ti : Nat), ti < 2 → (ti = 1 ↔ (t < fm_l f + (fm_p f : Int) - 1 ∧ (fm_b f = 10 ∨ t < fm_l f + (fm_p f : Int) - 2 ∨ rn_r m s A (rn_M D (fm_b f) U (t + 1 - (fm_p f : Int))) < fm_b f ^ fm_p f))) → post (nI ti) (f_raised, f_trapped, nI m, nI s, lN v, zz_I pw, nI r, f_wish, z, a_format, a_bits, a_kind, a_minus, a_coefficient, a_exponent, a_wide) := by
    intro z ti h2 h
    refine H z ti h2 (h.trans ?_)
    rw [Bool.and_eq_true, Bool.or_eq_true, Bool.or_eq_true, decide_eq_true_iff, decide_eq_true_iff, decide_eq_true_iff, decide_eq_true_iff, or_assoc]
  refine zz_lt ov 0 (fun h => pk_eq (fm_b f) 10 (fun h10 => ?_) (fun h10 => zz_le (-1) ov (fun h1 => ?_) (fun h1 => ?_)) (ha := by omega)) (fun h => ?_)
  · exact go _ 1 (by decide) ⟨fun _ => ⟨by omega, Or.inl h10⟩, fun _ => rfl⟩
  · have e1 : zz_I (fm_l f) - 1 = zz_I (t + 1 - (fm_p f : Int)) := by
      rw [zz_Is1]
      congr 1
      omega
    rw [e1]
    refine xw_whole hb hm hs hr2 hD hU hUt hv hr hbd ?_ (by omega) (by omega) (by omega) (by omega) ?_
    · rcases hq with h0 | h0
      · by_cases hl : pw < t + 1 - (fm_p f : Int)
        · exact Or.inl hl
        · exact Or.inr ⟨h0, xw_cap (v := v) hf rfl rfl (rn_small (by omega) hD hU hT hv (Int.le_refl _) (by omega) hpt)⟩
      · exact Or.inl h0
    · have hle := rn_r_le (m := m) (s := s) (b := fm_b f) (p := fm_p f) (by omega) hT hUt (Int.le_refl _)
      refine zz_leqU (fun h2 => ?_) (fun h2 => ?_)
      · exact go _ 0 (by decide) ⟨fun h => absurd h (by decide), fun h => by
          rcases h.2 with h3 | h3 | h3
          · exact absurd h3 h10
          · omega
          · omega⟩
      · exact go _ 1 (by decide) ⟨fun _ => ⟨by omega, Or.inr (Or.inr (by omega))⟩, fun _ => rfl⟩
  · exact go _ 1 (by decide) ⟨fun _ => ⟨by omega, Or.inr (Or.inl (by omega))⟩, fun _ => rfl⟩
  · exact go _ 0 (by decide) ⟨fun h => absurd h (by decide), fun h => by
      have := h.1
      omega⟩
theorem xw_round {d f m v r s fu A D U : Nat} {pw t w : Int} (hd : d < 8) (hf : f < 4) (hm : m < 5) (hs : s < 2) (hr2 : r < 2) (hfu : fu = 0 ∨ fu = 16) (ef : a_format d = nI f) (hD : 0 < D) (hU : 0 ≤ pw + U) (hUt : 0 ≤ t + 1 - (fm_p f : Int) + U) (hUl : 0 ≤ fm_l f + U) (hT : rn_T A D (fm_b f) U t) (hv : v = A / rn_M D (fm_b f) U pw) (hr : r = 0 ↔ A % rn_M D (fm_b f) U pw = 0) (hbd : v < xr_bd (fm_b f)) (hv0 : 0 < v) (hq : r = 0 ∨ pw < t + 1 - (fm_p f : Int)) (hr1 : -80000 < pw) (hr2' : t < 80000) (hw : -100000 < w ∧ w < 100000) (H : xs_D post f_raised f_trapped (nI m) a_format a_bits d (nI fu ||| nI (rn_fl f m s A D U t)) (rn_pat f m s A D U t w)) : wpX_round post (f_raised, f_trapped, nI m, nI s, lN v, zz_I pw, nI r, zz_I w, f_exact, a_format, a_bits, a_kind, a_minus, a_coefficient, a_exponent, a_wide) (nI d) (nI fu) := by
  have hff := fm_facts hf
  have hb := fm_b2 f
  obtain ⟨b0, b2, b10, bb⟩ := yr_b hb
  obtain ⟨h63, hpw, h1p⟩ := fm_pw hf
  have hpt := rn_pw_le (by omega) hD hT hv hv0
  have hbd' : xr_bd (fm_b f) < 9223372036854775808 := by rcases hb with h | h <;> rw [h] <;> decide
  obtain ⟨n, hn, hnv⟩ := dg_ex (b := fm_b f) b2 v
  have hn0 : n ≠ 0 := fun e => by
    have := (dg_n0 b0 hn).mpr e
    omega
  have hnT : t = pw + n - 1 := by
    have h1 : fm_b f ^ (n - 1) ≤ v := by
      rcases hn.2 with h2 | h2
      · exact absurd h2 hn0
      · exact h2
    have h2 : v < fm_b f ^ (n - 1 + 1) := by
      rw [show n - 1 + 1 = n by omega]
      exact hn.1
    have h3 := rn_T_uniq (by omega) hT (rn_T_of hD b0 hU hv h1 h2)
    omega
  have hn63 : n ≤ 63 := dg_n_le b2 hn (Nat.lt_of_lt_of_le (show v < 2 ^ 63 by omega) (Nat.pow_le_pow_left b2 63))
  have hqg := rn_q_ge f t
  have hc1 := rn_c1_lt (m := m) (s := s) hf hT hUt hqg.1
  refine And.intro (vp_in_nI hd (by decide)) (nm_r (e' := nI f) (by rw [nI_clamp (by omega)]; exact ef) ?_)
  refine xw_baseOf hf (xw_precisionOf hf (xw_leastOf hf (xw_greatestOf hf ?_)))
  have h150 : wX_round_150 post (nI d) (nI fu) (nI f) (nI (fm_b f)) (nI (fm_p f)) (zz_I (fm_l f)) (zz_I (fm_g f)) (nI n) (zz_I (rn_q f t)) f_raised f_trapped (nI m) (nI s) (lN v) (zz_I pw) (nI r) (zz_I w) f_exact a_format a_bits a_kind a_minus a_coefficient a_exponent a_wide := by
    refine xw_raise hb h63 ?_
    have eov : nI n + zz_I pw - zz_I (fm_l f) - nI (fm_p f) = zz_I (t + 1 - fm_l f - (fm_p f : Int)) := by
      rw [zz_nI, zz_nI, zz_Iadd, zz_Isub, zz_Isub]
      congr 1
      omega
    rw [eov]
    refine xw_isTiny hf hm hs hr2 hD hU hUt hT hv hr hbd hv0 hq (by omega) (by omega) rfl ?_
    intro z ti hti htb
    have hqq : pw < rn_q f t ∨ (r = 0 ∧ v * fm_b f ^ (pw - rn_q f t).toNat ≤ 4000000000000000000 / fm_b f) := by
      by_cases hl : pw < rn_q f t
      · exact Or.inl hl
      · rcases hq with h0 | h0
        · exact Or.inr ⟨h0, xw_cap (v := v) hf rfl rfl (rn_small (by omega) hD hU hT hv hqg.1 (by omega) hpt)⟩
        · exact Or.inl (by omega)
    refine xw_whole hb hm hs hr2 hD hU (by omega) hv hr hbd hqq (by omega) (by omega) (by omega) (by omega) ?_
    have h219 : wX_round_219 post (nI d) (nI fu) (nI f) (nI (fm_b f)) (zz_I (fm_l f)) (zz_I (fm_g f)) (zz_I (rn_q1 f m s A D U (rn_q f t))) (nI ti) (lN (rn_c1 f m s A D U (rn_q f t))) f_raised f_trapped (nI m) (nI s) (lN v) (zz_I pw) (nI r) (zz_I w) (nI (if rn_pt A (rn_M D (fm_b f) U (rn_q f t)) = 0 then 1 else 0)) a_format a_bits a_kind a_minus a_coefficient a_exponent a_wide := by
      have hq1 : rn_q f t ≤ rn_q1 f m s A D U (rn_q f t) ∧ rn_q1 f m s A D U (rn_q f t) ≤ rn_q f t + 1 := by
        unfold rn_q1
        split <;> omega
      unfold rn_fl rn_pat at H
      refine xw_219 hd hf hm hs (by split <;> omega) hti hfu ef hc1 (by omega) hw ?_ ?_ ?_
      · intro h
        rw [if_pos h, if_pos h] at H
        exact H
      · intro h hz
        have hp : ¬ rn_pt A (rn_M D (fm_b f) U (rn_q f t)) = 0 := by
          intro h0
          rw [if_pos h0] at hz
          omega
        have hg : ¬ fm_g f < rn_q1 f m s A D U (rn_q f t) := by omega
        rw [if_neg hg, if_neg hg, if_neg hp, if_neg hp] at H
        by_cases ht : ti = 1
        · rw [if_pos (htb.mp ht)] at H
          rw [if_pos ht]
          exact H
        · rw [if_neg (fun h => ht (htb.mpr h))] at H
          rw [if_neg ht]
          exact H
      · intro h hz
        have hp : rn_pt A (rn_M D (fm_b f) U (rn_q f t)) = 0 := by
          rcases Nat.eq_zero_or_pos (rn_pt A (rn_M D (fm_b f) U (rn_q f t))) with h0 | h0
          · exact h0
          · rw [if_neg (by omega)] at hz
            omega
        have hg : ¬ fm_g f < rn_q1 f m s A D U (rn_q f t) := by omega
        rw [if_neg hg, if_neg hg, if_pos hp, if_pos hp] at H
        exact H
    have hle := rn_r_le (m := m) (s := s) (b := fm_b f) (p := fm_p f) (by omega) hT hUt hqg.1
    unfold rn_c1 rn_q1 at h219
    refine zz_leqU (fun h2 => ?_) (fun h2 => ?_)
    · rw [if_pos h2, if_pos h2] at h219
      refine ⟨yr_n0 hb, nm_r (e' := lN (fm_b f ^ fm_p f / fm_b f)) ?_ (nm_r (zz_Ip1 (rn_q f t)) h219)⟩
      rw [h2, nI_l bb, pk_lDiv (by omega) b0 (by omega)]
    · rw [if_neg h2, if_neg h2] at h219
      exact h219
  have h109 : wX_round_109 post (nI d) (nI fu) (nI f) (nI (fm_b f)) (nI (fm_p f)) (zz_I (fm_l f)) (zz_I (fm_g f)) f_raised f_trapped (nI m) (nI s) (lN v) (zz_I pw) (nI r) (zz_I w) f_exact a_format a_bits a_kind a_minus a_coefficient a_exponent a_wide := by
    refine xw_digits hb (by omega) hn ?_
    have e2 : zz_I pw + nI n - nI (fm_p f) = zz_I (t + 1 - (fm_p f : Int)) := by
      rw [zz_nI, zz_nI, zz_Iadd, zz_Isub]
      congr 1
      omega
    rw [e2]
    unfold rn_q at h150
    refine zz_leU (fun h => ?_) (fun h => ?_)
    · rw [if_neg (by omega)] at h150
      exact h150
    · rw [if_pos h] at h150
      exact h150
  exact zz_leq v 0 (fun h => absurd h (by omega)) (fun _ => h109)
end
end
section
/-! the reference's round -/
def yr_Y (A D b U N mo : Nat) (u : Int) : Prop := mo < 2 ∧ 0 ≤ u + fm_P b ∧ 0 ≤ u + U ∧ N = A / rn_M D b U u * b ^ (u + fm_P b).toNat ∧ (mo = 0 ↔ A % rn_M D b U u = 0)
theorem yr_Y_div {A D b U N mo : Nat} {u j : Int} (hb : 0 < b) (h : yr_Y A D b U N mo u) (hj : u ≤ j) : N / b ^ (j + fm_P b).toNat = A / rn_M D b U j := by
  obtain ⟨h2, hP, hU, hN, hm⟩ := h
  have e1 : b ^ (j + fm_P b).toNat = b ^ (u + fm_P b).toNat * b ^ (j - u).toNat := by
    rw [← Nat.pow_add]
    congr 1
    omega
  rw [e1, ← Nat.div_div_eq_div_mul, hN, Nat.mul_div_cancel _ (Nat.pow_pos hb), rn_div_up hU hj]
theorem yr_Y_mod {A D b U N mo : Nat} {u j : Int} (hD : 0 < D) (hb : 0 < b) (h : yr_Y A D b U N mo u) (hj : u ≤ j) : (mo = 0 ∧ N % b ^ (j + fm_P b).toNat = 0) ↔ A % rn_M D b U j = 0 := by
  obtain ⟨h2, hP, hU, hN, hm⟩ := h
  have hB : 0 < b ^ (u + fm_P b).toNat := Nat.pow_pos hb
  have hM : 0 < rn_M D b U u := rn_M_pos hD hb
  have e1 : b ^ (j + fm_P b).toNat = b ^ (u + fm_P b).toNat * b ^ (j - u).toNat := by
    rw [← Nat.pow_add]
    congr 1
    omega
  rw [e1, hN, Nat.mul_comm (A / rn_M D b U u), Nat.mul_mod_mul_left, rn_M_le hU hj, Nat.mod_mul, hm]
  generalize A / rn_M D b U u % b ^ (j - u).toNat = x
  constructor
  · intro h
    rcases Nat.mul_eq_zero.mp h.2 with h3 | h3
    · omega
    · rw [h3, Nat.mul_zero]
      omega
  · intro h
    have h3 : rn_M D b U u * x = 0 := by omega
    rcases Nat.mul_eq_zero.mp h3 with h4 | h4
    · omega
    · exact ⟨by omega, by rw [h4, Nat.mul_zero]⟩
theorem yr_Y_pt {A D b U N mo lo kk : Nat} {u q : Int} (hb : b = 2 ∨ b = 10) (hD : 0 < D) (h : yr_Y A D b U N mo u) (hu : u < q) (hk : (kk : Int) = q + fm_P b - 1) (hlo : lo = 0 ↔ mo = 0 ∧ N % b ^ kk = 0) : yr_pt b (N / b ^ kk % b) lo = rn_pt A (rn_M D b U q) := by
  obtain ⟨b0, b2, b10, bb⟩ := yr_b hb
  have hU := h.2.2.1
  have ek : kk = (q - 1 + fm_P b).toNat := by omega
  have e1 : q = q - 1 + 1 := by omega
  have eM : rn_M D b U q = rn_M D b U (q - 1) * (2 * (b / 2)) := by
    conv => lhs; rw [e1]
    rw [rn_M_1 (by omega)]
    congr 1
    rcases hb with rfl | rfl <;> rfl
  have hM : 0 < rn_M D b U (q - 1) := rn_M_pos hD b0
  have hd := yr_Y_div b0 h (show u ≤ q - 1 by omega)
  have hm := yr_Y_mod hD b0 h (show u ≤ q - 1 by omega)
  rw [← ek] at hd hm
  rw [eM, rn_pt_dig hM (by omega), hd]
  have e2 : 2 * (b / 2) = b := by rcases hb with rfl | rfl <;> rfl
  rw [e2]
  have hl := hlo.trans hm
  unfold yr_pt
  generalize A / rn_M D b U (q - 1) % b = d
  generalize A % rn_M D b U (q - 1) = r at hl
  by_cases h1 : d < b / 2
  · rw [if_pos h1, if_pos h1]
    by_cases h2 : 0 < d ∨ lo ≠ 0
    · rw [if_pos h2, if_pos (by omega)]
    · rw [if_neg h2, if_neg (by omega)]
  · rw [if_neg h1, if_neg h1]
    by_cases h2 : d = b / 2 ∧ lo = 0
    · rw [if_pos h2, if_pos (by omega)]
    · rw [if_neg h2, if_neg (by omega)]
theorem yw_up {post : Int32 → Prop} {m s pt odd : Nat} (hm : m < 5) (hs : s < 2) (hp : pt < 4) (ho : odd < 2) (h : post (nI (rn_up m s pt odd))) : wpY_up post (nI pt) (nI odd) (nI s) (nI m) := by
  unfold rn_up at h
  refine br_f (nI_pos (by omega)) (pk_lt 3 m (fun h3 => ?_) (fun h3 => pk_eq m 0 (fun h0 => ?_) (fun h0 => pk_eq m 1 (fun h1 => ?_) (fun h1 => pk_eq m 2 (fun h2 => ?_) (fun h2 => pk_eq m 3 (fun h3 => ?_) (fun h3 => True.intro))))))
  · rw [if_neg (by omega), if_neg (by omega), if_neg (by omega), if_neg (by omega)] at h
    exact h
  · rw [if_pos h0] at h
    refine pk_eq pt 3 (fun g => ?_) (fun g => pk_eq pt 2 (fun g2 => pk_eq odd 0 (fun g3 => ?_) (fun g3 => ?_)) (fun g2 => ?_))
    · rw [if_pos (Or.inl g)] at h
      exact h
    · rw [if_neg (by omega)] at h
      exact h
    · rw [if_pos (by omega)] at h
      exact h
    · rw [if_neg (by omega)] at h
      exact h
  · rw [if_neg h0, if_pos h1] at h
    refine pk_le pt 1 (fun g => ?_) (fun g => ?_)
    · rw [if_neg (by omega)] at h
      exact h
    · rw [if_pos (by omega)] at h
      exact h
  · rw [if_neg h0, if_neg h1, if_pos h2] at h
    refine pk_le pt 0 (fun g => ?_) (fun g => pk_eq s 0 (fun g2 => ?_) (fun g2 => ?_))
    · rw [if_neg (by omega)] at h
      exact h
    · rw [if_pos (by omega)] at h
      exact h
    · rw [if_neg (by omega)] at h
      exact h
  · rw [if_neg h0, if_neg h1, if_neg h2, if_pos h3] at h
    refine pk_le pt 0 (fun g => ?_) (fun g => pk_eq s 0 (fun g2 => ?_) (fun g2 => ?_))
    · rw [if_neg (by omega)] at h
      exact h
    · rw [if_neg (by omega)] at h
      exact h
    · rw [if_pos (by omega)] at h
      exact h
section
variable {f_attribute : Int32} {f_raised : Int32} {f_trapped : Int32} {f_more : Int32} {f_made : Int32} {a_format : Nat → Int32} {a_pattern : Nat → Int32} {a_kind : Nat → Int32} {a_exponent : Nat → Int32} {a_coefficient : Nat → Int64} {a_minus : Nat → Int32} {a_row : Nat → Int32}
theorem yw_restA {post : Int32 → Prop} {A D b U N mo : Nat} {u q : Int} (hb : b = 2 ∨ b = 10) (hD : 0 < D) (hr : yr_R b a_row 0 N) (hY : yr_Y A D b U N mo u) (hu : u < q) (hq : q + fm_P b ≤ 800) (H : post (nI (rn_pt A (rn_M D b U q)))) : wpY_rest post (f_attribute, f_raised, f_trapped, nI mo, f_made, a_format, a_pattern, a_kind, a_exponent, a_coefficient, a_minus, a_row) (nI b) (zz_I q) := by
  have hP := hY.2.1
  refine yw_rest (kk := (q + fm_P b - 1).toNat) hb hr hY.1 (by omega) (by omega) ?_
  intro lo hlo hl
  rw [yr_Y_pt hb hD hY hu (by omega) hl]
  exact H
theorem yw_roundedA {post : Int64 → Prop} {A D b U N mo m s : Nat} {u q : Int} (hb : b = 2 ∨ b = 10) (hD : 0 < D) (hm : m < 5) (hs : s < 2) (hr : yr_R b a_row 0 N) (hN : N < b ^ 800) (hY : yr_Y A D b U N mo u) (hu : u < q) (hq : q + fm_P b ≤ 800) (hA : A / rn_M D b U q < 9223372036854775808) (H : post (lN (rn_r m s A (rn_M D b U q)))) : wpY_rounded post (f_attribute, f_raised, f_trapped, nI mo, f_made, a_format, a_pattern, a_kind, a_exponent, a_coefficient, a_minus, a_row) (nI b) (zz_I q) (nI s) (nI m) := by
  obtain ⟨b0, b2, b10, bb⟩ := yr_b hb
  have hP := hY.2.1
  refine yw_whole (g := (q + fm_P b).toNat) hb hr hN (by omega) (by omega) ?_
  rw [yr_Y_div b0 hY (show u ≤ q by omega)]
  refine yw_restA hb hD hr hY hu hq ⟨by decide, ?_⟩
  unfold rn_r at H
  have erem : lN (A / rn_M D b U q) - lN (A / rn_M D b U q) / 2 * 2 = lN (A / rn_M D b U q % 2) := pk_lRem (b := 2) hA (by decide) (by decide)
  rw [erem]
  have hp := rn_pt_le A (rn_M D b U q)
  have fin : ∀ odd, odd < 2 → odd = A / rn_M D b U q % 2 → wY_rounded_32 post (nI s) (nI m) (lN (A / rn_M D b U q)) (nI (rn_pt A (rn_M D b U q))) (nI odd) f_attribute f_raised f_trapped (nI mo) f_made a_format a_pattern a_kind a_exponent a_coefficient a_minus a_row := by
    intro odd ho e
    refine yw_up hm hs (by omega) ho ?_
    rw [← e] at H
    have hl := rn_up_le m s (rn_pt A (rn_M D b U q)) odd
    refine pk_eq (rn_up m s (rn_pt A (rn_M D b U q)) odd) 0 (fun h => ?_) (fun h => ?_)
    · rw [h] at H
      exact H
    · have h1 : rn_up m s (rn_pt A (rn_M D b U q)) odd = 1 := by omega
      rw [h1, ← lN_1] at H
      exact H
  refine zz_leq (A / rn_M D b U q % 2) 1 (fun h => ?_) (fun h => ?_)
  · exact fin 1 (by decide) h.symm
  · exact fin 0 (by decide) (by omega)
/-- the highest place -/
theorem yw_highestT {post : Int32 → Prop} {A D b U N mo : Nat} {u t : Int} (hb : b = 2 ∨ b = 10) (hD : 0 < D) (hr : yr_R b a_row 0 N) (hN : N < b ^ 800) (hY : yr_Y A D b U N mo u) (hT : rn_T A D b U t) (hu : u ≤ t) (H : 0 ≤ t + fm_P b → t + fm_P b < 800 → post (zz_I t)) : wpY_highest post (f_attribute, f_raised, f_trapped, f_more, f_made, a_format, a_pattern, a_kind, a_exponent, a_coefficient, a_minus, a_row) (nI b) := by
  obtain ⟨b0, b2, b10, bb⟩ := yr_b hb
  have hP := hY.2.1
  have hM : 0 < rn_M D b U t := rn_M_pos hD b0
  have hM1 : 0 < rn_M D b U (t + 1) := rn_M_pos hD b0
  have d1 := yr_Y_div b0 hY hu
  have d2 := yr_Y_div b0 hY (show u ≤ t + 1 by omega)
  rw [Nat.div_eq_of_lt hT.2.2] at d2
  have h1 : 0 < N / b ^ (t + fm_P b).toNat := by
    rw [d1]
    exact Nat.div_pos hT.2.1 hM
  have h2 : b ^ (t + fm_P b).toNat ≤ N := by
    rcases Nat.lt_or_ge N (b ^ (t + fm_P b).toNat) with h | h
    · rw [Nat.div_eq_of_lt h] at h1
      omega
    · exact h
  have h3 : N < b ^ (t + 1 + fm_P b).toNat := dg_lt_of_div b0 d2
  have hNp : 0 < N := Nat.lt_of_lt_of_le (Nat.pow_pos b0) h2
  refine yw_highest hb hr hN (fun h => absurd h (by omega)) ?_
  intro k hk k1 k2
  have e : k = (t + fm_P b).toNat := by
    rcases Nat.lt_trichotomy k (t + fm_P b).toNat with h | h | h
    · have := dg_pow_le (b := b) b0 (show k + 1 ≤ (t + fm_P b).toNat from h)
      omega
    · exact h
    · have := dg_pow_le (b := b) b0 (show (t + 1 + fm_P b).toNat ≤ k by omega)
      omega
  have e2 : (k : Int) - fm_P b = t := by omega
  rw [e2]
  exact H (by omega) (by omega)
theorem yw_tiny {post : Int32 → Prop} {A D U N mo f m s : Nat} {u t : Int} (hf : f < 4) (hD : 0 < D) (hm : m < 5) (hs : s < 2) (hr : yr_R (fm_b f) a_row 0 N) (hN : N < fm_b f ^ 800) (hY : yr_Y A D (fm_b f) U N mo u) (hT : rn_T A D (fm_b f) U t) (hu : u < t + 1 - (fm_p f : Int)) (H : ∀ ti : Nat, ti < 2 → (ti = 1 ↔ rn_tB f m s A D U t = true) → post (nI ti)) : wpY_tiny post (nI m, f_raised, f_trapped, nI mo, f_made, a_format, a_pattern, a_kind, a_exponent, a_coefficient, a_minus, a_row) (nI f) (nI s) := by
  have hff := fm_facts hf
  have hb := fm_b2 f
  have hP : fm_P (fm_b f) ≤ 450 := by rcases hb with h | h <;> rw [h] <;> decide
  have hP0 := hY.2.1
  have hU0 := hY.2.2.1
  obtain ⟨h63, hpw, h1p⟩ := fm_pw hf
  unfold rn_tB at H
  have go : ∀ ti : Nat, ti < 2 → (ti = 1 ↔ (t < fm_l f + (fm_p f : Int) - 1 ∧ (fm_b f = 10 ∨ t < fm_l f + (fm_p f : Int) - 2 ∨ rn_r m s A (rn_M D (fm_b f) U (t + 1 - (fm_p f : Int))) < fm_b f ^ fm_p f))) → post (nI ti) := by
    intro ti h2 h
    refine H ti h2 (h.trans ?_)
    rw [Bool.and_eq_true, Bool.or_eq_true, Bool.or_eq_true, decide_eq_true_iff, decide_eq_true_iff, decide_eq_true_iff, decide_eq_true_iff, or_assoc]
  unfold wpY_tiny
  dsimp only
  refine yw_base hf ?_
  refine yw_highestT hb hD hr hN hY hT (by omega) ?_
  intro t0 t8
  refine yw_precision hf (yw_least hf ?_)
  have e1 : zz_I (fm_l f) + nI (fm_p f) - 1 = zz_I (fm_l f + (fm_p f : Int) - 1) := by
    rw [zz_nI, zz_Iadd, zz_Is1]
  rw [e1]
  refine zz_ltU (fun h => pk_eq (fm_b f) 10 (fun h10 => ?_) (fun h10 => ?_) (ha := by omega)) (fun h => ?_)
  · exact go 1 (by decide) ⟨fun _ => ⟨by omega, Or.inl h10⟩, fun _ => rfl⟩
  · have e2 : zz_I t + 1 - nI (fm_p f) = zz_I (t + 1 - (fm_p f : Int)) := by
      rw [zz_nI, zz_Ip1, zz_Isub]
    rw [e2]
    have hle := rn_r_le (m := m) (s := s) (b := fm_b f) (p := fm_p f) (by omega) hT (by omega) (Int.le_refl _)
    have hle2 : A / rn_M D (fm_b f) U (t + 1 - (fm_p f : Int)) ≤ rn_r m s A (rn_M D (fm_b f) U (t + 1 - (fm_p f : Int))) := Nat.le_add_right _ _
    refine yw_roundedA hb hD hm hs hr hN hY hu (by omega) (by omega) (yw_power (by omega) (by omega) ?_)
    refine zz_lltU (fun h2 => ?_) (fun h2 => yw_least hf ?_)
    · exact go 1 (by decide) ⟨fun _ => ⟨by omega, Or.inr (Or.inr h2)⟩, fun _ => rfl⟩
    · have e3 : zz_I (fm_l f) + nI (fm_p f) - 2 = zz_I (fm_l f + (fm_p f : Int) - 2) := by
        rw [zz_nI, zz_Iadd]
        exact zz_Isub _ 2
      rw [e3]
      refine zz_leU (fun h3 => ?_) (fun h3 => ?_)
      · exact go 0 (by decide) ⟨fun h => absurd h (by decide), fun h => by
          rcases h.2 with h4 | h4 | h4
          · exact absurd h4 h10
          · omega
          · omega⟩
      · exact go 1 (by decide) ⟨fun _ => ⟨by omega, Or.inr (Or.inl h3)⟩, fun _ => rfl⟩
  · exact go 0 (by decide) ⟨fun h => absurd h (by decide), fun h => by
      have := h.1
      omega⟩
end
end
section
/-! the reference's round, its whole -/
section
variable {f_attribute : Int32} {f_raised : Int32} {f_trapped : Int32} {f_more : Int32} {f_made : Int32} {a_format : Nat → Int32} {a_pattern : Nat → Int32} {a_kind : Nat → Int32} {a_exponent : Nat → Int32} {a_coefficient : Nat → Int64} {a_minus : Nat → Int32} {a_row : Nat → Int32} {post : Int32 → SY → Prop}
theorem yw_291 {f s c : Nat} {q : Int} {fl : Int32} (hf : f < 4) (hs : s < 2) (hc : c < fm_b f ^ fm_p f) (H : post fl (f_attribute, f_raised, f_trapped, f_more, pa_P f s c q, a_format, a_pattern, a_kind, a_exponent, a_coefficient, a_minus, a_row)) : wY_round_291 post (nI f) (nI s) (zz_I q) (lN c) fl f_attribute f_raised f_trapped f_more f_made a_format a_pattern a_kind a_exponent a_coefficient a_minus a_row :=
  pa_wPY hf hs hc H
theorem yw_255_0 {f s c : Nat} {q w : Int} {x4 fl : Int32} (hf : f < 4) (hs : s < 2) (hc : c < fm_b f ^ fm_p f) (hq : -100000 < q ∧ q < 100000) (H : post fl (f_attribute, f_raised, f_trapped, f_more, pa_P f s c q, a_format, a_pattern, a_kind, a_exponent, a_coefficient, a_minus, a_row)) : ∃ n, wY_round_255 post (nI f) (nI s) (zz_I w) x4 fl (zz_I q) f_attribute f_raised f_trapped f_more f_made a_format a_pattern a_kind a_exponent a_coefficient a_minus a_row n (zz_I q) (lN c) :=
  ⟨1, br_t (by rw [zz_Ile (by unfold zz_R; omega) (by unfold zz_R; omega)]; omega) (yw_291 hf hs hc H)⟩
theorem yw_255 {f s N h : Nat} {w lo : Int} {fl : Int32} (hf : f < 4) (hb : fm_b f = 10) (hs : s < 2) (hw : -100000 < w ∧ w < 100000) (hlo : lo = (h : Int) - 230) (hh8 : h < 800) (hz : N % 10 ^ h = 0) (hnz : ¬ N % 10 ^ (h + 1) = 0) : ∀ k c : Nat, ∀ q : Int, (rn_to f w - q).toNat = k → fm_l f ≤ q → q < 100000 → 0 ≤ q + 230 → q + 230 ≤ h → c = N / 10 ^ (q + 230).toNat → c < fm_b f ^ fm_p f → post fl (f_attribute, f_raised, f_trapped, f_more, pa_P f s (c / 10 ^ rn_st k c) (q + rn_st k c), a_format, a_pattern, a_kind, a_exponent, a_coefficient, a_minus, a_row) → ∀ n, k < n → wY_round_255 post (nI f) (nI s) (zz_I w) (nI 10) fl (zz_I lo) f_attribute f_raised f_trapped f_more f_made a_format a_pattern a_kind a_exponent a_coefficient a_minus a_row n (zz_I q) (lN c) := by
  have hff := fm_facts hf
  obtain ⟨h63, hpw, h1p⟩ := fm_pw hf
  have hto : (rn_to f w = fm_l f ∧ w < fm_l f) ∨ (rn_to f w = fm_g f ∧ fm_g f < w) ∨ (rn_to f w = w ∧ w ≤ fm_g f ∧ fm_l f ≤ w) := by
    unfold rn_to
    split
    · omega
    · split <;> omega
  have key : ∀ j : Nat, j ≤ h → N % 10 ^ j = 0 := by
    intro j hj
    have e : (10 : Nat) ^ h = 10 ^ j * 10 ^ (h - j) := by
      rw [← Nat.pow_add]
      congr 1
      omega
    rw [e, Nat.mod_mul] at hz
    omega
  intro k
  induction k with
  | zero =>
    intro c q hk hql hq2 hq0 hqh hcq hc H n hn
    obtain ⟨n, rfl⟩ := yr_fuel hn
    rw [rn_st_0, Nat.pow_zero, Nat.div_one] at H
    have e : q + ((0 : Nat) : Int) = q := by omega
    rw [e] at H
    have fin : wY_round_291 post (nI f) (nI s) (zz_I q) (lN c) fl f_attribute f_raised f_trapped f_more f_made a_format a_pattern a_kind a_exponent a_coefficient a_minus a_row := yw_291 hf hs hc H
    refine zz_le lo q (fun _ => fin) (fun _ => zz_le w q (fun _ => fin) (fun _ => yw_greatest hf ?_))
    exact zz_le (fm_g f) q (fun _ => fin) (fun h => absurd h (by omega))
  | succ k ih =>
    intro c q hk hql hq2 hq0 hqh hcq hc H n hn
    obtain ⟨n, rfl⟩ := yr_fuel hn
    have hs1 := dg_modS N 10 (q + 230).toNat
    rw [key _ (show (q + 230).toNat ≤ h by omega), Nat.zero_add, ← hcq] at hs1
    refine zz_le lo q (fun hle => ?_) (fun hlt => zz_le w q (fun h => absurd h (by omega)) (fun _ => yw_greatest hf (zz_le (fm_g f) q (fun h => absurd h (by omega)) (fun _ => ⟨by decide, nm_r (e' := lN (c / 10)) ?_ (nm_r (zz_Ip1 q) ?_)⟩))))
    · have e1 : (q + 230).toNat = h := by omega
      rw [e1] at hs1
      have hne : ¬ c % 10 = 0 := by
        intro h0
        rw [h0, Nat.mul_zero] at hs1
        exact hnz hs1
      rw [rn_st_f hne, Nat.pow_zero, Nat.div_one] at H
      have e : q + ((0 : Nat) : Int) = q := by omega
      rw [e] at H
      exact yw_291 hf hs hc H
    · exact pk_lDiv (b := 10) (by omega) (by decide) (by decide)
    · have h0 : c % 10 = 0 := by
        have h3 := key ((q + 230).toNat + 1) (by omega)
        rw [h3] at hs1
        rcases Nat.mul_eq_zero.mp hs1.symm with h4 | h4
        · have : 0 < 10 ^ (q + 230).toNat := Nat.pow_pos (by decide)
          omega
        · exact h4
      rw [rn_st_t h0] at H
      refine ih (c / 10) (q + 1) (by omega) (by omega) (by omega) (by omega) (by omega) ?_ (by omega) ?_ n (by omega)
      · rw [hcq, Nat.div_div_eq_div_mul, ← Nat.pow_succ]
        congr 2
        omega
      · have e1 : c / 10 / 10 ^ rn_st k (c / 10) = c / 10 ^ (rn_st k (c / 10) + 1) := by
          rw [Nat.div_div_eq_div_mul, ← Nat.pow_succ']
        have e2 : q + 1 + (rn_st k (c / 10) : Int) = q + ((rn_st k (c / 10) + 1 : Nat) : Int) := by omega
        rw [e1, e2]
        exact H
theorem yw_191 {f m s : Nat} (hf : f < 4) (hm : m < 5) (hs : s < 2) {z : Nat} (hz : z = 0 ∨ z = 1) (hzz : z = 1 ↔ (m = 4 ∨ (m = 2 ∧ ¬ s = 0) ∨ (m = 3 ∧ s = 0))) (H : post 20 (f_attribute, f_raised, f_trapped, f_more, rn_ov f m s, a_format, a_pattern, a_kind, a_exponent, a_coefficient, a_minus, a_row)) : wY_round_191 post (nI f) (nI s) (nI (fm_b f)) (nI (fm_p f)) (nI z) f_attribute f_raised f_trapped f_more f_made a_format a_pattern a_kind a_exponent a_coefficient a_minus a_row := by
  have hb := fm_b2 f
  obtain ⟨h63, hpw, h1p⟩ := fm_pw hf
  unfold rn_ov at H
  refine pk_eq z 0 (fun h => ?_) (fun h => ?_)
  · rw [if_neg (fun hh => by have := hzz.mpr hh; omega)] at H
    exact pa_winfY hf hs H
  · rw [if_pos (hzz.mp (by omega))] at H
    refine yw_power (by omega) (by omega) (yw_greatest hf ?_)
    have e : lN (fm_b f ^ fm_p f) - 1 = lN (fm_b f ^ fm_p f - 1) := lN_sub (b := 1) (by omega)
    rw [e]
    exact pa_wPY hf hs (by omega) H
theorem yw_153 {f m s N c pt : Nat} {q w : Int} {fl : Int32} (hf : f < 4) (hm : m < 5) (hs : s < 2) (hr : yr_R (fm_b f) a_row 0 N) (hN : N < fm_b f ^ 800) (hw : -100000 < w ∧ w < 100000) (hq : -100000 < q ∧ q < 100000) (hc : c < fm_b f ^ fm_p f) (hpt : pt < 4) (hx : pt = 0 → fm_l f ≤ q ∧ 0 < N ∧ N % fm_b f ^ (q + fm_P (fm_b f)).toNat = 0 ∧ c = N / fm_b f ^ (q + fm_P (fm_b f)).toNat) (Hov : fm_g f < q → post 20 (nI m, f_raised, f_trapped, f_more, rn_ov f m s, a_format, a_pattern, a_kind, a_exponent, a_coefficient, a_minus, a_row)) (H0 : q ≤ fm_g f → ¬ pt = 0 → post fl (nI m, f_raised, f_trapped, f_more, pa_P f s c q, a_format, a_pattern, a_kind, a_exponent, a_coefficient, a_minus, a_row)) (H1 : q ≤ fm_g f → pt = 0 → post fl (nI m, f_raised, f_trapped, f_more, pa_P f s (c / 10 ^ rn_k f q w c) (q + rn_k f q w c), a_format, a_pattern, a_kind, a_exponent, a_coefficient, a_minus, a_row)) : wY_round_153 post (nI f) (nI s) (zz_I w) (nI (fm_b f)) (nI (fm_p f)) (zz_I q) (lN c) (nI pt) fl (nI m) f_raised f_trapped f_more f_made a_format a_pattern a_kind a_exponent a_coefficient a_minus a_row := by
  have hff := fm_facts hf
  have hb := fm_b2 f
  refine yw_greatest hf (zz_le q (fm_g f) (fun h => pk_lt 0 pt (fun h0 => ?_) (fun h0 => pk_eq (fm_b f) 2 (fun h2 => ?_) (fun h2 => ?_) (ha := by omega))) (fun h => ?_))
  · exact yw_255_0 hf hs hc hq (H0 h (by omega))
  · have H := H1 h (by omega)
    unfold rn_k at H
    rw [if_neg (by omega), Nat.pow_zero, Nat.div_one] at H
    have e : q + ((0 : Nat) : Int) = q := by omega
    rw [e] at H
    exact yw_255_0 hf hs hc hq H
  · have h10 : fm_b f = 10 := by omega
    have H := H1 h (by omega)
    obtain ⟨g1, g2, g3, g4⟩ := hx (by omega)
    unfold rn_k at H
    rw [if_pos h10] at H
    have hP : fm_P (fm_b f) = 230 := by rw [h10]; rfl
    rw [hP, h10] at g3 g4
    refine yw_lowest hb hr hN g2 ?_
    intro k hk hz hnz
    rw [h10] at hz hnz
    rw [hP, h10]
    refine ⟨_, yw_255 (h := k) hf h10 hs hw rfl hk hz hnz _ c q rfl g1 hq.2 (by omega) ?_ g4 hc H _ (Nat.lt_succ_self _)⟩
    rcases Int.lt_or_le (k : Int) (q + 230) with h5 | h5
    · exfalso
      have e : (10 : Nat) ^ (q + ((230 : Nat) : Int)).toNat = 10 ^ (k + 1) * 10 ^ ((q + 230).toNat - (k + 1)) := by
        rw [← Nat.pow_add]
        congr 1
        omega
      rw [e, Nat.mod_mul] at g3
      omega
    · omega
  · have H := Hov h
    refine pk_eq m 4 (fun h4 => ?_) (fun h4 => pk_eq s 0 (fun h0 => pk_eq m 3 (fun h3 => ?_) (fun h3 => ?_)) (fun h0 => pk_eq m 2 (fun h3 => ?_) (fun h3 => ?_)))
    · exact yw_191 (z := 1) hf hm hs (by omega) (by omega) H
    · exact yw_191 (z := 1) hf hm hs (by omega) (by omega) H
    · exact yw_191 (z := 0) hf hm hs (by omega) (by omega) H
    · exact yw_191 (z := 1) hf hm hs (by omega) (by omega) H
    · exact yw_191 (z := 0) hf hm hs (by omega) (by omega) H
theorem yw_round {A D U N mo f m s : Nat} {u t w : Int} (hf : f < 4) (hD : 0 < D) (hm : m < 5) (hs : s < 2) (hr : yr_R (fm_b f) a_row 0 N) (hN : N < fm_b f ^ 800) (hY : yr_Y A D (fm_b f) U N mo u) (hT : rn_T A D (fm_b f) U t) (hu : u < t + 1 - (fm_p f : Int)) (hw : -100000 < w ∧ w < 100000) (H : post (nI (rn_fl f m s A D U t)) (nI m, f_raised, f_trapped, nI mo, rn_pat f m s A D U t w, a_format, a_pattern, a_kind, a_exponent, a_coefficient, a_minus, a_row)) : wpY_round post (nI m, f_raised, f_trapped, nI mo, f_made, a_format, a_pattern, a_kind, a_exponent, a_coefficient, a_minus, a_row) (nI f) (nI s) (zz_I w) := by
  have hff := fm_facts hf
  have hb := fm_b2 f
  obtain ⟨b0, b2, b10, bb⟩ := yr_b hb
  have hP : fm_P (fm_b f) = 450 ∧ fm_b f = 2 ∨ fm_P (fm_b f) = 230 ∧ fm_b f = 10 := by
    rcases hb with h | h
    · left; rw [h]; exact ⟨rfl, rfl⟩
    · right; rw [h]; exact ⟨rfl, rfl⟩
  have hP0 := hY.2.1
  have hU0 := hY.2.2.1
  obtain ⟨h63, hpw, h1p⟩ := fm_pw hf
  have hqg := rn_q_ge f t
  have hc1 := rn_c1_lt (m := m) (s := s) hf hT (by omega) hqg.1
  have hle := rn_r_le (m := m) (s := s) (b := fm_b f) (p := fm_p f) (by omega) hT (by omega) hqg.1
  have hle2 : A / rn_M D (fm_b f) U (rn_q f t) ≤ rn_r m s A (rn_M D (fm_b f) U (rn_q f t)) := Nat.le_add_right _ _
  have hptl := rn_pt_le A (rn_M D (fm_b f) U (rn_q f t))
  unfold wpY_round
  dsimp only
  refine yw_base hf ?_
  refine yw_highestT hb hD hr hN hY hT (by omega) ?_
  intro t0 t8
  have hne : ¬ zz_I t = -1000 := by
    rw [show (-1000 : Int32) = zz_I (-1000) by decide, zz_Ieq (by unfold zz_R; omega) (by unfold zz_R; omega)]
    omega
  refine br_f hne ?_
  have h127 : ∀ fl : Nat, fl = (if rn_pt A (rn_M D (fm_b f) U (rn_q f t)) = 0 then 0 else if rn_tB f m s A D U t = true then 24 else 16) → wY_round_127 post (nI f) (nI s) (zz_I w) (nI (fm_b f)) (nI (fm_p f)) (zz_I (rn_q f t)) (lN (rn_r m s A (rn_M D (fm_b f) U (rn_q f t)))) (nI (rn_pt A (rn_M D (fm_b f) U (rn_q f t)))) (nI fl) (nI m) f_raised f_trapped (nI mo) f_made a_format a_pattern a_kind a_exponent a_coefficient a_minus a_row := by
    intro fl hfl
    have h153 : wY_round_153 post (nI f) (nI s) (zz_I w) (nI (fm_b f)) (nI (fm_p f)) (zz_I (rn_q1 f m s A D U (rn_q f t))) (lN (rn_c1 f m s A D U (rn_q f t))) (nI (rn_pt A (rn_M D (fm_b f) U (rn_q f t)))) (nI fl) (nI m) f_raised f_trapped (nI mo) f_made a_format a_pattern a_kind a_exponent a_coefficient a_minus a_row := by
      have hq1 : rn_q f t ≤ rn_q1 f m s A D U (rn_q f t) ∧ rn_q1 f m s A D U (rn_q f t) ≤ rn_q f t + 1 := by
        unfold rn_q1
        split <;> omega
      unfold rn_fl rn_pat at H
      refine yw_153 hf hm hs hr hN hw (by omega) hc1 (by omega) ?_ ?_ ?_ ?_
      · intro h0
        have hmod := (yr_Y_mod hD b0 hY (show u ≤ rn_q f t by omega)).mpr (rn_pt_0.mp h0)
        have hdiv := yr_Y_div b0 hY (show u ≤ rn_q f t by omega)
        have hlt : A / rn_M D (fm_b f) U (rn_q f t) < fm_b f ^ fm_p f := by
          have hM : 0 < rn_M D (fm_b f) U (rn_q f t) := rn_M_pos hD b0
          have e1 := rn_M_add (D := D) (b := fm_b f) (U := U) (e := t + 1 - (fm_p f : Int)) (by omega) (fm_p f)
          have e2 : t + 1 - (fm_p f : Int) + (fm_p f : Int) = t + 1 := by omega
          rw [e2] at e1
          rw [Nat.div_lt_iff_lt_mul hM, Nat.mul_comm]
          have h4 := Nat.mul_le_mul_right (fm_b f ^ fm_p f) (rn_M_mono (D := D) (b := fm_b f) (U := U) b0 (show 0 ≤ t + 1 - (fm_p f : Int) + U by omega) hqg.1)
          have := hT.2.2
          omega
        have er : rn_r m s A (rn_M D (fm_b f) U (rn_q f t)) = A / rn_M D (fm_b f) U (rn_q f t) := rn_r_ex h0
        have eq1 : rn_q1 f m s A D U (rn_q f t) = rn_q f t := by
          unfold rn_q1
          rw [if_neg (by omega)]
        have ec1 : rn_c1 f m s A D U (rn_q f t) = A / rn_M D (fm_b f) U (rn_q f t) := by
          unfold rn_c1
          rw [if_neg (by omega), er]
        rw [eq1, ec1]
        refine ⟨hqg.2.1, ?_, hmod.2, hdiv.symm⟩
        rcases Nat.eq_zero_or_pos N with h | h
        · exfalso
          have d1 := yr_Y_div b0 hY (show u ≤ t by omega)
          rw [h, Nat.zero_div] at d1
          have := Nat.div_pos hT.2.1 (rn_M_pos (U := U) (e := t) hD b0)
          omega
        · exact h
      · intro h
        rw [if_pos h, if_pos h] at H
        exact H
      · intro h h0
        have hg : ¬ fm_g f < rn_q1 f m s A D U (rn_q f t) := by omega
        rw [if_neg hg, if_neg hg, if_neg h0, if_neg h0] at H
        rw [if_neg h0] at hfl
        rw [hfl]
        exact H
      · intro h h0
        have hg : ¬ fm_g f < rn_q1 f m s A D U (rn_q f t) := by omega
        rw [if_neg hg, if_neg hg, if_pos h0, if_pos h0] at H
        rw [if_pos h0] at hfl
        rw [hfl]
        exact H
    refine yw_power (by omega) (by omega) ?_
    unfold rn_c1 rn_q1 at h153
    refine zz_leqU (fun h2 => ?_) (fun h2 => ?_)
    · rw [if_pos h2, if_pos h2] at h153
      refine ⟨yr_n0 hb, nm_r (e' := lN (fm_b f ^ fm_p f / fm_b f)) ?_ (nm_r (zz_Ip1 (rn_q f t)) h153)⟩
      rw [h2, nI_l bb, pk_lDiv (by omega) b0 (by omega)]
    · rw [if_neg h2, if_neg h2] at h153
      exact h153
  have h75 : wY_round_75 post (nI f) (nI s) (zz_I w) (nI (fm_b f)) (nI (fm_p f)) (zz_I (rn_q f t)) (nI m) f_raised f_trapped (nI mo) f_made a_format a_pattern a_kind a_exponent a_coefficient a_minus a_row := by
    refine yw_roundedA hb hD hm hs hr hN hY (by omega) (by omega) (by omega) ?_
    refine yw_restA hb hD hr hY (by omega) (by omega) ?_
    refine pk_eq (rn_pt A (rn_M D (fm_b f) U (rn_q f t))) 0 (fun h0 => ?_) (fun h0 => ?_)
    · exact h127 0 (by rw [if_pos h0])
    · refine yw_tiny hf hD hm hs hr hN hY hT hu ?_
      intro ti hti htb
      refine pk_eq ti 0 (fun h1 => ?_) (fun h1 => ?_)
      · exact h127 16 (by rw [if_neg h0, if_neg (fun h => by have := htb.mpr h; omega)])
      · exact h127 24 (by rw [if_neg h0, if_pos (htb.mp (by omega))])
  refine yw_precision hf (yw_least hf ?_)
  have e2 : zz_I t + 1 - nI (fm_p f) = zz_I (t + 1 - (fm_p f : Int)) := by
    rw [zz_nI, zz_Ip1, zz_Isub]
  rw [e2]
  have eq := hqg.2.2
  refine zz_leU (fun h => yw_least hf ?_) (fun h => ?_)
  · have e3 : rn_q f t = fm_l f := by omega
    rw [e3] at h75
    exact h75
  · have e3 : rn_q f t = t + 1 - (fm_p f : Int) := by omega
    rw [e3] at h75
    exact h75
theorem yw_zero {post : Int32 → Prop} {f s : Nat} {w : Int} (hf : f < 4) (hs : s < 2) (hw : -100000 < w ∧ w < 100000) (H : post (pa_P f s 0 (rn_zq f w))) : wpY_zero post (nI f) (nI s) (zz_I w) := by
  have hff := fm_facts hf
  have hc : 0 < fm_b f ^ fm_p f := Nat.pow_pos (by have := fm_b2 f; omega)
  unfold rn_zq at H
  unfold wpY_zero
  refine yw_base hf ?_
  refine (pk_eq (fm_b f) 2 (fun h2 => ?_) (fun h2 => yw_least hf (zz_le (fm_l f) w (fun h => yw_greatest hf (zz_le w (fm_g f) (fun h3 => ?_) (fun h3 => yw_greatest hf ?_))) (fun h => ?_))) (ha := by omega))
  · rw [if_pos h2] at H
    exact yw_least hf (pa_wPY (c := 0) hf hs hc H)
  · rw [if_neg h2] at H
    unfold rn_to at H
    rw [if_neg (by omega), if_neg (by omega)] at H
    exact pa_wPY (c := 0) hf hs hc H
  · rw [if_neg h2] at H
    unfold rn_to at H
    rw [if_neg (by omega), if_pos (by omega)] at H
    exact pa_wPY (c := 0) hf hs hc H
  · rw [if_neg h2] at H
    unfold rn_to at H
    rw [if_pos h] at H
    exact yw_least hf (pa_wPY (c := 0) hf hs hc H)
theorem yw_round_0 {f s : Nat} {w : Int} (hf : f < 4) (hs : s < 2) (hr : yr_R (fm_b f) a_row 0 0) (hw : -100000 < w ∧ w < 100000) (H : post 0 (f_attribute, f_raised, f_trapped, 0, pa_P f s 0 (rn_zq f w), a_format, a_pattern, a_kind, a_exponent, a_coefficient, a_minus, a_row)) : wpY_round post (f_attribute, f_raised, f_trapped, 0, f_made, a_format, a_pattern, a_kind, a_exponent, a_coefficient, a_minus, a_row) (nI f) (nI s) (zz_I w) := by
  have hb := fm_b2 f
  unfold wpY_round
  dsimp only
  refine yw_base hf ?_
  refine yw_highest hb hr (Nat.pow_pos (by omega)) (fun _ => ?_) (fun h _ h1 _ => ?_)
  · exact br_t rfl (br_t rfl (yw_zero hf hs hw H))
  · exfalso
    have : 0 < fm_b f ^ h := Nat.pow_pos (by omega)
    omega
end
end
section
/-! registers taken apart -/
theorem op_or (a b : Nat) : nI a ||| nI b = nI (a ||| b) := by
  apply Int32.toBitVec_inj.mp
  rw [Int32.toBitVec_or]
  show BitVec.ofNat 32 a ||| BitVec.ofNat 32 b = BitVec.ofNat 32 (a ||| b)
  exact (BitVec.ofNat_or).symm
theorem op_orA {a b k : Nat} (hb : b < 2 ^ k) : nI (2 ^ k * a) ||| nI b = nI (2 ^ k * a + b) := by
  rw [op_or, Nat.two_pow_add_eq_or_of_lt hb]
theorem op_orB {a b k : Nat} (hb : b < 2 ^ k) : nI b ||| nI (2 ^ k * a) = nI (2 ^ k * a + b) := by
  rw [Int32.or_comm, op_orA hb]
def op_n (x : Int32) : Nat := x.toBitVec.toNat
theorem op_n_lt (x : Int32) : op_n x < 4294967296 := x.toBitVec.isLt
theorem op_bits (x : Int32) {s m : Int32} (k j : Nat) (hs : (s.toBitVec.smod 32).toNat = k) (hm : m.toBitVec.toNat = 2 ^ j - 1) (hkj : k + j ≤ 32) : (x >>> s) &&& m = nI (op_n x / 2 ^ k % 2 ^ j) := by
  rw [pk_and _ j hm]
  congr 1
  show (x.toBitVec.sshiftRight (s.toBitVec.smod 32).toNat).toNat % 2 ^ j = op_n x / 2 ^ k % 2 ^ j
  rw [hs]
  apply Nat.eq_of_testBit_eq
  intro i
  rw [Nat.testBit_mod_two_pow, Nat.testBit_mod_two_pow, Nat.testBit_div_two_pow]
  by_cases hi : i < j
  · have e : (x.toBitVec.sshiftRight k).toNat.testBit i = (x.toBitVec.sshiftRight k).getLsbD i := rfl
    rw [e, BitVec.getLsbD_sshiftRight, if_pos (by omega)]
    have e2 : (!decide (32 ≤ i)) = true := by
      rw [decide_eq_false (by omega)]
      rfl
    rw [e2, Bool.true_and, Nat.add_comm i k]
    rfl
  · rw [decide_eq_false hi, Bool.false_and, Bool.false_and]
theorem op_mask (x : Int32) {m : Int32} (j : Nat) (hm : m.toBitVec.toNat = 2 ^ j - 1) : x &&& m = nI (op_n x % 2 ^ j) := pk_and x j hm
theorem op_neg (x : Int32) : 0 ≤ x ↔ op_n x / 2147483648 = 0 := by
  have h := op_n_lt x
  rw [Int32.le_iff_toInt_le]
  have e : x.toInt = if 2 * op_n x < 4294967296 then (op_n x : Int) else (op_n x : Int) - 4294967296 := by
    have := BitVec.toInt_eq_toNat_cond x.toBitVec
    exact this
  rw [e, show (0 : Int32).toInt = 0 from by decide]
  split <;> omega
def op_dc (d : Nat) : Nat := (pa_dy (nI d)).toNatClampNeg
def op_M (f : Nat) (x : Int32) : Nat := if f = 0 then op_n x / 32768 % 2 else op_n x / 2147483648 % 2
/-- binary: width w, exponents below all -/
def op_w (f : Nat) : Nat := if f = 0 then 10 else 23
def op_a (f : Nat) : Nat := if f = 0 then 31 else 255
def op_e2 (f : Nat) (x : Int32) : Nat := op_n x / 2 ^ op_w f % (op_a f + 1)
def op_t2 (f : Nat) (x : Int32) : Nat := op_n x % 2 ^ op_w f
def op_K2 (f : Nat) (x : Int32) : Nat := if op_e2 f x = op_a f then (if op_t2 f x = 0 then 2 else if op_t2 f x / 2 ^ (op_w f - 1) = 1 then 1 else 0) else 3
def op_C2 (f : Nat) (x : Int32) : Nat := if op_e2 f x = 0 then op_t2 f x else 2 ^ op_w f * 1 + op_t2 f x
def op_E2 (f : Nat) (x : Int32) : Int := if op_e2 f x = 0 then fm_l f else fm_l f + ((op_e2 f x : Int) - 1)
/-- decimal -/
def op_five (x : Int32) : Nat := op_n x / 67108864 % 32
def op_K10 (x : Int32) : Nat := if op_five x = 30 then 2 else if op_five x = 31 then (if op_n x / 33554432 % 2 = 1 then 0 else 1) else 3
def op_lg (x : Int32) : Nat := if op_n x / 536870912 % 4 = 3 then 1 else 0
def op_e10 (f : Nat) (x : Int32) : Nat := if f = 2 then (if op_lg x = 0 then op_n x / 8388608 % 256 else op_n x / 2097152 % 256) else 64 * (if op_lg x = 0 then op_n x / 536870912 % 4 else op_n x / 134217728 % 4) + op_n x / 1048576 % 64
def op_c10 (f : Nat) (x : Int32) : Nat := if f = 2 then (if op_lg x = 0 then op_n x % 8388608 else 8388608 + op_n x % 2097152) else 1000000 * (if op_lg x = 0 then op_n x / 67108864 % 8 else 8 + op_n x / 67108864 % 2) + 1000 * op_dc (op_n x / 1024 % 1024) + op_dc (op_n x % 1024)
def op_C10 (f : Nat) (x : Int32) : Nat := if op_c10 f x ≤ 9999999 then op_c10 f x else 0
def op_K (f : Nat) (x : Int32) : Nat := if f < 2 then op_K2 f x else op_K10 x
def op_C0 (f : Nat) (x : Int32) : Nat := if f < 2 then op_C2 f x else op_C10 f x
def op_E0 (f : Nat) (x : Int32) : Int := if f < 2 then op_E2 f x else -101 + (op_e10 f x : Int)
def op_C (f : Nat) (x : Int32) : Nat := if op_K f x = 3 then op_C0 f x else 0
def op_E (f : Nat) (x : Int32) : Int := if op_K f x = 3 then op_E0 f x else 0
def op_Sl (ak am : Nat → Int32) (ac : Nat → Int64) (ae : Nat → Int32) (k K M C : Nat) (E : Int) : Prop := ak k = nI K ∧ am k = nI M ∧ ac k = lN C ∧ ae k = zz_I E
theorem op_dc_lt {d : Nat} (h : d < 1024) : op_dc d < 1000 := (pa_dxy d h).2.1
theorem op_dcX {post : Int32 → Prop} {d : Nat} (hd : d < 1024) (h : post (nI (op_dc d))) : wpX_digitsOf post (nI d) := by
  obtain ⟨e1, e2, e3⟩ := pa_dxy d hd
  refine pa_wdx ?_
  rw [e1, e3]
  exact h
theorem op_dcY {post : Int32 → Prop} {d : Nat} (hd : d < 1024) (h : post (nI (op_dc d))) : wpY_declet post (nI d) := by
  obtain ⟨e1, e2, e3⟩ := pa_dxy d hd
  refine pa_wdy ?_
  rw [e3]
  exact h
/-- ranges -/
theorem op_M_lt (f : Nat) (x : Int32) : op_M f x < 2 := by
  unfold op_M
  split <;> omega
theorem op_K_lt (f : Nat) (x : Int32) : op_K f x < 4 := by
  unfold op_K op_K2 op_K10
  split
  · split
    · split
      · omega
      · split <;> omega
    · omega
  · split
    · omega
    · split
      · split <;> omega
      · omega
theorem op_C2_lt {f : Nat} (hf : f < 2) (x : Int32) : op_C2 f x < fm_b f ^ fm_p f := by
  rcases (show f = 0 ∨ f = 1 by omega) with rfl | rfl
  · show op_C2 0 x < 2048
    unfold op_C2 op_t2
    have e : (2 : Nat) ^ op_w 0 = 1024 := rfl
    rw [e]
    split <;> omega
  · show op_C2 1 x < 16777216
    unfold op_C2 op_t2
    have e : (2 : Nat) ^ op_w 1 = 8388608 := rfl
    rw [e]
    split <;> omega
theorem op_C_lt {f : Nat} (hf : f < 4) (x : Int32) : op_C f x < fm_b f ^ fm_p f := by
  have hp : 0 < fm_b f ^ fm_p f := Nat.pow_pos (by have := fm_b2 f; omega)
  unfold op_C
  by_cases h : op_K f x = 3
  · rw [if_pos h]
    unfold op_C0
    by_cases h2 : f < 2
    · rw [if_pos h2]
      exact op_C2_lt h2 x
    · rw [if_neg h2]
      have e : fm_b f ^ fm_p f = 10000000 := by
        rcases (show f = 2 ∨ f = 3 by omega) with rfl | rfl <;> rfl
      rw [e]
      unfold op_C10
      split <;> omega
  · rw [if_neg h]
    exact hp
theorem op_E_r {f : Nat} (hf : f < 4) (x : Int32) : fm_l f ≤ op_E f x ∧ op_E f x ≤ fm_g f := by
  have hff := fm_facts hf
  unfold op_E
  by_cases h : op_K f x = 3
  · rw [if_pos h]
    unfold op_E0
    unfold op_K at h
    by_cases h2 : f < 2
    · rw [if_pos h2] at h ⊢
      unfold op_K2 at h
      have h3 : ¬ op_e2 f x = op_a f := by
        intro h4
        rw [if_pos h4] at h
        split at h
        · omega
        · split at h <;> omega
      have h5 : op_e2 f x < op_a f + 1 := Nat.mod_lt _ (by omega)
      unfold op_E2
      rcases (show f = 0 ∨ f = 1 by omega) with rfl | rfl
      · have e1 : op_a 0 = 31 := rfl
        have e2 : fm_l 0 = -24 := rfl
        have e3 : fm_g 0 = 5 := rfl
        rw [e1] at h3 h5
        rw [e2, e3]
        split <;> omega
      · have e1 : op_a 1 = 255 := rfl
        have e2 : fm_l 1 = -149 := rfl
        have e3 : fm_g 1 = 104 := rfl
        rw [e1] at h3 h5
        rw [e2, e3]
        split <;> omega
    · rw [if_neg h2] at h ⊢
      have e2 : fm_l f = -101 ∧ fm_g f = 90 := by
        rcases (show f = 2 ∨ f = 3 by omega) with rfl | rfl <;> exact ⟨rfl, rfl⟩
      have h5 : op_five x < 30 := by
        unfold op_K10 at h
        have h6 : op_five x < 32 := Nat.mod_lt _ (by decide)
        have h7 : ¬ op_five x = 30 := by
          intro h8
          rw [if_pos h8] at h
          omega
        have h9 : ¬ op_five x = 31 := by
          intro h8
          rw [if_neg h7, if_pos h8] at h
          split at h <;> omega
        omega
      unfold op_five at h5
      rw [e2.1, e2.2]
      have h10 : op_e10 f x < 192 := by
        unfold op_e10
        have hn := op_n_lt x
        by_cases hl : op_n x / 536870912 % 4 = 3
        · have el : op_lg x = 1 := by unfold op_lg; rw [if_pos hl]
          rw [el, if_neg (show ¬ (1 : Nat) = 0 by decide), if_neg (show ¬ (1 : Nat) = 0 by decide)]
          split <;> omega
        · have el : op_lg x = 0 := by unfold op_lg; rw [if_neg hl]
          rw [el, if_pos (show (0 : Nat) = 0 from rfl), if_pos (show (0 : Nat) = 0 from rfl)]
          split <;> omega
      omega
  · rw [if_neg h]
    omega
theorem op_CE0 {f : Nat} {x : Int32} (h : ¬ op_K f x = 3) : op_C f x = 0 ∧ op_E f x = 0 := by
  unfold op_C op_E
  rw [if_neg h, if_neg h]
  exact ⟨rfl, rfl⟩
end
section
/-! the component's open -/
section
variable {f_raised : Int32} {f_trapped : Int32} {f_mode : Int32} {f_below : Int32} {f_value : Int64} {f_power : Int32} {f_rest : Int32} {f_wish : Int32} {f_exact : Int32} {a_format : Nat → Int32} {a_bits : Nat → Int32} {a_kind : Nat → Int32} {a_minus : Nat → Int32} {a_coefficient : Nat → Int64} {a_exponent : Nat → Int32} {a_wide : Nat → Int32} {post : SX → Prop}
theorem xo_b {f k : Nat} {x : Int32} (hf : f < 2) (hk : k < 3) (hk3 : a_kind k = nI 3) (H : ∀ (ak : Nat → Int32) (ac : Nat → Int64) (ae : Nat → Int32), ak k = nI (op_K2 f x) → ac k = lN (op_C2 f x) → ae k = zz_I (op_E2 f x) → (∀ j, j ≠ k → ak j = a_kind j ∧ ac j = a_coefficient j ∧ ae j = a_exponent j) → post (f_raised, f_trapped, f_mode, f_below, f_value, f_power, f_rest, f_wish, f_exact, a_format, a_bits, ak, a_minus, ac, ae, a_wide)) : wpX_openBinary post (f_raised, f_trapped, f_mode, f_below, f_value, f_power, f_rest, f_wish, f_exact, a_format, a_bits, a_kind, a_minus, a_coefficient, a_exponent, a_wide) (nI f) x (nI k) := by
  have hw : op_w f = 10 ∧ op_a f = 31 ∧ f = 0 ∨ op_w f = 23 ∧ op_a f = 255 ∧ f = 1 := by
    rcases (show f = 0 ∨ f = 1 by omega) with rfl | rfl
    · exact Or.inl ⟨rfl, rfl, rfl⟩
    · exact Or.inr ⟨rfl, rfl, rfl⟩
  have hin : vp_in (nI k) 3 := vp_in_nI hk (by decide)
  have hck : (nI k).toNatClampNeg = k := nI_clamp (by omega)
  have het : op_e2 f x < op_a f + 1 := Nat.mod_lt _ (by omega)
  have htt : op_t2 f x < 2 ^ op_w f := Nat.mod_lt _ (Nat.pow_pos (by decide))
  have h2w : (2 : Nat) ^ op_w f ≤ 8388608 := by
    rcases hw with ⟨h, _⟩ | ⟨h, _⟩ <;> rw [h] <;> decide
  have ha256 : op_a f < 256 := by omega
  have h104 : ∀ ak : Nat → Int32, ak k = nI (op_K2 f x) → (∀ j, j ≠ k → ak j = a_kind j) → wX_openBinary_104 post (nI f) (nI k) (nI (op_e2 f x)) (lN (op_C2 f x)) (nI k) f_raised f_trapped f_mode f_below f_value f_power f_rest f_wish f_exact a_format a_bits ak a_minus a_coefficient a_exponent a_wide := by
    intro ak hak hoth
    refine And.intro hin (nm_e (xw_leastOf (by omega) ?_))
    rw [hck]
    unfold op_E2 at H
    refine pk_eq (op_e2 f x) 0 (fun h => ⟨hin, nm_e ?_⟩) (fun h => ⟨hin, nm_e ?_⟩)
    · rw [if_pos h] at H
      rw [Int32.add_zero]
      exact H _ _ _ hak pk_uLs pk_us (fun j hj => ⟨hoth j hj, pk_uLn hj, pk_un hj⟩)
    · rw [if_neg h] at H
      have e : zz_I (fm_l f) + (nI (op_e2 f x) - 1) = zz_I (fm_l f + ((op_e2 f x : Int) - 1)) := by
        rw [zz_nI, zz_Is1, zz_Iadd]
      rw [e]
      exact H _ _ _ hak pk_uLs pk_us (fun j hj => ⟨hoth j hj, pk_uLn hj, pk_un hj⟩)
  have h80 : ∀ ak : Nat → Int32, ak k = nI (op_K2 f x) → (∀ j, j ≠ k → ak j = a_kind j) → wX_openBinary_80 post (nI f) (nI k) (nI (op_w f)) (nI (op_e2 f x)) (nI (op_t2 f x)) f_raised f_trapped f_mode f_below f_value f_power f_rest f_wish f_exact a_format a_bits ak a_minus a_coefficient a_exponent a_wide := by
    intro ak hak hoth
    have h := h104 ak hak hoth
    unfold op_C2 at h
    refine pk_eq (op_e2 f x) 0 (fun h0 => ?_) (fun h0 => ?_)
    · rw [if_pos h0] at h
      rw [nI_l (by omega)]
      exact h
    · rw [if_neg h0] at h
      have e1 : (1 : Int32) <<< (nI (op_w f) &&& 31) = nI (2 ^ op_w f * 1) := by
        rcases hw with ⟨h, _⟩ | ⟨h, _⟩ <;> rw [h] <;> decide
      rw [e1, op_orB htt, nI_l (by omega)]
      exact h
  have h78 : ∀ K : Nat, K < 4 → K = op_K2 f x → wX_openBinary_78 post (nI f) (nI k) (nI (op_w f)) (nI (op_e2 f x)) (nI (op_t2 f x)) (nI K) (nI k) f_raised f_trapped f_mode f_below f_value f_power f_rest f_wish f_exact a_format a_bits a_kind a_minus a_coefficient a_exponent a_wide := by
    intro K hK4 hK
    refine And.intro hin (nm_e ?_)
    rw [hck, zz_vby' hK4, hK]
    exact h80 _ pk_us (fun j hj => pk_un hj)
  have h20 : wX_openBinary_20 post (nI f) x (nI k) (nI (op_w f)) (nI (op_a f)) f_raised f_trapped f_mode f_below f_value f_power f_rest f_wish f_exact a_format a_bits a_kind a_minus a_coefficient a_exponent a_wide := by
    refine nm_r (e' := nI (op_e2 f x)) ?_ (nm_r (e' := nI (op_t2 f x)) ?_ ?_)
    · unfold op_e2
      rcases hw with ⟨h1, h2, _⟩ | ⟨h1, h2, _⟩
      · rw [h1, h2]
        exact op_bits x 10 5 (by decide) (by decide) (by decide)
      · rw [h1, h2]
        exact op_bits x 23 8 (by decide) (by decide) (by decide)
    · unfold op_t2
      rcases hw with ⟨h1, h2, _⟩ | ⟨h1, h2, _⟩
      · rw [h1]
        exact op_mask x 10 (by decide)
      · rw [h1]
        exact op_mask x 23 (by decide)
    · have e1 : nI (op_t2 f x) >>> ((nI (op_w f) - 1) &&& 31) = nI (op_t2 f x / 2 ^ (op_w f - 1)) := by
        rcases hw with ⟨h1, h2, _⟩ | ⟨h1, h2, _⟩
        · rw [h1]
          exact pk_shrN (by omega) _ 9 (by decide)
        · rw [h1]
          exact pk_shrN (by omega) _ 22 (by decide)
      rw [e1]
      have hle : op_t2 f x / 2 ^ (op_w f - 1) ≤ op_t2 f x := Nat.div_le_self _ _
      refine pk_eq (op_e2 f x) (op_a f) (fun h => pk_eq (op_t2 f x) 0 (fun h0 => ?_) (fun h0 => pk_eq (op_t2 f x / 2 ^ (op_w f - 1)) 1 (fun h1 => ?_) (fun h1 => ?_))) (fun h => ?_)
      · exact h78 2 (by decide) (by unfold op_K2; rw [if_pos h, if_pos h0])
      · exact h78 1 (by decide) (by unfold op_K2; rw [if_pos h, if_neg h0, if_pos h1])
      · exact h78 0 (by decide) (by unfold op_K2; rw [if_pos h, if_neg h0, if_neg h1])
      · exact h80 a_kind (by unfold op_K2; rw [if_neg h]; exact hk3) (fun _ _ => rfl)
  unfold wpX_openBinary
  dsimp only
  refine xw_precisionOf (f := f) (by omega) ?_
  refine nm_r (e' := nI (op_w f)) ?_ ?_
  · rcases hw with ⟨_, _, h3⟩ | ⟨_, _, h3⟩ <;> rw [h3] <;> decide
  · refine pk_eq f 0 (fun h => ?_) (fun h => ?_)
    · have e : op_a f = 31 := by omega
      rw [e] at h20
      exact h20
    · have e : op_a f = 255 := by omega
      rw [e] at h20
      exact h20
theorem xo_52 {f k : Nat} {x : Int32} (hf : f = 2 ∨ f = 3) (hk : k < 3) (H : ∀ (ac : Nat → Int64) (ae : Nat → Int32), ac k = lN (op_C10 f x) → ae k = zz_I (-101 + (op_e10 f x : Int)) → (∀ j, j ≠ k → ac j = a_coefficient j ∧ ae j = a_exponent j) → post (f_raised, f_trapped, f_mode, f_below, f_value, f_power, f_rest, f_wish, f_exact, a_format, a_bits, a_kind, a_minus, ac, ae, a_wide)) : wX_openDecimal_52 post (nI f) x (nI k) (nI (op_five x)) f_raised f_trapped f_mode f_below f_value f_power f_rest f_wish f_exact a_format a_bits a_kind a_minus a_coefficient a_exponent a_wide := by
  have hin : vp_in (nI k) 3 := vp_in_nI hk (by decide)
  have hck : (nI k).toNatClampNeg = k := nI_clamp (by omega)
  have hn := op_n_lt x
  have h5 : op_five x < 32 := Nat.mod_lt _ (by decide)
  have el : fm_l f = -101 := by rcases hf with rfl | rfl <;> rfl
  have hc7 : op_C10 f x ≤ 9999999 := by
    unfold op_C10
    split <;> omega
  have h221 : ∀ (e c : Nat), e = op_e10 f x → c = op_C10 f x → wX_openDecimal_221 post (nI f) (nI k) (nI e) (nI c) f_raised f_trapped f_mode f_below f_value f_power f_rest f_wish f_exact a_format a_bits a_kind a_minus a_coefficient a_exponent a_wide := by
    intro e c he hc
    refine And.intro hin (nm_e (xw_leastOf (by omega) ⟨hin, nm_e ?_⟩))
    rw [hck, nI_l (by omega), zz_nI e, zz_Iadd, el, he, hc]
    exact H _ _ pk_uLs pk_us (fun j hj => ⟨pk_uLn hj, pk_un hj⟩)
  have e8 : nI (op_five x) >>> ((3 : Int32) &&& 31) = nI (op_n x / 536870912 % 4) := by
    rw [pk_shrN (by omega) _ 3 (by decide)]
    congr 1
    unfold op_five
    omega
  have d1 := op_dc_lt (show op_n x / 1024 % 1024 < 1024 by omega)
  have d2 := op_dc_lt (show op_n x % 1024 < 1024 by omega)
  have h96 : f = 2 → ∀ (lg e : Nat), lg < 2 → lg = op_lg x → e = op_e10 f x → wX_openDecimal_96 post (nI f) x (nI k) (nI lg) (nI e) f_raised f_trapped f_mode f_below f_value f_power f_rest f_wish f_exact a_format a_bits a_kind a_minus a_coefficient a_exponent a_wide := by
    intro h2 lg e hlg elg he
    have h117 : ∀ c : Nat, c < 2147483648 → c = op_c10 f x → wX_openDecimal_117 post (nI f) (nI k) (nI e) (nI c) f_raised f_trapped f_mode f_below f_value f_power f_rest f_wish f_exact a_format a_bits a_kind a_minus a_coefficient a_exponent a_wide := by
      intro c hcl hc
      refine pk_le c 9999999 (fun h => h221 e c he ?_) (fun h => h221 e 0 he ?_)
      · unfold op_C10
        rw [if_pos (by omega), hc]
      · unfold op_C10
        rw [if_neg (by omega)]
    refine pk_eq lg 0 (fun h => ?_) (fun h => ?_)
    · rw [op_mask x (m := 8388607) 23 (by decide)]
      refine h117 _ (by omega) ?_
      unfold op_c10
      rw [if_pos h2, if_pos (by omega)]
    · rw [op_mask x (m := 2097151) 21 (by decide)]
      have e1 : (8388608 : Int32) ||| nI (op_n x % 2 ^ 21) = nI (2 ^ 21 * 4 + op_n x % 2 ^ 21) := op_orA (a := 4) (k := 21) (by omega)
      rw [e1]
      refine h117 _ (by omega) ?_
      unfold op_c10
      rw [if_pos h2, if_neg (by omega)]
  have h150 : ¬ f = 2 → ∀ (lg y : Nat), lg < 2 → lg = op_lg x → y < 4 → y = (if op_lg x = 0 then op_n x / 536870912 % 4 else op_n x / 134217728 % 4) → wX_openDecimal_150 post (nI f) x (nI k) (nI (op_five x)) (nI lg) (nI y) f_raised f_trapped f_mode f_below f_value f_power f_rest f_wish f_exact a_format a_bits a_kind a_minus a_coefficient a_exponent a_wide := by
    intro h2 lg y hlg elg hy ey
    refine nm_r (e' := nI (op_e10 f x)) ?_ ?_
    · rw [op_bits x (m := 63) 20 6 (by decide) (by decide) (by decide), pk_shlN _ 6 (by decide) (by omega), Nat.mul_comm, op_orA (by omega)]
      unfold op_e10
      rw [if_neg h2, ← ey]
    · rw [op_bits x (m := 1023) 10 10 (by decide) (by decide) (by decide), op_mask x (m := 1023) 10 (by decide)]
      refine op_dcX (by omega) (op_dcX (by omega) ?_)
      have h206 : ∀ dg : Nat, dg < 10 → dg = (if op_lg x = 0 then op_n x / 67108864 % 8 else 8 + op_n x / 67108864 % 2) → wX_openDecimal_206 post (nI f) (nI k) (nI (op_e10 f x)) (nI (op_dc (op_n x / 1024 % 1024))) (nI (op_dc (op_n x % 1024))) (nI dg) f_raised f_trapped f_mode f_below f_value f_power f_rest f_wish f_exact a_format a_bits a_kind a_minus a_coefficient a_exponent a_wide := by
        intro dg hdg edg
        refine nm_r (e' := nI (op_C10 f x)) ?_ (h221 _ _ rfl rfl)
        have e1 : nI dg * 1000000 = nI (dg * 1000000) := pk_mul dg 1000000
        have e2 : nI (op_dc (op_n x / 1024 % 1024)) * 1000 = nI (op_dc (op_n x / 1024 % 1024) * 1000) := pk_mul _ 1000
        rw [e1, e2, nI_add, nI_add]
        congr 1
        unfold op_C10 op_c10
        rw [if_neg h2, ← edg]
        rw [if_pos (by omega)]
        omega
      refine pk_eq lg 0 (fun h => ?_) (fun h => ?_)
      · rw [pk_andN (by omega) (m := 7) 3 (by decide)]
        refine h206 _ (by omega) ?_
        rw [if_pos (by omega)]
        unfold op_five
        omega
      · rw [pk_andN (by omega) (m := 1) 1 (by decide)]
        have e1 : (8 : Int32) ||| nI (op_five x % 2 ^ 1) = nI (2 ^ 1 * 4 + op_five x % 2 ^ 1) := op_orA (a := 4) (k := 1) (by omega)
        rw [e1]
        refine h206 _ (by omega) ?_
        rw [if_neg (by omega)]
        unfold op_five
        omega
  have h65 : ∀ lg : Nat, lg < 2 → lg = op_lg x → wX_openDecimal_65 post (nI f) x (nI k) (nI (op_five x)) (nI lg) f_raised f_trapped f_mode f_below f_value f_power f_rest f_wish f_exact a_format a_bits a_kind a_minus a_coefficient a_exponent a_wide := by
    intro lg hlg elg
    refine pk_eq f 2 (fun h2 => pk_eq lg 0 (fun h => ?_) (fun h => ?_)) (fun h2 => pk_eq lg 0 (fun h => ?_) (fun h => ?_))
    · rw [op_bits x (m := 255) 23 8 (by decide) (by decide) (by decide)]
      refine h96 h2 lg _ hlg elg ?_
      unfold op_e10
      rw [if_pos h2, if_pos (by omega)]
    · rw [op_bits x (m := 255) 21 8 (by decide) (by decide) (by decide)]
      refine h96 h2 lg _ hlg elg ?_
      unfold op_e10
      rw [if_pos h2, if_neg (by omega)]
    · rw [e8]
      refine h150 h2 lg _ hlg elg (by omega) ?_
      rw [if_pos (by omega)]
    · rw [pk_shrN (by omega) _ 1 (by decide), pk_andN (by omega) (m := 3) 2 (by decide)]
      refine h150 h2 lg _ hlg elg (by omega) ?_
      rw [if_neg (by omega)]
      unfold op_five
      omega
  rw [wX_openDecimal_52, e8]
  refine pk_eq (op_n x / 536870912 % 4) 3 (fun h => ?_) (fun h => ?_)
  · exact h65 1 (by decide) (by unfold op_lg; rw [if_pos h])
  · exact h65 0 (by decide) (by unfold op_lg; rw [if_neg h])
theorem xo_d {f k : Nat} {x : Int32} (hf : f = 2 ∨ f = 3) (hk : k < 3) (hk3 : a_kind k = nI 3) (H : ∀ (ak : Nat → Int32) (ac : Nat → Int64) (ae : Nat → Int32), ak k = nI (op_K10 x) → ac k = lN (op_C10 f x) → ae k = zz_I (-101 + (op_e10 f x : Int)) → (∀ j, j ≠ k → ak j = a_kind j ∧ ac j = a_coefficient j ∧ ae j = a_exponent j) → post (f_raised, f_trapped, f_mode, f_below, f_value, f_power, f_rest, f_wish, f_exact, a_format, a_bits, ak, a_minus, ac, ae, a_wide)) : wpX_openDecimal post (f_raised, f_trapped, f_mode, f_below, f_value, f_power, f_rest, f_wish, f_exact, a_format, a_bits, a_kind, a_minus, a_coefficient, a_exponent, a_wide) (nI f) x (nI k) := by
  have hin : vp_in (nI k) 3 := vp_in_nI hk (by decide)
  have hck : (nI k).toNatClampNeg = k := nI_clamp (by omega)
  have h5 : op_five x < 32 := Nat.mod_lt _ (by decide)
  have go : ∀ ak : Nat → Int32, ak k = nI (op_K10 x) → (∀ j, j ≠ k → ak j = a_kind j) → wX_openDecimal_52 post (nI f) x (nI k) (nI (op_five x)) f_raised f_trapped f_mode f_below f_value f_power f_rest f_wish f_exact a_format a_bits ak a_minus a_coefficient a_exponent a_wide := by
    intro ak hak hoth
    refine xo_52 hf hk ?_
    intro ac ae h1 h2 h3
    exact H ak ac ae hak h1 h2 (fun j hj => ⟨hoth j hj, h3 j hj⟩)
  have h23 : ∀ ak : Nat → Int32, ak k = nI (if op_five x = 30 then 2 else 3) → (∀ j, j ≠ k → ak j = a_kind j) → wX_openDecimal_23 post (nI f) x (nI k) (nI (op_five x)) f_raised f_trapped f_mode f_below f_value f_power f_rest f_wish f_exact a_format a_bits ak a_minus a_coefficient a_exponent a_wide := by
    intro ak hak hoth
    refine pk_eq (op_five x) 31 (fun h => ?_) (fun h => ?_)
    · rw [op_bits x (m := 1) 25 1 (by decide) (by decide) (by decide)]
      have h50 : ∀ K : Nat, K < 4 → K = op_K10 x → wX_openDecimal_50 post (nI f) x (nI k) (nI (op_five x)) (nI K) (nI k) f_raised f_trapped f_mode f_below f_value f_power f_rest f_wish f_exact a_format a_bits ak a_minus a_coefficient a_exponent a_wide := by
        intro K hK eK
        refine And.intro hin (nm_e ?_)
        rw [hck, zz_vby' hK, eK]
        exact go _ pk_us (fun j hj => by rw [pk_un hj]; exact hoth j hj)
      refine pk_eq (op_n x / 2 ^ 25 % 2 ^ 1) 1 (fun h1 => ?_) (fun h1 => ?_)
      · exact h50 0 (by decide) (by unfold op_K10; rw [if_neg (by omega), if_pos h, if_pos h1])
      · exact h50 1 (by decide) (by unfold op_K10; rw [if_neg (by omega), if_pos h, if_neg h1])
    · refine go ak ?_ hoth
      rw [hak]
      unfold op_K10
      congr 1
      by_cases h0 : op_five x = 30
      · rw [if_pos h0, if_pos h0]
      · rw [if_neg h0, if_neg h0, if_neg h]
  refine nm_r (e' := nI (op_five x)) (op_bits x 26 5 (by decide) (by decide) (by decide)) ?_
  refine pk_eq (op_five x) 30 (fun h => ⟨hin, nm_e ?_⟩) (fun h => ?_)
  · rw [hck]
    refine h23 _ ?_ (fun j hj => pk_un hj)
    rw [pk_us, if_pos h]
    exact zz_vby (z := 2) (by decide)
  · refine h23 a_kind ?_ (fun _ _ => rfl)
    rw [if_neg h]
    exact hk3
theorem xw_open {r k f : Nat} (hr : r < 8) (hk : k < 3) (hf : f < 4) (ef : a_format r = nI f) (H : ∀ (ak am : Nat → Int32) (ac : Nat → Int64) (ae : Nat → Int32), op_Sl ak am ac ae k (op_K f (a_bits r)) (op_M f (a_bits r)) (op_C f (a_bits r)) (op_E f (a_bits r)) → (∀ j, j ≠ k → ak j = a_kind j ∧ am j = a_minus j ∧ ac j = a_coefficient j ∧ ae j = a_exponent j) → post (f_raised, f_trapped, f_mode, f_below, f_value, f_power, f_rest, f_wish, f_exact, a_format, a_bits, ak, am, ac, ae, a_wide)) : wpX_open post (f_raised, f_trapped, f_mode, f_below, f_value, f_power, f_rest, f_wish, f_exact, a_format, a_bits, a_kind, a_minus, a_coefficient, a_exponent, a_wide) (nI r) (nI k) := by
  have hin : vp_in (nI k) 3 := vp_in_nI hk (by decide)
  have hin8 : vp_in (nI r) 8 := vp_in_nI hr (by decide)
  have hck : (nI k).toNatClampNeg = k := nI_clamp (by omega)
  have hcr : (nI r).toNatClampNeg = r := nI_clamp (by omega)
  generalize ex : a_bits r = x at H
  have hn := op_n_lt x
  have h85 : ∀ (ak am : Nat → Int32) (ac : Nat → Int64) (ae : Nat → Int32), ak k = nI (op_K f x) → am k = nI (op_M f x) → ac k = lN (op_C0 f x) → ae k = zz_I (op_E0 f x) → (∀ j, j ≠ k → ak j = a_kind j ∧ am j = a_minus j ∧ ac j = a_coefficient j ∧ ae j = a_exponent j) → wX_open_85 post (nI k) f_raised f_trapped f_mode f_below f_value f_power f_rest f_wish f_exact a_format a_bits ak am ac ae a_wide := by
    intro ak am ac ae h1 h2 h3 h4 h5
    refine And.intro hin ?_
    rw [hck, h1]
    have hK4 := op_K_lt f x
    refine pk_eq (op_K f x) 3 (fun h => ?_) (fun h => ⟨hin, nm_e ⟨hin, nm_e ?_⟩⟩)
    · refine H ak am ac ae ⟨h1, h2, ?_, ?_⟩ h5
      · unfold op_C
        rw [if_pos h]
        exact h3
      · unfold op_E
        rw [if_pos h]
        exact h4
    · refine H ak am _ _ ⟨h1, h2, ?_, ?_⟩ (fun j hj => ⟨(h5 j hj).1, (h5 j hj).2.1, ?_, ?_⟩)
      · unfold op_C
        rw [if_neg h]
        exact pk_uLs
      · unfold op_E
        rw [if_neg h]
        exact pk_us
      · rw [pk_uLn hj]
        exact (h5 j hj).2.2.1
      · rw [pk_un hj]
        exact (h5 j hj).2.2.2
  have h53 : ∀ s : Nat, s < 2 → s = op_M f x → wX_open_53 post (nI k) (nI f) x (nI s) (nI k) f_raised f_trapped f_mode f_below f_value f_power f_rest f_wish f_exact a_format a_bits a_kind a_minus a_coefficient a_exponent a_wide := by
    intro s hs es
    refine And.intro hin (nm_e ⟨hin, nm_e ?_⟩)
    rw [hck, zz_vb hs, es]
    have ek3 : (upd a_kind k (vp_nar .byte 3)) k = nI 3 := by
      rw [pk_us]
      exact zz_vby (z := 3) (by decide)
    refine pk_le 2 f (fun h => ?_) (fun h => ?_)
    · refine xo_d (by omega) hk ek3 ?_
      intro ak ac ae h1 h2 h3 h4
      refine h85 ak _ ac ae ?_ pk_us ?_ ?_ (fun j hj => ⟨?_, pk_un hj, (h4 j hj).2.1, (h4 j hj).2.2⟩)
      · unfold op_K
        rw [if_neg (by omega)]
        exact h1
      · unfold op_C0
        rw [if_neg (by omega)]
        exact h2
      · unfold op_E0
        rw [if_neg (by omega)]
        exact h3
      · rw [(h4 j hj).1, pk_un hj]
    · refine xo_b (by omega) hk ek3 ?_
      intro ak ac ae h1 h2 h3 h4
      refine h85 ak _ ac ae ?_ pk_us ?_ ?_ (fun j hj => ⟨?_, pk_un hj, (h4 j hj).2.1, (h4 j hj).2.2⟩)
      · unfold op_K
        rw [if_pos (by omega)]
        exact h1
      · unfold op_C0
        rw [if_pos (by omega)]
        exact h2
      · unfold op_E0
        rw [if_pos (by omega)]
        exact h3
      · rw [(h4 j hj).1, pk_un hj]
  refine And.intro hin8 (nm_r (e' := nI f) (by rw [hcr]; exact ef) ⟨hin8, nm_r (e' := x) (by rw [hcr]; exact ex) ?_⟩)
  unfold op_M at h53
  refine pk_eq f 0 (fun h => ?_) (fun h => br_c (fun h0 => ?_) (fun h0 => ?_))
  · rw [if_pos h] at h53
    rw [op_bits x (m := 1) 15 1 (by decide) (by decide) (by decide)]
    refine pk_eq (op_n x / 2 ^ 15 % 2 ^ 1) 1 (fun h1 => h53 1 (by decide) ?_) (fun h1 => h53 0 (by decide) ?_)
    · omega
    · omega
  · rw [if_neg h] at h53
    have := (op_neg x).mp h0
    exact h53 0 (by decide) (by omega)
  · rw [if_neg h] at h53
    have : ¬ op_n x / 2147483648 = 0 := fun h => h0 ((op_neg x).mpr h)
    exact h53 1 (by decide) (by omega)
end
end
section
/-! the reference's open -/
section
variable {f_attribute : Int32} {f_raised : Int32} {f_trapped : Int32} {f_more : Int32} {f_made : Int32} {a_format : Nat → Int32} {a_pattern : Nat → Int32} {a_kind : Nat → Int32} {a_exponent : Nat → Int32} {a_coefficient : Nat → Int64} {a_minus : Nat → Int32} {a_row : Nat → Int32} {post : SY → Prop}
theorem yo_b {f k : Nat} {x : Int32} (hf : f < 2) (hk : k < 3) (hk3 : a_kind k = nI 3) (H : ∀ (ak : Nat → Int32) (ac : Nat → Int64) (ae : Nat → Int32), ak k = nI (op_K2 f x) → (op_K2 f x = 3 → ac k = lN (op_C2 f x) ∧ ae k = zz_I (op_E2 f x)) → (¬ op_K2 f x = 3 → ac k = a_coefficient k ∧ ae k = a_exponent k) → (∀ j, j ≠ k → ak j = a_kind j ∧ ac j = a_coefficient j ∧ ae j = a_exponent j) → post (f_attribute, f_raised, f_trapped, f_more, f_made, a_format, a_pattern, ak, ae, ac, a_minus, a_row)) : wpY_binary post (f_attribute, f_raised, f_trapped, f_more, f_made, a_format, a_pattern, a_kind, a_exponent, a_coefficient, a_minus, a_row) (nI k) (nI f) x := by
  have hw : op_w f = 10 ∧ op_a f = 31 ∧ f = 0 ∨ op_w f = 23 ∧ op_a f = 255 ∧ f = 1 := by
    rcases (show f = 0 ∨ f = 1 by omega) with rfl | rfl
    · exact Or.inl ⟨rfl, rfl, rfl⟩
    · exact Or.inr ⟨rfl, rfl, rfl⟩
  have hin : vp_in (nI k) 3 := vp_in_nI hk (by decide)
  have hck : (nI k).toNatClampNeg = k := nI_clamp (by omega)
  have het : op_e2 f x < op_a f + 1 := Nat.mod_lt _ (by omega)
  have htt : op_t2 f x < 2 ^ op_w f := Nat.mod_lt _ (Nat.pow_pos (by decide))
  have h2w : (2 : Nat) ^ op_w f ≤ 8388608 := by
    rcases hw with ⟨h, _⟩ | ⟨h, _⟩ <;> rw [h] <;> decide
  have ha256 : op_a f < 256 := by omega
  have h106 : op_K2 f x = 3 → wY_binary_106 post (nI k) (nI f) (nI (op_e2 f x)) (lN (op_C2 f x)) (nI k) f_attribute f_raised f_trapped f_more f_made a_format a_pattern a_kind a_exponent a_coefficient a_minus a_row := by
    intro hK
    refine And.intro hin (nm_e ?_)
    rw [hck]
    unfold op_E2 at H
    refine pk_eq (op_e2 f x) 0 (fun h => yw_least (by omega) ⟨hin, nm_e ?_⟩) (fun h => yw_least (by omega) ⟨hin, nm_e ?_⟩)
    · rw [if_pos h] at H
      exact H _ _ _ (by rw [hK]; exact hk3) (fun _ => ⟨pk_uLs, pk_us⟩) (fun h => absurd hK h) (fun j hj => ⟨rfl, pk_uLn hj, pk_un hj⟩)
    · rw [if_neg h] at H
      have e : zz_I (fm_l f) + nI (op_e2 f x) - 1 = zz_I (fm_l f + ((op_e2 f x : Int) - 1)) := by
        rw [zz_nI, zz_Iadd, zz_Is1]
        congr 1
        omega
      rw [e]
      exact H _ _ _ (by rw [hK]; exact hk3) (fun _ => ⟨pk_uLs, pk_us⟩) (fun h => absurd hK h) (fun j hj => ⟨rfl, pk_uLn hj, pk_un hj⟩)
  have hkind : ∀ K : Nat, ¬ K = 3 → K = op_K2 f x → post (f_attribute, f_raised, f_trapped, f_more, f_made, a_format, a_pattern, upd a_kind k (nI K), a_exponent, a_coefficient, a_minus, a_row) := by
    intro K h3 hK
    exact H _ _ _ (by rw [pk_us, hK]) (fun h => absurd (hK.trans h) h3) (fun _ => ⟨rfl, rfl⟩) (fun j hj => ⟨pk_un hj, rfl, rfl⟩)
  have h20 : wY_binary_20 post (nI k) (nI f) x (nI (op_w f)) (nI (op_a f)) f_attribute f_raised f_trapped f_more f_made a_format a_pattern a_kind a_exponent a_coefficient a_minus a_row := by
    refine nm_r (e' := nI (op_e2 f x)) ?_ (nm_r (e' := nI (op_t2 f x)) ?_ ?_)
    · unfold op_e2
      rcases hw with ⟨h1, h2, _⟩ | ⟨h1, h2, _⟩
      · rw [h1, h2]
        exact op_bits x 10 5 (by decide) (by decide) (by decide)
      · rw [h1, h2]
        exact op_bits x 23 8 (by decide) (by decide) (by decide)
    · unfold op_t2
      rcases hw with ⟨h1, h2, _⟩ | ⟨h1, h2, _⟩
      · rw [h1]
        exact op_mask x 10 (by decide)
      · rw [h1]
        exact op_mask x 23 (by decide)
    · have hle : op_t2 f x / 2 ^ (op_w f - 1) < 2 := by
        rw [Nat.div_lt_iff_lt_mul (Nat.pow_pos (by decide))]
        rcases hw with ⟨h1, h2, _⟩ | ⟨h1, h2, _⟩
        · rw [h1] at htt ⊢
          exact htt
        · rw [h1] at htt ⊢
          exact htt
      have e1 : (nI (op_t2 f x) >>> ((nI (op_w f) - 1) &&& 31)) &&& 1 = nI (op_t2 f x / 2 ^ (op_w f - 1)) := by
        have e0 : nI (op_t2 f x) >>> ((nI (op_w f) - 1) &&& 31) = nI (op_t2 f x / 2 ^ (op_w f - 1)) := by
          rcases hw with ⟨h1, h2, _⟩ | ⟨h1, h2, _⟩
          · rw [h1]
            exact pk_shrN (by omega) _ 9 (by decide)
          · rw [h1]
            exact pk_shrN (by omega) _ 22 (by decide)
        rw [e0, pk_andN (by omega) (m := 1) 1 (by decide)]
        exact congrArg nI (Nat.mod_eq_of_lt hle)
      rw [e1, hck]
      refine pk_eq (op_e2 f x) (op_a f) (fun h => pk_eq (op_t2 f x) 0 (fun h0 => ⟨hin, nm_e ?_⟩) (fun h0 => pk_eq (op_t2 f x / 2 ^ (op_w f - 1)) 1 (fun h1 => ⟨hin, nm_e ?_⟩) (fun h1 => ⟨hin, nm_e ?_⟩))) (fun h => ?_)
      · exact hkind 2 (by decide) (by unfold op_K2; rw [if_pos h, if_pos h0])
      · exact hkind 1 (by decide) (by unfold op_K2; rw [if_pos h, if_neg h0, if_pos h1])
      · exact hkind 0 (by decide) (by unfold op_K2; rw [if_pos h, if_neg h0, if_neg h1])
      · have hK : op_K2 f x = 3 := by unfold op_K2; rw [if_neg h]
        have hh := h106 hK
        unfold op_C2 at hh
        refine pk_eq (op_e2 f x) 0 (fun h0 => ?_) (fun h0 => ?_)
        · rw [if_pos h0] at hh
          rw [nI_l (by omega)]
          exact hh
        · rw [if_neg h0] at hh
          have e1 : (1 : Int32) <<< (nI (op_w f) &&& 31) = nI (2 ^ op_w f * 1) := by
            rcases hw with ⟨h, _⟩ | ⟨h, _⟩ <;> rw [h] <;> decide
          rw [e1, nI_add, Nat.add_comm, nI_l (by omega)]
          exact hh
  unfold wpY_binary
  dsimp only
  refine yw_precision (f := f) (by omega) ?_
  refine nm_r (e' := nI (op_w f)) ?_ ?_
  · rcases hw with ⟨_, _, h3⟩ | ⟨_, _, h3⟩ <;> rw [h3] <;> decide
  · refine pk_eq f 0 (fun h => ?_) (fun h => ?_)
    · have e : op_a f = 31 := by omega
      rw [e] at h20
      exact h20
    · have e : op_a f = 255 := by omega
      rw [e] at h20
      exact h20
theorem yo_d {f k : Nat} {x : Int32} (hf : f = 2 ∨ f = 3) (hk : k < 3) (hk3 : a_kind k = nI 3) (H : ∀ (ak : Nat → Int32) (ac : Nat → Int64) (ae : Nat → Int32), ak k = nI (op_K10 x) → (op_K10 x = 3 → ac k = lN (op_C10 f x) ∧ ae k = zz_I (-101 + (op_e10 f x : Int))) → (¬ op_K10 x = 3 → ac k = a_coefficient k ∧ ae k = a_exponent k) → (∀ j, j ≠ k → ak j = a_kind j ∧ ac j = a_coefficient j ∧ ae j = a_exponent j) → post (f_attribute, f_raised, f_trapped, f_more, f_made, a_format, a_pattern, ak, ae, ac, a_minus, a_row)) : wpY_decimal post (f_attribute, f_raised, f_trapped, f_more, f_made, a_format, a_pattern, a_kind, a_exponent, a_coefficient, a_minus, a_row) (nI k) (nI f) x := by
  have hin : vp_in (nI k) 3 := vp_in_nI hk (by decide)
  have hck : (nI k).toNatClampNeg = k := nI_clamp (by omega)
  have hn := op_n_lt x
  have h5 : op_five x < 32 := Nat.mod_lt _ (by decide)
  have d1 := op_dc_lt (show op_n x / 1024 % 1024 < 1024 by omega)
  have d2 := op_dc_lt (show op_n x % 1024 < 1024 by omega)
  have hkind : ∀ K : Nat, ¬ K = 3 → K = op_K10 x → post (f_attribute, f_raised, f_trapped, f_more, f_made, a_format, a_pattern, upd a_kind k (nI K), a_exponent, a_coefficient, a_minus, a_row) := by
    intro K h3 hK
    exact H _ _ _ (by rw [pk_us, hK]) (fun h => absurd (hK.trans h) h3) (fun _ => ⟨rfl, rfl⟩) (fun j hj => ⟨pk_un hj, rfl, rfl⟩)
  have h209 : op_K10 x = 3 → ∀ (e c : Nat), c < 2147483648 → e = op_e10 f x → c = op_c10 f x → wY_decimal_209 post (nI k) (nI e) (nI c) f_attribute f_raised f_trapped f_more f_made a_format a_pattern a_kind a_exponent a_coefficient a_minus a_row := by
    intro hK e c hcl he hc
    refine And.intro hin (nm_e ?_)
    have e1 : (-101 : Int32) + nI e = zz_I (-101 + (op_e10 f x : Int)) := by
      rw [zz_nI, he, show (-101 : Int32) = zz_I (-101) by decide, zz_Iadd]
    rw [hck, e1]
    unfold op_C10 at H
    refine pk_le c 9999999 (fun h => ⟨hin, nm_e ?_⟩) (fun h => ⟨hin, nm_e ?_⟩)
    · rw [if_pos (by omega)] at H
      rw [nI_l hcl, hc]
      exact H _ _ _ (by rw [hK]; exact hk3) (fun _ => ⟨pk_uLs, pk_us⟩) (fun h => absurd hK h) (fun j hj => ⟨rfl, pk_uLn hj, pk_un hj⟩)
    · rw [if_neg (by omega)] at H
      exact H _ _ _ (by rw [hK]; exact hk3) (fun _ => ⟨pk_uLs, pk_us⟩) (fun h => absurd hK h) (fun j hj => ⟨rfl, pk_uLn hj, pk_un hj⟩)
  have h123 : op_K10 x = 3 → ∀ (lg e : Nat), lg < 2 → lg = op_lg x → e = op_e10 f x → wY_decimal_123 post (nI k) (nI f) x (nI lg) (nI e) f_attribute f_raised f_trapped f_more f_made a_format a_pattern a_kind a_exponent a_coefficient a_minus a_row := by
    intro hK lg e hlg elg he
    have h175 : f = 3 → ∀ dg : Nat, dg < 10 → dg = (if op_lg x = 0 then op_n x / 67108864 % 8 else 8 + op_n x / 67108864 % 2) → wY_decimal_175 post (nI k) x (nI e) (nI dg) f_attribute f_raised f_trapped f_more f_made a_format a_pattern a_kind a_exponent a_coefficient a_minus a_row := by
      intro h3 dg hdg edg
      rw [wY_decimal_175, op_bits x (m := 1023) 10 10 (by decide) (by decide) (by decide), op_mask x (m := 1023) 10 (by decide)]
      refine op_dcY (by omega) ?_
      refine op_dcY (by omega) ?_
      refine nm_r (e' := nI (op_c10 f x)) ?_ (h209 hK e _ ?_ he rfl)
      · have e1 : (1000000 : Int32) * nI dg = nI (1000000 * dg) := pk_mul 1000000 dg
        have e2 : (1000 : Int32) * nI (op_dc (op_n x / 1024 % 1024)) = nI (1000 * op_dc (op_n x / 1024 % 1024)) := pk_mul 1000 _
        rw [e1, e2, nI_add, nI_add]
        congr 1
        unfold op_c10
        rw [if_neg (by omega), ← edg]
      · unfold op_c10
        rw [if_neg (by omega), ← edg]
        omega
    have h144 : ∀ c : Nat, c < 2147483648 → (f = 2 → c = op_c10 f x) → wY_decimal_144 post (nI k) (nI f) x (nI lg) (nI e) (nI c) f_attribute f_raised f_trapped f_more f_made a_format a_pattern a_kind a_exponent a_coefficient a_minus a_row := by
      intro c hcl hc
      refine pk_eq f 3 (fun h3 => pk_eq lg 0 (fun h => ?_) (fun h => ?_)) (fun h3 => h209 hK e c hcl he (hc (by omega)))
      · rw [op_bits x (m := 7) 26 3 (by decide) (by decide) (by decide)]
        refine h175 h3 _ (by omega) ?_
        rw [if_pos (by omega)]
      · rw [op_bits x (m := 1) 26 1 (by decide) (by decide) (by decide)]
        have e1 : (8 : Int32) + nI (op_n x / 2 ^ 26 % 2 ^ 1) = nI (8 + op_n x / 2 ^ 26 % 2 ^ 1) := nI_add 8 _
        rw [e1]
        refine h175 h3 _ (by omega) ?_
        rw [if_neg (by omega)]
    refine pk_eq lg 0 (fun h => ?_) (fun h => ?_)
    · rw [op_mask x (m := 8388607) 23 (by decide)]
      refine h144 _ (by omega) (fun h2 => ?_)
      unfold op_c10
      rw [if_pos h2, if_pos (by omega)]
    · rw [op_mask x (m := 2097151) 21 (by decide)]
      have e1 : (8388608 : Int32) + nI (op_n x % 2 ^ 21) = nI (8388608 + op_n x % 2 ^ 21) := nI_add 8388608 _
      rw [e1]
      refine h144 _ (by omega) (fun h2 => ?_)
      unfold op_c10
      rw [if_pos h2, if_neg (by omega)]
  have h64 : op_K10 x = 3 → ∀ lg : Nat, lg < 2 → lg = op_lg x → wY_decimal_64 post (nI k) (nI f) x (nI lg) f_attribute f_raised f_trapped f_more f_made a_format a_pattern a_kind a_exponent a_coefficient a_minus a_row := by
    intro hK lg hlg elg
    have h112 : ¬ f = 2 → ∀ y : Nat, y < 4 → y = (if op_lg x = 0 then op_n x / 536870912 % 4 else op_n x / 134217728 % 4) → ∀ z : Int32, z &&& 3 = nI y → wY_decimal_112 post (nI k) (nI f) x (nI lg) z 64 f_attribute f_raised f_trapped f_more f_made a_format a_pattern a_kind a_exponent a_coefficient a_minus a_row := by
      intro h2 y hy ey z hz
      rw [wY_decimal_112, hz, op_bits x (m := 63) 20 6 (by decide) (by decide) (by decide)]
      have e1 : (64 : Int32) * nI y = nI (64 * y) := pk_mul 64 y
      rw [e1, nI_add]
      refine h123 hK lg _ hlg elg ?_
      unfold op_e10
      rw [if_neg h2, ← ey]
    refine pk_eq f 2 (fun h2 => pk_eq lg 0 (fun h => ?_) (fun h => ?_)) (fun h2 => pk_eq lg 0 (fun h => ?_) (fun h => ?_))
    · rw [wY_decimal_87, op_bits x (m := 255) 23 8 (by decide) (by decide) (by decide)]
      refine h123 hK lg _ hlg elg ?_
      unfold op_e10
      rw [if_pos h2, if_pos (by omega)]
    · rw [wY_decimal_87, op_bits x (m := 255) 21 8 (by decide) (by decide) (by decide)]
      refine h123 hK lg _ hlg elg ?_
      unfold op_e10
      rw [if_pos h2, if_neg (by omega)]
    · refine h112 h2 _ ?_ rfl _ ?_
      · split <;> omega
      · rw [op_bits x (m := 3) 29 2 (by decide) (by decide) (by decide), if_pos (by omega)]
    · refine h112 h2 _ ?_ rfl _ ?_
      · split <;> omega
      · rw [op_bits x (m := 3) 27 2 (by decide) (by decide) (by decide), if_neg (by omega)]
  refine nm_r (e' := nI (op_five x)) (op_bits x 26 5 (by decide) (by decide) (by decide)) ?_
  rw [op_bits x (m := 3) 29 2 (by decide) (by decide) (by decide), op_bits x (m := 1) 25 1 (by decide) (by decide) (by decide), hck]
  refine pk_le (op_five x) 29 (fun h => ?_) (fun h => pk_eq (op_five x) 30 (fun h0 => ⟨hin, nm_e ?_⟩) (fun h0 => pk_eq (op_n x / 2 ^ 25 % 2 ^ 1) 1 (fun h1 => ⟨hin, nm_e ?_⟩) (fun h1 => ⟨hin, nm_e ?_⟩)))
  · have hK : op_K10 x = 3 := by
      unfold op_K10
      rw [if_neg (by omega), if_neg (by omega)]
    refine pk_eq (op_n x / 2 ^ 29 % 2 ^ 2) 3 (fun h1 => ?_) (fun h1 => ?_)
    · exact h64 hK 1 (by decide) (by unfold op_lg; rw [if_pos h1])
    · exact h64 hK 0 (by decide) (by unfold op_lg; rw [if_neg h1])
  · exact hkind 2 (by decide) (by unfold op_K10; rw [if_pos h0])
  · exact hkind 0 (by decide) (by unfold op_K10; rw [if_neg h0, if_pos (by omega), if_pos h1])
  · exact hkind 1 (by decide) (by unfold op_K10; rw [if_neg h0, if_pos (by omega), if_neg h1])
theorem yw_open {r k f : Nat} (hr : r < 8) (hk : k < 3) (hf : f < 4) (ef : a_format r = nI f) (H : ∀ (ak am : Nat → Int32) (ac : Nat → Int64) (ae : Nat → Int32), op_Sl ak am ac ae k (op_K f (a_pattern r)) (op_M f (a_pattern r)) (op_C f (a_pattern r)) (op_E f (a_pattern r)) → (∀ j, j ≠ k → ak j = a_kind j ∧ am j = a_minus j ∧ ac j = a_coefficient j ∧ ae j = a_exponent j) → post (f_attribute, f_raised, f_trapped, f_more, f_made, a_format, a_pattern, ak, ae, ac, am, a_row)) : wpY_open post (f_attribute, f_raised, f_trapped, f_more, f_made, a_format, a_pattern, a_kind, a_exponent, a_coefficient, a_minus, a_row) (nI k) (nI r) := by
  have hin : vp_in (nI k) 3 := vp_in_nI hk (by decide)
  have hin8 : vp_in (nI r) 8 := vp_in_nI hr (by decide)
  have hck : (nI k).toNatClampNeg = k := nI_clamp (by omega)
  have hcr : (nI r).toNatClampNeg = r := nI_clamp (by omega)
  generalize ex : a_pattern r = x at H
  have hn := op_n_lt x
  have h45 : ∀ s : Nat, s < 2 → s = op_M f x → wY_open_45 post (nI k) (nI f) x (nI s) (nI k) f_attribute f_raised f_trapped f_more f_made a_format a_pattern a_kind a_exponent a_coefficient a_minus a_row := by
    intro s hs es
    refine And.intro hin (nm_e ⟨hin, nm_e ⟨hin, nm_e ⟨hin, nm_e ?_⟩⟩⟩)
    rw [hck, zz_vb hs, es]
    refine pk_le 2 f (fun h => ?_) (fun h => ?_)
    · refine yo_d (by omega) hk pk_us ?_
      intro ak ac ae h1 h2 h3 h4
      have eK : op_K f x = op_K10 x := by
        unfold op_K
        rw [if_neg (by omega)]
      refine H ak _ ac ae ⟨by rw [eK]; exact h1, pk_us, ?_, ?_⟩ (fun j hj => ⟨by rw [(h4 j hj).1, pk_un hj], pk_un hj, by rw [(h4 j hj).2.1, pk_uLn hj], by rw [(h4 j hj).2.2, pk_un hj]⟩)
      · unfold op_C op_C0
        rw [eK, if_neg (show ¬ f < 2 by omega)]
        by_cases h3' : op_K10 x = 3
        · rw [if_pos h3']
          exact (h2 h3').1
        · rw [if_neg h3', (h3 h3').1]
          exact pk_uLs
      · unfold op_E op_E0
        rw [eK, if_neg (show ¬ f < 2 by omega)]
        by_cases h3' : op_K10 x = 3
        · rw [if_pos h3']
          exact (h2 h3').2
        · rw [if_neg h3', (h3 h3').2]
          exact pk_us
    · refine yo_b (by omega) hk pk_us ?_
      intro ak ac ae h1 h2 h3 h4
      have eK : op_K f x = op_K2 f x := by
        unfold op_K
        rw [if_pos (by omega)]
      refine H ak _ ac ae ⟨by rw [eK]; exact h1, pk_us, ?_, ?_⟩ (fun j hj => ⟨by rw [(h4 j hj).1, pk_un hj], pk_un hj, by rw [(h4 j hj).2.1, pk_uLn hj], by rw [(h4 j hj).2.2, pk_un hj]⟩)
      · unfold op_C op_C0
        rw [eK, if_pos (show f < 2 by omega)]
        by_cases h3' : op_K2 f x = 3
        · rw [if_pos h3']
          exact (h2 h3').1
        · rw [if_neg h3', (h3 h3').1]
          exact pk_uLs
      · unfold op_E op_E0
        rw [eK, if_pos (show f < 2 by omega)]
        by_cases h3' : op_K2 f x = 3
        · rw [if_pos h3']
          exact (h2 h3').2
        · rw [if_neg h3', (h3 h3').2]
          exact pk_us
  refine And.intro hin8 (nm_r (e' := nI f) (by rw [hcr]; exact ef) ⟨hin8, nm_r (e' := x) (by rw [hcr]; exact ex) ?_⟩)
  unfold op_M at h45
  refine pk_eq f 0 (fun h => ?_) (fun h => ?_)
  · rw [if_pos h] at h45
    rw [wY_open_33, op_bits x (m := 1) 15 1 (by decide) (by decide) (by decide)]
    refine pk_eq (op_n x / 2 ^ 15 % 2 ^ 1) 1 (fun h1 => h45 1 (by decide) ?_) (fun h1 => h45 0 (by decide) ?_)
    · omega
    · omega
  · rw [if_neg h] at h45
    rw [wY_open_33, op_bits x (m := 1) 31 1 (by decide) (by decide) (by decide)]
    refine pk_eq (op_n x / 2 ^ 31 % 2 ^ 1) 1 (fun h1 => h45 1 (by decide) ?_) (fun h1 => h45 0 (by decide) ?_)
    · omega
    · omega
end
end
section
/-! how both sides end -/
def ys_O (post : Int32 → SY → Prop) (rs tr md : Int32) (fo bi : Nat → Int32) (fl pt : Int32) : Prop := ∀ u' : SY, ys_S u' rs tr md fo bi → (fl = 1 ∨ u'.2.2.2.2.1 = pt) → post fl u'
def bt_ok (f : Nat) (fl pt : Int32) : Prop := (fl = 1 ∧ pt = pa_nan f) ∨ fl &&& 1 = 0
section
variable {f_attribute : Int32} {f_raised : Int32} {f_trapped : Int32} {f_more : Int32} {f_made : Int32} {a_format : Nat → Int32} {a_pattern : Nat → Int32} {a_kind : Nat → Int32} {a_exponent : Nat → Int32} {a_coefficient : Nat → Int64} {a_minus : Nat → Int32} {a_row : Nat → Int32} {post : Int32 → SY → Prop}
theorem yw_finishT {d f : Nat} {fl pt : Int32} (hd : d < 8) (hf : f < 4) (ef : a_format d = nI f) (hok : bt_ok f fl pt) (hm : fl = 1 ∨ f_made = pt) (H : ys_D post f_raised f_trapped f_attribute a_format a_pattern d fl pt) : wpY_finish post (f_attribute, f_raised, f_trapped, f_more, f_made, a_format, a_pattern, a_kind, a_exponent, a_coefficient, a_minus, a_row) (nI d) fl := by
  have h29 : wY_finish_29 post (nI d) fl f_attribute (f_raised ||| fl) f_trapped f_more pt a_format a_pattern a_kind a_exponent a_coefficient a_minus a_row := by
    refine br_c (fun h => ⟨vp_in_nI hd (by decide), nm_e ?_⟩) (fun h => ?_)
    · refine H _ ⟨rfl, rfl, rfl, rfl, ?_⟩
      show upd a_pattern (nI d).toNatClampNeg pt = st_bi f_trapped a_pattern d fl pt
      unfold st_bi
      rw [if_pos h, nI_clamp (by omega)]
    · refine H _ ⟨rfl, rfl, rfl, rfl, ?_⟩
      show a_pattern = st_bi f_trapped a_pattern d fl pt
      unfold st_bi
      rw [if_neg h]
  refine nm_e ?_
  rcases hok with ⟨h1, h2⟩ | h0
  · subst h1
    refine br_f (by decide) ⟨vp_in_nI hd (by decide), ?_⟩
    rw [nI_clamp (by omega), ef]
    refine pa_wnanY hf ?_
    rw [← h2]
    exact h29
  · have e : f_made = pt := by
      rcases hm with h | h
      · rw [h] at h0
        exact absurd h0 (by decide)
      · exact h
    subst e
    exact br_t h0 h29
end
theorem yw_finish {post : Int32 → SY → Prop} {u' : SY} {rs tr md : Int32} {fo bi : Nat → Int32} {d f : Nat} {fl pt : Int32} (hS : ys_S u' rs tr md fo bi) (hd : d < 8) (hf : f < 4) (ef : fo d = nI f) (hok : bt_ok f fl pt) (hm : fl = 1 ∨ u'.2.2.2.2.1 = pt) (H : ys_D post rs tr md fo bi d fl pt) : wpY_finish post u' (nI d) fl := by
  obtain ⟨h1, h2, h3, h4, h5⟩ := hS
  subst h1 h2 h3 h4 h5
  exact yw_finishT (f_attribute := u'.1) (f_made := u'.2.2.2.2.1) hd hf ef hok hm H
def bt_XR (f m s v r : Nat) (pw w : Int) (fl pt : Int32) : Prop := ∀ (f_raised : Int32) (f_trapped : Int32) (f_exact : Int32) (a_format : Nat → Int32) (a_bits : Nat → Int32) (a_kind : Nat → Int32) (a_minus : Nat → Int32) (a_coefficient : Nat → Int64) (a_exponent : Nat → Int32) (a_wide : Nat → Int32) (post : Int32 → SX → Prop) (d : Nat), d < 8 → a_format d = nI f → xs_D post f_raised f_trapped (nI m) a_format a_bits d fl pt → wpX_round post (f_raised, f_trapped, nI m, nI s, lN v, zz_I pw, nI r, zz_I w, f_exact, a_format, a_bits, a_kind, a_minus, a_coefficient, a_exponent, a_wide) (nI d) (nI 0)
def bt_YR (f m s N mo : Nat) (w : Int) (fl pt : Int32) : Prop := ∀ (f_raised : Int32) (f_trapped : Int32) (f_made : Int32) (a_format : Nat → Int32) (a_pattern : Nat → Int32) (a_kind : Nat → Int32) (a_exponent : Nat → Int32) (a_coefficient : Nat → Int64) (a_minus : Nat → Int32) (a_row : Nat → Int32) (post : Int32 → SY → Prop), yr_R (fm_b f) a_row 0 N → ys_O post f_raised f_trapped (nI m) a_format a_pattern fl pt → wpY_round post (nI m, f_raised, f_trapped, nI mo, f_made, a_format, a_pattern, a_kind, a_exponent, a_coefficient, a_minus, a_row) (nI f) (nI s) (zz_I w)
theorem bt_zero {f m s : Nat} {w : Int} (hf : f < 4) (hs : s < 2) (hw : -100000 < w ∧ w < 100000) : ∃ pt : Int32, bt_ok f 0 pt ∧ (∀ pw, bt_XR f m s 0 0 pw w 0 pt) ∧ bt_YR f m s 0 0 w 0 pt := by
  refine ⟨pa_P f s 0 (rn_zq f w), Or.inr (by decide), ?_, ?_⟩
  · intro pw
    intro f_raised f_trapped f_exact a_format a_bits a_kind a_minus a_coefficient a_exponent a_wide post d hd ef H
    exact xw_round_0 hd hf hs hw ef H
  · intro f_raised f_trapped f_made a_format a_pattern a_kind a_exponent a_coefficient a_minus a_row post hr H
    exact yw_round_0 hf hs hr hw (H _ ⟨rfl, rfl, rfl, rfl, rfl⟩ (Or.inr rfl))
theorem bt_lt {A D b U p : Nat} {u t : Int} (hD : 0 < D) (hb : 0 < b) (hU : 0 ≤ u + U) (hT : rn_T A D b U t) (h : b ^ p ≤ A / rn_M D b U u) : u < t + 1 - p := by
  have hM : 0 < rn_M D b U u := rn_M_pos hD hb
  have h1 : rn_M D b U u * b ^ p ≤ A := by
    rw [Nat.mul_comm]
    exact (Nat.le_div_iff_mul_le hM).mp h
  rw [← rn_M_add hU] at h1
  rcases Int.lt_or_le t (u + p) with h2 | h2
  · have := rn_M_mono (D := D) (b := b) (U := U) (e := t + 1) (e' := u + p) hb (by have := hT.1; omega) (by omega)
    have := hT.2.2
    omega
  · omega
theorem bt_fl (f m s A D U : Nat) (t : Int) : nI (rn_fl f m s A D U t) &&& 1 = 0 := by
  unfold rn_fl
  split
  · decide
  · split
    · decide
    · split <;> decide
theorem bt_round {f m s A D U v r N mo : Nat} {pw u w : Int} (hf : f < 4) (hm : m < 5) (hs : s < 2) (hw : -100000 < w ∧ w < 100000) (hD : 0 < D) (hPU : fm_P (fm_b f) ≤ U) (hr2 : r < 2) (hU : 0 ≤ pw + U) (hv : v = A / rn_M D (fm_b f) U pw) (hr : r = 0 ↔ A % rn_M D (fm_b f) U pw = 0) (hbd : v < xr_bd (fm_b f)) (hv0 : 0 < v) (hx : r = 0 ∨ fm_b f ^ fm_p f ≤ v) (hpw : -79000 < pw ∧ pw < 79000) (hN : N < fm_b f ^ 800) (hY : yr_Y A D (fm_b f) U N mo u) (hy : fm_b f ^ fm_p f ≤ A / rn_M D (fm_b f) U u) : ∃ fl pt : Int32, bt_ok f fl pt ∧ bt_XR f m s v r pw w fl pt ∧ bt_YR f m s N mo w fl pt := by
  have hff := fm_facts hf
  have hb := fm_b2 f
  obtain ⟨b0, b2, b10, bb⟩ := yr_b hb
  have hbd' : xr_bd (fm_b f) < 9223372036854775808 := by rcases hb with h | h <;> rw [h] <;> decide
  obtain ⟨n, hn, hnv⟩ := dg_ex (b := fm_b f) b2 v
  have hn0 : n ≠ 0 := fun e => by
    have := (dg_n0 b0 hn).mpr e
    omega
  have hn63 : n ≤ 63 := dg_n_le b2 hn (Nat.lt_of_lt_of_le (show v < 2 ^ 63 by omega) (Nat.pow_le_pow_left b2 63))
  have h1 : fm_b f ^ (n - 1) ≤ v := by
    rcases hn.2 with h2 | h2
    · exact absurd h2 hn0
    · exact h2
  have h2 : v < fm_b f ^ (n - 1 + 1) := by
    rw [show n - 1 + 1 = n by omega]
    exact hn.1
  have hT := rn_T_of hD b0 hU hv h1 h2
  have hu := bt_lt hD b0 hY.2.2.1 hT hy
  have hPl : (fm_l f : Int) + fm_P (fm_b f) ≥ 0 := by
    rcases hb with h | h
    · rw [h]
      have : fm_P 2 = 450 := rfl
      omega
    · rw [h]
      have : fm_P 10 = 230 := rfl
      omega
  have hUY := hY.2.2.1
  have hq : r = 0 ∨ pw < pw + ((n - 1 : Nat) : Int) + 1 - (fm_p f : Int) := by
    rcases hx with h | h
    · exact Or.inl h
    · have := dg_n_ge b2 hn h
      right
      omega
  refine ⟨nI (rn_fl f m s A D U (pw + ((n - 1 : Nat) : Int))), rn_pat f m s A D U (pw + ((n - 1 : Nat) : Int)) w, Or.inr (bt_fl ..), ?_, ?_⟩
  · intro f_raised f_trapped f_exact a_format a_bits a_kind a_minus a_coefficient a_exponent a_wide post d hd ef H
    refine xw_round hd hf hm hs hr2 (Or.inl rfl) ef hD hU (by omega) (by omega) hT hv hr hbd hv0 hq (by omega) (by omega) hw ?_
    have e : nI 0 ||| nI (rn_fl f m s A D U (pw + ((n - 1 : Nat) : Int))) = nI (rn_fl f m s A D U (pw + ((n - 1 : Nat) : Int))) := by
      rw [op_or, Nat.zero_or]
    rw [e]
    exact H
  · intro f_raised f_trapped f_made a_format a_pattern a_kind a_exponent a_coefficient a_minus a_row post hr H
    exact yw_round hf hD hm hs hr hN hY hT hu hw (H _ ⟨rfl, rfl, rfl, rfl, rfl⟩ (Or.inr rfl))
/-- an exact number: its row, and itself -/
theorem bt_exact {f m s c : Nat} {e w : Int} (hf : f < 4) (hm : m < 5) (hs : s < 2) (hw : -100000 < w ∧ w < 100000) (hc : c < xr_bd (fm_b f)) (he : -(fm_P (fm_b f) : Int) + 24 ≤ e) (he2 : e < 79000) (hN : c * fm_b f ^ (e + fm_P (fm_b f)).toNat < fm_b f ^ 800) : ∃ fl pt : Int32, bt_ok f fl pt ∧ bt_XR f m s c 0 e w fl pt ∧ bt_YR f m s (c * fm_b f ^ (e + fm_P (fm_b f)).toNat) 0 w fl pt := by
  have hff := fm_facts hf
  have hb := fm_b2 f
  obtain ⟨b0, b2, b10, bb⟩ := yr_b hb
  have hP : fm_P (fm_b f) ≤ 450 := by rcases hb with h | h <;> rw [h] <;> decide
  rcases Nat.eq_zero_or_pos c with h0 | h0
  · subst h0
    rw [Nat.zero_mul]
    obtain ⟨pt, h1, h2, h3⟩ := bt_zero (m := m) hf hs hw
    exact ⟨0, pt, h1, h2 e, h3⟩
  · have eM : rn_M 1 (fm_b f) (fm_P (fm_b f)) e = fm_b f ^ (e + fm_P (fm_b f)).toNat := by
      unfold rn_M
      rw [Nat.one_mul]
    have eM0 : rn_M 1 (fm_b f) (fm_P (fm_b f)) (-(fm_P (fm_b f) : Int)) = 1 := by
      unfold rn_M
      have : (-(fm_P (fm_b f) : Int) + fm_P (fm_b f)).toNat = 0 := by omega
      rw [this, Nat.pow_zero]
    have hB : 0 < fm_b f ^ (e + fm_P (fm_b f)).toNat := Nat.pow_pos b0
    refine bt_round (A := c * fm_b f ^ (e + fm_P (fm_b f)).toNat) (D := 1) (U := fm_P (fm_b f)) (u := -(fm_P (fm_b f) : Int)) hf hm hs hw (by decide) (Nat.le_refl _) (by decide) (by omega) ?_ ?_ hc h0 (Or.inl rfl) (by omega) hN ⟨by decide, by omega, by omega, ?_, ?_⟩ ?_
    · rw [eM, Nat.mul_div_cancel _ hB]
    · rw [eM, Nat.mul_mod_left]
    · rw [eM0, Nat.div_one]
      have : (-(fm_P (fm_b f) : Int) + fm_P (fm_b f)).toNat = 0 := by omega
      rw [this, Nat.pow_zero, Nat.mul_one]
    · rw [eM0, Nat.mod_one]
    · rw [eM0, Nat.div_one]
      have h1 : fm_b f ^ fm_p f ≤ fm_b f ^ (e + fm_P (fm_b f)).toNat := dg_pow_le b0 (by omega)
      exact Nat.le_trans h1 (Nat.le_mul_of_pos_left _ h0)
end
section
/-! sums: the arithmetic, and the component's sum -/
def sm_V (b C : Nat) (E : Int) : Prop := (b = 2 ∧ C < 281474976710656 ∧ -298 ≤ E ∧ E ≤ 208) ∨ (b = 10 ∧ C < 100000000000000 ∧ -202 ≤ E ∧ E ≤ 180)
def sm_N (b C : Nat) (E : Int) : Nat := C * b ^ (E + fm_P b).toNat
theorem sm_Vb {b C : Nat} {E : Int} (h : sm_V b C E) : (b = 2 ∨ b = 10) ∧ 0 ≤ E + fm_P b ∧ -300 ≤ E ∧ E ≤ 210 ∧ 24 ≤ E + fm_P b ∧ C < 9223372036854775808 := by
  rcases h with ⟨rfl, h1, h2, h3⟩ | ⟨rfl, h1, h2, h3⟩
  · have : fm_P 2 = 450 := rfl
    omega
  · have : fm_P 10 = 230 := rfl
    omega
/-- what the component's sum holds: v at pw with rest r, for the number A = N0 +- N1 -/
def sm_A (M0 M1 N0 N1 : Nat) : Nat := if M0 = M1 then N0 + N1 else (N0 - N1) + (N1 - N0)
def sm_s (m M0 M1 N0 N1 : Nat) : Nat := if M0 = M1 then M0 else if N0 = N1 then (if m = 3 then 1 else 0) else if N0 < N1 then M1 else M0
def sm_F (b A v r : Nat) (pw : Int) : Prop := r < 2 ∧ 24 ≤ pw + fm_P b ∧ -400 ≤ pw ∧ pw ≤ 210 ∧ v = A / b ^ (pw + fm_P b).toNat ∧ (r = 0 ↔ A % b ^ (pw + fm_P b).toNat = 0) ∧ v < xr_bd b ∧ (r = 0 ∨ (b = 2 ∧ 2 ^ 24 ≤ v) ∨ (b = 10 ∧ 10 ^ 7 ≤ v))
theorem sm_plus {M B c a k : Nat} (hB : 0 < B) (hk : 0 < k) (hM : M = B * k) : (a * M + c * B) / M = a + c / k ∧ ((a * M + c * B) % M = 0 ↔ c % k = 0) := by
  have hM0 : 0 < M := by rw [hM]; exact Nat.mul_pos hB hk
  have e1 : c * B / M = c / k := by rw [hM, Nat.mul_comm c, Nat.mul_div_mul_left _ _ hB]
  have e2 : c * B % M = B * (c % k) := by rw [hM, Nat.mul_comm c, Nat.mul_mod_mul_left]
  constructor
  · rw [Nat.mul_comm a M, Nat.mul_add_div hM0, e1]
  · rw [Nat.mul_comm a M, Nat.mul_add_mod, e2]
    constructor
    · intro h
      rcases Nat.mul_eq_zero.mp h with h1 | h1
      · omega
      · exact h1
    · intro h
      rw [h, Nat.mul_zero]
theorem sm_min0 {M B c a k : Nat} (hB : 0 < B) (hk : 0 < k) (hM : M = B * k) (h0 : c % k = 0) : c * B = c / k * M := by
  have e := Nat.div_add_mod c k
  rw [h0, Nat.add_zero] at e
  conv => lhs; rw [← e]
  rw [hM, Nat.mul_comm k, Nat.mul_assoc, Nat.mul_comm k B]
theorem sm_min1 {M B c a k : Nat} (hB : 0 < B) (hk : 0 < k) (hM : M = B * k) (h0 : ¬ c % k = 0) (hl : c / k < a) : c * B < a * M ∧ (a * M - c * B) / M = a - c / k - 1 ∧ ¬ (a * M - c * B) % M = 0 := by
  have hM0 : 0 < M := by rw [hM]; exact Nat.mul_pos hB hk
  have e := Nat.div_add_mod c k
  have hr : c % k < k := Nat.mod_lt _ hk
  have e1 : c * B = c / k * M + B * (c % k) := by
    conv => lhs; rw [← e]
    rw [Nat.add_mul, hM, Nat.mul_comm k, Nat.mul_assoc, Nat.mul_comm k B, Nat.mul_comm (c % k)]
  have p1 : 0 < B * (c % k) := Nat.mul_pos hB (by omega)
  have p2 : B * (c % k) < M := by
    rw [hM]
    exact Nat.mul_lt_mul_of_pos_left hr hB
  obtain ⟨x, hx⟩ : ∃ x, a = c / k + 1 + x := ⟨a - (c / k + 1), by omega⟩
  have e2 : a * M = c / k * M + M + x * M := by
    rw [hx, Nat.add_mul, Nat.add_mul, Nat.one_mul]
  have e3 : a * M - c * B = M * x + (M - B * (c % k)) := by
    rw [e1, e2, Nat.mul_comm M x]
    omega
  refine ⟨by omega, ?_, ?_⟩
  · rw [e3, Nat.mul_add_div hM0, Nat.div_eq_of_lt (by omega)]
    omega
  · rw [e3, Nat.mul_add_mod, Nat.mod_eq_of_lt (by omega)]
    omega
section
variable {f_raised : Int32} {f_trapped : Int32} {f_mode : Int32} {f_below : Int32} {f_value : Int64} {f_power : Int32} {f_rest : Int32} {f_wish : Int32} {f_exact : Int32} {a_format : Nat → Int32} {a_bits : Nat → Int32} {a_kind : Nat → Int32} {a_minus : Nat → Int32} {a_coefficient : Nat → Int64} {a_exponent : Nat → Int32} {a_wide : Nat → Int32} {post : SX → Prop}
theorem xw_take {k K M C : Nat} {E : Int} (hk : k < 3) (hM : M < 2) (hS : op_Sl a_kind a_minus a_coefficient a_exponent k K M C E) (H : post (f_raised, f_trapped, f_mode, nI M, lN C, zz_I E, 0, f_wish, f_exact, a_format, a_bits, a_kind, a_minus, a_coefficient, a_exponent, a_wide)) : wpX_take post (f_raised, f_trapped, f_mode, f_below, f_value, f_power, f_rest, f_wish, f_exact, a_format, a_bits, a_kind, a_minus, a_coefficient, a_exponent, a_wide) (nI k) := by
  have hin : vp_in (nI k) 3 := vp_in_nI hk (by decide)
  have hck : (nI k).toNatClampNeg = k := nI_clamp (by omega)
  obtain ⟨h1, h2, h3, h4⟩ := hS
  refine And.intro hin (nm_r (e' := nI M) (by rw [hck]; exact h2) ⟨zz_nb hM, zz_fb hM, hin, nm_r (e' := lN C) (by rw [hck]; exact h3) ⟨hin, nm_r (e' := zz_I E) (by rw [hck]; exact h4) H⟩⟩)
theorem xw_450 {m s v r : Nat} (hm : m < 5) (hr : r < 2) (hv : v < 9223372036854775808) (H : ∀ s' : Nat, ((v = 0 ∧ r = 0) → s' = if m = 3 then 1 else 0) → (¬ (v = 0 ∧ r = 0) → s' = s) → post (f_raised, f_trapped, nI m, nI s', lN v, f_power, nI r, f_wish, f_exact, a_format, a_bits, a_kind, a_minus, a_coefficient, a_exponent, a_wide)) : wX_sum_450 post f_raised f_trapped (nI m) (nI s) (lN v) f_power (nI r) f_wish f_exact a_format a_bits a_kind a_minus a_coefficient a_exponent a_wide := by
  refine zz_leq v 0 (fun h => pk_eq r 0 (fun h0 => pk_eq m 3 (fun h3 => ?_) (fun h3 => ?_)) (fun h0 => ?_)) (fun h => ?_)
  · exact H 1 (fun _ => by rw [if_pos h3]) (fun hn => absurd ⟨h, h0⟩ hn)
  · exact H 0 (fun _ => by rw [if_neg h3]) (fun hn => absurd ⟨h, h0⟩ hn)
  · exact H s (fun hn => absurd hn.2 h0) (fun _ => rfl)
  · exact H s (fun hn => absurd hn.1 h) (fun _ => rfl)
theorem xw_413 {m s r : Nat} {z : Int} (hm : m < 5) (hs : s < 2) (hr : r < 2) (hz : -4611686018427387904 < z ∧ z < 9223372036854775808) (H : ∀ s' : Nat, ((z = 0 ∧ r = 0) → s' = if m = 3 then 1 else 0) → ((0 < z ∨ (z = 0 ∧ ¬ r = 0)) → s' = s) → (z < 0 → s' = 1 - s) → post (f_raised, f_trapped, nI m, nI s', lN z.natAbs, f_power, nI r, f_wish, f_exact, a_format, a_bits, a_kind, a_minus, a_coefficient, a_exponent, a_wide)) : wX_sum_413 post (zz_L z) f_raised f_trapped (nI m) (nI s) f_value f_power (nI r) f_wish f_exact a_format a_bits a_kind a_minus a_coefficient a_exponent a_wide := by
  by_cases h0 : 0 ≤ z
  · have e : zz_L z = lN z.natAbs := by
      rw [zz_lN]
      congr 1
      omega
    have hp : (0 : Int64) ≤ zz_L z := by
      rw [show (0 : Int64) = zz_L 0 by decide, zz_Lle (by unfold zz_RL; omega) (by unfold zz_RL; omega)]
      exact h0
    refine br_t hp ?_
    rw [e]
    refine xw_450 hm hr (by omega) (fun s' h1 h2 => H s' (fun h => h1 ⟨by omega, h.2⟩) (fun h => h2 (by omega)) (fun h => absurd h (by omega)))
  · have hp : ¬ (0 : Int64) ≤ zz_L z := by
      rw [show (0 : Int64) = zz_L 0 by decide, zz_Lle (by unfold zz_RL; omega) (by unfold zz_RL; omega)]
      exact h0
    have e : -zz_L z = lN z.natAbs := by
      rw [zz_lN, zz_Lneg]
      congr 1
      omega
    refine br_f hp (nm_r e (pk_eq s 0 (fun h1 => ⟨rfl, rfl, ?_⟩) (fun h1 => ⟨rfl, rfl, ?_⟩)))
    · exact xw_450 (s := 1) hm hr (by omega) (fun s' h1 h2 => H s' (fun h => absurd h.1 (by omega)) (fun h => absurd h (by omega)) (fun h => by
        have := h2 (by omega)
        omega))
    · exact xw_450 (s := 0) hm hr (by omega) (fun s' h1 h2 => H s' (fun h => absurd h.1 (by omega)) (fun h => absurd h (by omega)) (fun h => by
        have := h2 (by omega)
        omega))
theorem xw_352 {m h l Mh Ml a c r : Nat} (hm : m < 5) (hh : h < 3) (hl : l < 3) (hMh : Mh < 2) (hMl : Ml < 2) (hr : r < 2) (ha : a < 2305843009213693952) (hc : c < 2305843009213693952) (e1 : a_minus h = nI Mh) (e2 : a_minus l = nI Ml) (hrl : ¬ r = 0 → c < a) (H : ∀ v s : Nat, (Mh = Ml → v = a + c ∧ s = Mh) → (¬ Mh = Ml → r = 0 → v = (a - c) + (c - a) ∧ s = if a = c then (if m = 3 then 1 else 0) else if a < c then Ml else Mh) → (¬ Mh = Ml → ¬ r = 0 → v = a - c - 1 ∧ s = Mh) → post (f_raised, f_trapped, nI m, nI s, lN v, f_power, nI r, f_wish, f_exact, a_format, a_bits, a_kind, a_minus, a_coefficient, a_exponent, a_wide)) : wX_sum_352 post (nI h) (nI l) (lN a) (lN c) f_raised f_trapped (nI m) f_below f_value f_power (nI r) f_wish f_exact a_format a_bits a_kind a_minus a_coefficient a_exponent a_wide := by
  have hin : vp_in (nI h) 3 := vp_in_nI hh (by decide)
  have hin2 : vp_in (nI l) 3 := vp_in_nI hl (by decide)
  have hck : (nI h).toNatClampNeg = h := nI_clamp (by omega)
  have hck2 : (nI l).toNatClampNeg = l := nI_clamp (by omega)
  refine And.intro hin (nm_r (e' := nI Mh) (by rw [hck]; exact e1) ⟨zz_nb hMh, zz_fb hMh, hin, hin2, ?_⟩)
  rw [hck, hck2, e1, e2]
  refine pk_eq Mh Ml (fun hM => nm_r (lN_add a c) ?_) (fun hM => pk_eq r 0 (fun h0 => ?_) (fun h0 => ?_))
  · exact H _ _ (fun _ => ⟨rfl, rfl⟩) (fun h => absurd hM h) (fun h => absurd hM h)
  · have e3 : lN a - lN c = zz_L ((a : Int) - c) := by rw [zz_lN, zz_lN, zz_Lsub]
    rw [e3]
    refine xw_413 hm hMh hr (by omega) (fun s' h1 h2 h3 => H _ s' (fun h => absurd h hM) (fun _ _ => ⟨by omega, ?_⟩) (fun _ h => absurd h0 h))
    by_cases h4 : a = c
    · rw [if_pos h4]
      exact h1 ⟨by omega, h0⟩
    · rw [if_neg h4]
      by_cases h5 : a < c
      · rw [if_pos h5]
        have := h3 (by omega)
        omega
      · rw [if_neg h5]
        exact h2 (by omega)
  · have hlt := hrl h0
    have e3 : lN a - lN c - 1 = zz_L ((a : Int) - c - 1) := by
      rw [zz_lN, zz_lN, zz_Lsub, show (1 : Int64) = zz_L 1 by decide, zz_Lsub]
    rw [e3]
    refine xw_413 hm hMh hr (by omega) (fun s' h1 h2 h3 => H _ s' (fun h => absurd h hM) (fun _ h => absurd h h0) (fun _ _ => ⟨by omega, ?_⟩))
    exact h2 (by omega)
end
end
section
/-! the component's sum -/
section
variable {f_raised : Int32} {f_trapped : Int32} {f_mode : Int32} {f_below : Int32} {f_value : Int64} {f_power : Int32} {f_rest : Int32} {f_wish : Int32} {f_exact : Int32} {a_format : Nat → Int32} {a_bits : Nat → Int32} {a_kind : Nat → Int32} {a_minus : Nat → Int32} {a_coefficient : Nat → Int64} {a_exponent : Nat → Int32} {a_wide : Nat → Int32} {post : SX → Prop}
theorem xw_345 {m h l Mh Ml a c r : Nat} (hm : m < 5) (hh : h < 3) (hl : l < 3) (hMh : Mh < 2) (hMl : Ml < 2) (hr : r < 2) (ha : a < 2305843009213693952) (hc : c < 2305843009213693952) (e1 : a_minus h = nI Mh) (e2 : a_minus l = nI Ml) (hrl : ¬ r = 0 → c < a) (H : ∀ v s : Nat, (Mh = Ml → v = a + c ∧ s = Mh) → (¬ Mh = Ml → r = 0 → v = (a - c) + (c - a) ∧ s = if a = c then (if m = 3 then 1 else 0) else if a < c then Ml else Mh) → (¬ Mh = Ml → ¬ r = 0 → v = a - c - 1 ∧ s = Mh) → post (f_raised, f_trapped, nI m, nI s, lN v, f_power, nI r, f_wish, f_exact, a_format, a_bits, a_kind, a_minus, a_coefficient, a_exponent, a_wide)) : wX_sum_345 post (nI h) (nI l) (lN a) (lN c) (nI r) f_raised f_trapped (nI m) f_below f_value f_power f_rest f_wish f_exact a_format a_bits a_kind a_minus a_coefficient a_exponent a_wide :=
  And.intro (zz_nb hr) ⟨zz_fb hr, xw_352 hm hh hl hMh hMl hr ha hc e1 e2 hrl H⟩
theorem xw_214 {b m h l Mh Ml ch cl up ap : Nat} {eh : Int} (hb : b = 2 ∨ b = 10) (hm : m < 5) (hh : h < 3) (hl : l < 3) (hMh : Mh < 2) (hMl : Ml < 2) (hup : up ≤ ap) (hup63 : up < 63) (hap : ap < 100000) (ha : ch * b ^ up < 2305843009213693952) (hcl0 : 0 < cl) (hcl : cl < 2305843009213693952) (hclw : cl < b ^ xr_w b) (hlt : up < ap → cl / b ^ (ap - up) < ch * b ^ up) (e1 : a_minus h = nI Mh) (e2 : a_minus l = nI Ml) (e3 : a_coefficient h = lN ch) (e4 : a_coefficient l = lN cl) (e5 : a_exponent h = zz_I eh) (H : ∀ v s r : Nat, r < 2 → (r = 0 ↔ cl % b ^ (ap - up) = 0) → (Mh = Ml → v = ch * b ^ up + cl / b ^ (ap - up) ∧ s = Mh) → (¬ Mh = Ml → r = 0 → v = (ch * b ^ up - cl / b ^ (ap - up)) + (cl / b ^ (ap - up) - ch * b ^ up) ∧ s = if ch * b ^ up = cl / b ^ (ap - up) then (if m = 3 then 1 else 0) else if ch * b ^ up < cl / b ^ (ap - up) then Ml else Mh) → (¬ Mh = Ml → ¬ r = 0 → v = ch * b ^ up - cl / b ^ (ap - up) - 1 ∧ s = Mh) → post (f_raised, f_trapped, nI m, nI s, lN v, zz_I (eh - up), nI r, f_wish, f_exact, a_format, a_bits, a_kind, a_minus, a_coefficient, a_exponent, a_wide)) : wX_sum_214 post (nI b) (nI h) (nI l) (nI ap) (nI up) f_raised f_trapped (nI m) f_below f_value f_power f_rest f_wish f_exact a_format a_bits a_kind a_minus a_coefficient a_exponent a_wide := by
  obtain ⟨b0, b2, b10, bb⟩ := yr_b hb
  have hin : vp_in (nI h) 3 := vp_in_nI hh (by decide)
  have hin2 : vp_in (nI l) 3 := vp_in_nI hl (by decide)
  have hck : (nI h).toNatClampNeg = h := nI_clamp (by omega)
  have hck2 : (nI l).toNatClampNeg = l := nI_clamp (by omega)
  have hw : xr_w b < 62 := by rcases hb with rfl | rfl <;> decide
  rw [wX_sum_214]
  refine xw_raise hb hup63 ?_
  refine ⟨hin, nm_r (e' := lN (ch * b ^ up)) (by rw [hck, e3, lN_mul]) ⟨hin2, nm_r (e' := lN cl) (by rw [hck2]; exact e4) ⟨hin, nm_r (e' := zz_I (eh - up)) (by rw [hck, e5, zz_nI, zz_Isub]) (nm_r (pk_sub hup) ?_)⟩⟩⟩
  generalize hdn : ap - up = dn at H hlt
  generalize hav : ch * b ^ up = a at H ha hlt
  refine pk_le dn 0 (fun h0 => ?_) (fun h0 => ?_)
  · have e0 : dn = 0 := by omega
    rw [e0, Nat.pow_zero, Nat.div_one, Nat.mod_one] at H
    exact xw_352 (r := 0) hm hh hl hMh hMl (by decide) ha hcl e1 e2 (fun h => absurd rfl h) (fun v s h1 h2 h3 => H v s 0 (by decide) ⟨fun _ => rfl, fun _ => rfl⟩ h1 h2 h3)
  · have hdlt : cl / b ^ dn < a := hlt (by omega)
    have hcd : cl / b ^ dn ≤ cl := Nat.div_le_self _ _
    have go : ∀ r : Nat, r < 2 → (r = 0 ↔ cl % b ^ dn = 0) → wX_sum_345 post (nI h) (nI l) (lN a) (lN (cl / b ^ dn)) (nI r) f_raised f_trapped (nI m) f_below f_value (zz_I (eh - up)) 0 f_wish f_exact a_format a_bits a_kind a_minus a_coefficient a_exponent a_wide := by
      intro r hr hr0
      exact xw_345 hm hh hl hMh hMl hr ha (by omega) e1 e2 (fun _ => hdlt) (fun v s h1 h2 h3 => H v s r hr hr0 h1 h2 h3)
    have h288 : wX_sum_288 post (nI b) (nI h) (nI l) (lN a) (lN cl) (nI dn) (nI (xr_w b)) (nI dn) f_raised f_trapped (nI m) f_below f_value (zz_I (eh - up)) 0 f_wish f_exact a_format a_bits a_kind a_minus a_coefficient a_exponent a_wide := by
      refine pk_le dn (xr_w b) (fun hle => ?_) (fun hgt => ?_)
      · refine xw_raise hb (by omega) ?_
        have hB : 0 < b ^ dn := Nat.pow_pos b0
        have hBL : b ^ dn < 9223372036854775808 := by
          rcases hb with rfl | rfl
          · have := dg_pow_le (b := 2) (by decide) (show dn ≤ 61 from hle)
            have h4 : (2 : Nat) ^ 61 = 2305843009213693952 := by decide
            omega
          · have := dg_pow_le (b := 10) (by decide) (show dn ≤ 18 from hle)
            have h4 : (10 : Nat) ^ 18 = 1000000000000000000 := by decide
            omega
        have ne : ¬ lN (b ^ dn) = 0 := by
          rw [show (0 : Int64) = lN 0 from rfl, pk_lEQ hBL (by decide)]
          omega
        refine br_f ne ⟨ne, ?_⟩
        rw [pk_lDiv (by omega) hB hBL]
        refine br_f ne ?_
        rw [lN_mul]
        have hmul : cl / b ^ dn * b ^ dn ≤ cl := Nat.div_mul_le_self _ _
        have hda := Nat.div_add_mod cl (b ^ dn)
        rw [Nat.mul_comm] at hda
        refine zz_leqU (fun h1 => go 0 (by decide) ⟨fun _ => by omega, fun _ => rfl⟩) (fun h1 => go 1 (by decide) ⟨fun h => absurd h (by decide), fun h => absurd (by omega) h1⟩)
      · have hbig : cl < b ^ dn := Nat.lt_of_lt_of_le hclw (dg_pow_le b0 (by omega))
        have ez : cl / b ^ dn = 0 := Nat.div_eq_of_lt hbig
        have em : cl % b ^ dn = cl := Nat.mod_eq_of_lt hbig
        have g1 := go 1 (by decide) ⟨fun h => absurd h (by decide), fun h => by omega⟩
        rw [ez] at g1
        exact br_t rfl (br_t rfl g1)
    rcases hb with rfl | rfl
    · exact br_t (by decide) h288
    · exact br_f (by decide) h288
end
/-- the sum, with the greater exponent at h: what is held -/
theorem sm_core {b m Mh Ml ch cl up ap v s r : Nat} {eh el : Int} (hb : b = 2 ∨ b = 10) (hel : 24 ≤ el + fm_P b) (hap : eh = el + ap) (hup : up ≤ ap) (hch : 0 < ch) (hcl0 : 0 < cl) (hap2 : -300 ≤ el) (heh : eh ≤ 210) (hlt : up < ap → cl / b ^ (ap - up) < ch * b ^ up) (hvb : ch * b ^ up + cl < xr_bd b) (hvs : up < ap → (b = 2 ∧ 2 ^ 24 + cl / b ^ (ap - up) < ch * b ^ up) ∨ (b = 10 ∧ 10 ^ 7 + cl / b ^ (ap - up) < ch * b ^ up)) (hr : r < 2) (hr0 : r = 0 ↔ cl % b ^ (ap - up) = 0) (h1 : Mh = Ml → v = ch * b ^ up + cl / b ^ (ap - up) ∧ s = Mh) (h2 : ¬ Mh = Ml → r = 0 → v = (ch * b ^ up - cl / b ^ (ap - up)) + (cl / b ^ (ap - up) - ch * b ^ up) ∧ s = if ch * b ^ up = cl / b ^ (ap - up) then (if m = 3 then 1 else 0) else if ch * b ^ up < cl / b ^ (ap - up) then Ml else Mh) (h3 : ¬ Mh = Ml → ¬ r = 0 → v = ch * b ^ up - cl / b ^ (ap - up) - 1 ∧ s = Mh) : sm_F b (sm_A Mh Ml (sm_N b ch eh) (sm_N b cl el)) v r (eh - up) ∧ s = sm_s m Mh Ml (sm_N b ch eh) (sm_N b cl el) := by
  obtain ⟨b0, b2, b10, bb⟩ := yr_b hb
  have hB : 0 < b ^ (el + fm_P b).toNat := Nat.pow_pos b0
  have hk : 0 < b ^ (ap - up) := Nat.pow_pos b0
  have eM : b ^ (eh - up + fm_P b).toNat = b ^ (el + fm_P b).toNat * b ^ (ap - up) := by
    rw [← Nat.pow_add]
    congr 1
    omega
  have eNh : sm_N b ch eh = ch * b ^ up * b ^ (eh - up + fm_P b).toNat := by
    unfold sm_N
    rw [Nat.mul_assoc, ← Nat.pow_add]
    congr 2
    omega
  have eNl : sm_N b cl el = cl * b ^ (el + fm_P b).toNat := rfl
  have hM0 : 0 < b ^ (eh - up + fm_P b).toNat := Nat.pow_pos b0
  have hcd : cl / b ^ (ap - up) ≤ cl := Nat.div_le_self _ _
  have hr1 : ¬ r = 0 → up < ap := by
    intro h
    rcases Nat.lt_or_ge up ap with h4 | h4
    · exact h4
    · exfalso
      have : ap - up = 0 := by omega
      rw [this, Nat.pow_zero, Nat.mod_one] at hr0
      exact h (hr0.mpr rfl)
  unfold sm_F sm_A sm_s
  rw [eNh, eNl]
  generalize hM : b ^ (eh - up + fm_P b).toNat = M at *
  generalize b ^ (el + fm_P b).toNat = B at *
  generalize b ^ (ap - up) = k at *
  generalize ch * b ^ up = a at *
  have PP := sm_plus (c := cl) (a := a) hB hk eM
  have Q0 : cl % k = 0 → cl * B = cl / k * M := fun h => sm_min0 (a := a) hB hk eM h
  have Q1 : ¬ cl % k = 0 → cl / k < a → cl * B < a * M ∧ (a * M - cl * B) / M = a - cl / k - 1 ∧ ¬ (a * M - cl * B) % M = 0 := fun h hl => sm_min1 (a := a) hB hk eM h hl
  clear hk eM
  generalize cl / k = c at *
  generalize cl % k = cr at *
  by_cases hs : Mh = Ml
  · obtain ⟨g1, g2⟩ := h1 hs
    obtain ⟨p1, p2⟩ := PP
    rw [if_pos hs, if_pos hs]
    refine ⟨⟨hr, by omega, by omega, by omega, by rw [p1]; exact g1, hr0.trans p2.symm, by omega, ?_⟩, g2⟩
    by_cases hz : r = 0
    · exact Or.inl hz
    · right
      have := hvs (hr1 hz)
      omega
  · rw [if_neg hs, if_neg hs]
    by_cases hz : r = 0
    · obtain ⟨g1, g2⟩ := h2 hs hz
      have e0 := Q0 (hr0.mp hz)
      rw [e0]
      have eA : (a * M - c * M) + (c * M - a * M) = v * M := by
        rw [g1, Nat.add_mul, Nat.sub_mul, Nat.sub_mul]
      rw [eA]
      refine ⟨⟨hr, by omega, by omega, by omega, (Nat.mul_div_cancel _ hM0).symm, ⟨fun _ => Nat.mul_mod_left _ _, fun _ => hz⟩, by omega, Or.inl hz⟩, ?_⟩
      rw [g2]
      by_cases h4 : a = c
      · rw [if_pos h4, h4, if_pos rfl]
      · have h5 : ¬ a * M = c * M := fun h => h4 (Nat.eq_of_mul_eq_mul_right hM0 h)
        rw [if_neg h4, if_neg h5]
        by_cases h6 : a < c
        · rw [if_pos h6, if_pos (Nat.mul_lt_mul_of_pos_right h6 hM0)]
        · rw [if_neg h6, if_neg]
          intro h7
          exact h6 (Nat.lt_of_mul_lt_mul_right h7)
    · obtain ⟨g1, g2⟩ := h3 hs hz
      have hl := hlt (hr1 hz)
      obtain ⟨q1, q2, q3⟩ := Q1 (fun h => hz (hr0.mpr h)) hl
      have e0 : (a * M - cl * B) + (cl * B - a * M) = a * M - cl * B := by omega
      rw [e0]
      refine ⟨⟨hr, by omega, by omega, by omega, by rw [q2]; exact g1, ⟨fun h => absurd h hz, fun h => absurd h q3⟩, by omega, ?_⟩, ?_⟩
      · right
        have := hvs (hr1 hz)
        omega
      · rw [g2, if_neg (by omega), if_neg (by omega)]
end
section
/-! the component's sum, its whole -/
theorem sm_A_comm (M0 M1 N0 N1 : Nat) : sm_A M1 M0 N1 N0 = sm_A M0 M1 N0 N1 := by
  unfold sm_A
  by_cases h : M0 = M1
  · rw [if_pos h, if_pos h.symm, Nat.add_comm]
  · rw [if_neg h, if_neg (fun e => h e.symm), Nat.add_comm]
theorem sm_s_comm (m M0 M1 N0 N1 : Nat) : sm_s m M1 M0 N1 N0 = sm_s m M0 M1 N0 N1 := by
  unfold sm_s
  by_cases h : M0 = M1
  · rw [if_pos h, if_pos h.symm, h]
  · rw [if_neg h, if_neg (fun e => h e.symm)]
    by_cases h2 : N0 = N1
    · rw [if_pos h2, if_pos h2.symm]
    · rw [if_neg h2, if_neg (fun e => h2 e.symm)]
      by_cases h3 : N0 < N1
      · rw [if_pos h3, if_neg (by omega)]
      · rw [if_neg h3, if_pos (by omega)]
def sm_W (b m Mh Ml ch cl v r s : Nat) (eh el pw : Int) : Prop := ∀ (f_raised : Int32) (f_trapped : Int32) (f_below : Int32) (f_value : Int64) (f_power : Int32) (f_rest : Int32) (f_wish : Int32) (f_exact : Int32) (a_format : Nat → Int32) (a_bits : Nat → Int32) (a_kind : Nat → Int32) (a_minus : Nat → Int32) (a_coefficient : Nat → Int64) (a_exponent : Nat → Int32) (a_wide : Nat → Int32) (post : SX → Prop) (i j h l : Nat), h < 3 → l < 3 → i + j = h + l → a_minus h = nI Mh → a_minus l = nI Ml → a_coefficient h = lN ch → a_coefficient l = lN cl → a_exponent h = zz_I eh → a_exponent l = zz_I el → post (f_raised, f_trapped, nI m, nI s, lN v, zz_I pw, nI r, f_wish, f_exact, a_format, a_bits, a_kind, a_minus, a_coefficient, a_exponent, a_wide) → wX_sum_163 post (nI b) (nI i) (nI j) (nI h) f_raised f_trapped (nI m) f_below f_value f_power f_rest f_wish f_exact a_format a_bits a_kind a_minus a_coefficient a_exponent a_wide
theorem xs_163 {b m Mh Ml ch cl : Nat} {eh el : Int} (Vh : sm_V b ch eh) (Vl : sm_V b cl el) (hch : 0 < ch) (hcl : 0 < cl) (hle : el ≤ eh) (hm : m < 5) (hMh : Mh < 2) (hMl : Ml < 2) : ∃ (v r s : Nat) (pw : Int), sm_F b (sm_A Mh Ml (sm_N b ch eh) (sm_N b cl el)) v r pw ∧ s = sm_s m Mh Ml (sm_N b ch eh) (sm_N b cl el) ∧ sm_W b m Mh Ml ch cl v r s eh el pw := by
  obtain ⟨hb, qh1, qh2, qh3, qh4, qh5⟩ := sm_Vb Vh
  obtain ⟨_, ql1, ql2, ql3, ql4, ql5⟩ := sm_Vb Vl
  obtain ⟨b0, b2, b10, bb⟩ := yr_b hb
  obtain ⟨n, hn, hnv⟩ := dg_ex (b := b) b2 ch
  have hw : xr_w b < 62 := by rcases hb with rfl | rfl <;> decide
  have hnw : n + 4 ≤ xr_w b := by
    rcases Vh with ⟨rfl, h1, _⟩ | ⟨rfl, h1, _⟩
    · have h2 : n ≤ 48 := dg_n_le b2 hn (show ch < 2 ^ 48 by omega)
      have h3 : xr_w 2 = 61 := rfl
      omega
    · have h2 : n ≤ 14 := dg_n_le b2 hn (show ch < 10 ^ 14 by omega)
      have h3 : xr_w 10 = 18 := rfl
      omega
  obtain ⟨ap, hap⟩ : ∃ ap : Nat, eh = el + ap := ⟨(eh - el).toNat, by omega⟩
  obtain ⟨up, hup⟩ : ∃ up : Nat, up = if xr_w b - n ≤ ap then xr_w b - n else ap := ⟨_, rfl⟩
  have hup1 : up ≤ ap := by
    rw [hup]
    split <;> omega
  have hup2 : up ≤ xr_w b - n := by
    rw [hup]
    split <;> omega
  have hup3 : up < ap → up = xr_w b - n := by
    rw [hup]
    split <;> omega
  have ha : ch * b ^ up < b ^ xr_w b := by
    have h1 : ch * b ^ up < b ^ n * b ^ up := Nat.mul_lt_mul_of_pos_right hn.1 (Nat.pow_pos b0)
    rw [← Nat.pow_add] at h1
    exact Nat.lt_of_lt_of_le h1 (dg_pow_le b0 (by omega))
  have hn0 : n ≠ 0 := fun e => by
    have := (dg_n0 b0 hn).mpr e
    omega
  have ha2 : up < ap → b ^ (xr_w b - 1) ≤ ch * b ^ up := by
    intro h
    have h1 : b ^ (n - 1) ≤ ch := by
      rcases hn.2 with h2 | h2
      · exact absurd h2 hn0
      · exact h2
    have h2 : b ^ (n - 1) * b ^ up ≤ ch * b ^ up := Nat.mul_le_mul_right _ h1
    rw [← Nat.pow_add] at h2
    have h3 := hup3 h
    have h4 : n - 1 + up = xr_w b - 1 := by omega
    rw [h4] at h2
    exact h2
  have hcd : cl / b ^ (ap - up) ≤ cl := Nat.div_le_self _ _
  have hnum : ch * b ^ up < 2305843009213693952 ∧ cl < b ^ xr_w b ∧ ch * b ^ up + cl < xr_bd b ∧ (up < ap → (b = 2 ∧ 2 ^ 24 + cl / b ^ (ap - up) < ch * b ^ up) ∨ (b = 10 ∧ 10 ^ 7 + cl / b ^ (ap - up) < ch * b ^ up)) := by
    generalize cl / b ^ (ap - up) = c at *
    rcases Vl with ⟨rfl, h1, _⟩ | ⟨rfl, h1, _⟩
    · have e1 : (2 : Nat) ^ xr_w 2 = 2305843009213693952 := by decide
      have e2 : (2 : Nat) ^ (xr_w 2 - 1) = 1152921504606846976 := by decide
      have e3 : xr_bd 2 = 4611686018427387904 := rfl
      rw [e1] at ha ⊢
      rw [e2] at ha2
      rw [e3]
      generalize ch * 2 ^ up = a at *
      refine ⟨ha, by omega, by omega, fun h => Or.inl ⟨rfl, ?_⟩⟩
      have := ha2 h
      omega
    · have e1 : (10 : Nat) ^ xr_w 10 = 1000000000000000000 := by decide
      have e2 : (10 : Nat) ^ (xr_w 10 - 1) = 100000000000000000 := by decide
      have e3 : xr_bd 10 = 5000000000000000000 := rfl
      rw [e1] at ha ⊢
      rw [e2] at ha2
      rw [e3]
      generalize ch * 10 ^ up = a at *
      refine ⟨by omega, by omega, by omega, fun h => Or.inr ⟨rfl, ?_⟩⟩
      have := ha2 h
      omega
  obtain ⟨n1, n2, n3, n4⟩ := hnum
  have hlt : up < ap → cl / b ^ (ap - up) < ch * b ^ up := by
    intro h
    rcases n4 h with ⟨_, h5⟩ | ⟨_, h5⟩
    · exact Nat.lt_of_le_of_lt (Nat.le_add_left _ _) h5
    · exact Nat.lt_of_le_of_lt (Nat.le_add_left _ _) h5
  obtain ⟨r, hr⟩ : ∃ r : Nat, r = if cl % b ^ (ap - up) = 0 then 0 else 1 := ⟨_, rfl⟩
  obtain ⟨v, hv⟩ : ∃ v : Nat, v = if Mh = Ml then ch * b ^ up + cl / b ^ (ap - up) else if r = 0 then (ch * b ^ up - cl / b ^ (ap - up)) + (cl / b ^ (ap - up) - ch * b ^ up) else ch * b ^ up - cl / b ^ (ap - up) - 1 := ⟨_, rfl⟩
  obtain ⟨s, hs⟩ : ∃ s : Nat, s = if Mh = Ml then Mh else if r = 0 then (if ch * b ^ up = cl / b ^ (ap - up) then (if m = 3 then 1 else 0) else if ch * b ^ up < cl / b ^ (ap - up) then Ml else Mh) else Mh := ⟨_, rfl⟩
  have hr2 : r < 2 := by
    rw [hr]
    split <;> omega
  have hr0 : r = 0 ↔ cl % b ^ (ap - up) = 0 := by
    rw [hr]
    by_cases h : cl % b ^ (ap - up) = 0
    · rw [if_pos h]
      exact ⟨fun _ => h, fun _ => rfl⟩
    · rw [if_neg h]
      exact ⟨fun h1 => absurd h1 (by decide), fun h1 => absurd h1 h⟩
  have core := sm_core (m := m) (v := v) (s := s) hb ql4 hap hup1 hch hcl (by omega) (by omega) hlt n3 n4 hr2 hr0 (fun h => ⟨by rw [hv, if_pos h], by rw [hs, if_pos h]⟩) (fun h h0 => ⟨by rw [hv, if_neg h, if_pos h0], by rw [hs, if_neg h, if_pos h0]⟩) (fun h h0 => ⟨by rw [hv, if_neg h, if_neg h0], by rw [hs, if_neg h, if_neg h0]⟩)
  refine ⟨v, r, s, eh - up, core.1, core.2, ?_⟩
  intro f_raised f_trapped f_below f_value f_power f_rest f_wish f_exact a_format a_bits a_kind a_minus a_coefficient a_exponent a_wide post i j h l hh hl hij e1 e2 e3 e4 e5 e6 HP
  have hin : vp_in (nI h) 3 := vp_in_nI hh (by decide)
  have hin2 : vp_in (nI l) 3 := vp_in_nI hl (by decide)
  have hck : (nI h).toNatClampNeg = h := nI_clamp (by omega)
  have hck2 : (nI l).toNatClampNeg = l := nI_clamp (by omega)
  refine nm_r (e' := nI l) (by rw [nI_add, pk_sub (by omega)]; congr 1; omega) ⟨hin, hin2, nm_r (e' := nI ap) ?_ ⟨hin, ?_⟩⟩
  · rw [hck, hck2, e5, e6, zz_Isub, zz_nI]
    congr 1
    omega
  · rw [hck, e3]
    refine xw_room hb qh5 hn (by omega) ?_
    have h214 : wX_sum_214 post (nI b) (nI h) (nI l) (nI ap) (nI up) f_raised f_trapped (nI m) f_below f_value f_power f_rest f_wish f_exact a_format a_bits a_kind a_minus a_coefficient a_exponent a_wide := by
      refine xw_214 hb hm hh hl hMh hMl hup1 (by omega) (by omega) n1 hcl (by rcases Vl with ⟨_, h1, _⟩ | ⟨_, h1, _⟩ <;> omega) n2 hlt e1 e2 e3 e4 e5 ?_
      intro v' s' r' hr' hr0' h1 h2 h3
      have er : r' = r := by
        by_cases hz : cl % b ^ (ap - up) = 0
        · rw [hr0'.mpr hz, hr0.mpr hz]
        · have t1 : ¬ r' = 0 := fun h => hz (hr0'.mp h)
          have t2 : ¬ r = 0 := fun h => hz (hr0.mp h)
          omega
      have evs : v' = v ∧ s' = s := by
        by_cases hM : Mh = Ml
        · rw [hv, hs, if_pos hM, if_pos hM]
          exact h1 hM
        · by_cases hz : r = 0
          · rw [hv, hs, if_neg hM, if_neg hM, if_pos hz, if_pos hz]
            exact h2 hM (er.trans hz)
          · rw [hv, hs, if_neg hM, if_neg hM, if_neg hz, if_neg hz]
            exact h3 hM (fun h => hz (er.symm.trans h))
      rw [er, evs.1, evs.2]
      exact HP
    refine zn_leU (fun h1 => ?_) (fun h1 => ?_)
    · rw [if_pos h1] at hup
      rw [hup] at h214
      exact h214
    · rw [if_neg (by omega)] at hup
      rw [hup] at h214
      exact h214
def sm_X (b m K0 M0 C0 K1 M1 C1 v r s : Nat) (E0 E1 pw : Int) : Prop := ∀ (f_raised : Int32) (f_trapped : Int32) (f_below : Int32) (f_value : Int64) (f_power : Int32) (f_rest : Int32) (f_wish : Int32) (f_exact : Int32) (a_format : Nat → Int32) (a_bits : Nat → Int32) (a_kind : Nat → Int32) (a_minus : Nat → Int32) (a_coefficient : Nat → Int64) (a_exponent : Nat → Int32) (a_wide : Nat → Int32) (post : SX → Prop) (i j : Nat), i < 3 → j < 3 → op_Sl a_kind a_minus a_coefficient a_exponent i K0 M0 C0 E0 → op_Sl a_kind a_minus a_coefficient a_exponent j K1 M1 C1 E1 → post (f_raised, f_trapped, nI m, nI s, lN v, zz_I pw, nI r, zz_I (if E1 ≤ E0 then E1 else E0), f_exact, a_format, a_bits, a_kind, a_minus, a_coefficient, a_exponent, a_wide) → wpX_sum post (f_raised, f_trapped, nI m, f_below, f_value, f_power, f_rest, f_wish, f_exact, a_format, a_bits, a_kind, a_minus, a_coefficient, a_exponent, a_wide) (nI b) (nI i) (nI j)
theorem sm_start {b m K0 M0 C0 K1 M1 C1 i j : Nat} {E0 E1 : Int} {f_raised : Int32} {f_trapped : Int32} {f_below : Int32} {f_value : Int64} {f_power : Int32} {f_rest : Int32} {f_wish : Int32} {f_exact : Int32} {a_format : Nat → Int32} {a_bits : Nat → Int32} {a_kind : Nat → Int32} {a_minus : Nat → Int32} {a_coefficient : Nat → Int64} {a_exponent : Nat → Int32} {a_wide : Nat → Int32} {post : SX → Prop} (hi : i < 3) (hj : j < 3) (hE0 : -1000 < E0 ∧ E0 < 1000) (hE1 : -1000 < E1 ∧ E1 < 1000) (S0 : op_Sl a_kind a_minus a_coefficient a_exponent i K0 M0 C0 E0) (S1 : op_Sl a_kind a_minus a_coefficient a_exponent j K1 M1 C1 E1) (H : wX_sum_31 post (nI b) (nI i) (nI j) (zz_I (if E1 ≤ E0 then E1 else E0)) f_raised f_trapped (nI m) f_below f_value f_power f_rest f_wish f_exact a_format a_bits a_kind a_minus a_coefficient a_exponent a_wide) : wpX_sum post (f_raised, f_trapped, nI m, f_below, f_value, f_power, f_rest, f_wish, f_exact, a_format, a_bits, a_kind, a_minus, a_coefficient, a_exponent, a_wide) (nI b) (nI i) (nI j) := by
  have hin : vp_in (nI i) 3 := vp_in_nI hi (by decide)
  have hin2 : vp_in (nI j) 3 := vp_in_nI hj (by decide)
  have hck : (nI i).toNatClampNeg = i := nI_clamp (by omega)
  have hck2 : (nI j).toNatClampNeg = j := nI_clamp (by omega)
  refine And.intro hin ⟨hin2, ?_⟩
  rw [hck, hck2, S0.2.2.2, S1.2.2.2]
  refine zz_leU (fun h => ⟨hin2, ?_⟩) (fun h => ⟨hin, ?_⟩)
  · rw [if_pos h] at H
    exact H
  · rw [if_neg (by omega)] at H
    exact H
theorem sm_FN {b C : Nat} {E : Int} (V : sm_V b C E) : sm_F b (sm_N b C E) C 0 E := by
  obtain ⟨hb, q1, q2, q3, q4, q5⟩ := sm_Vb V
  obtain ⟨b0, b2, b10, bb⟩ := yr_b hb
  have hB : 0 < b ^ (E + fm_P b).toNat := Nat.pow_pos b0
  refine ⟨by decide, q4, by omega, by omega, ?_, ?_, ?_, Or.inl rfl⟩
  · unfold sm_N
    rw [Nat.mul_div_cancel _ hB]
  · unfold sm_N
    rw [Nat.mul_mod_left]
  · rcases V with ⟨rfl, h1, _⟩ | ⟨rfl, h1, _⟩
    · have e3 : xr_bd 2 = 4611686018427387904 := rfl
      omega
    · have e3 : xr_bd 10 = 5000000000000000000 := rfl
      omega
theorem xs_sum {b m K0 M0 C0 K1 M1 C1 : Nat} {E0 E1 : Int} (V0 : sm_V b C0 E0) (V1 : sm_V b C1 E1) (hm : m < 5) (hM0 : M0 < 2) (hM1 : M1 < 2) : ∃ (v r s : Nat) (pw : Int), sm_F b (sm_A M0 M1 (sm_N b C0 E0) (sm_N b C1 E1)) v r pw ∧ s = sm_s m M0 M1 (sm_N b C0 E0) (sm_N b C1 E1) ∧ sm_X b m K0 M0 C0 K1 M1 C1 v r s E0 E1 pw := by
  obtain ⟨hb, q1, q2, q3, q4, q5⟩ := sm_Vb V0
  obtain ⟨_, t1, t2, t3, t4, t5⟩ := sm_Vb V1
  obtain ⟨b0, b2, b10, bb⟩ := yr_b hb
  have hB0 : 0 < b ^ (E0 + fm_P b).toNat := Nat.pow_pos b0
  have hB1 : 0 < b ^ (E1 + fm_P b).toNat := Nat.pow_pos b0
  by_cases z0 : C0 = 0
  · have n0 : sm_N b C0 E0 = 0 := by
      unfold sm_N
      rw [z0, Nat.zero_mul]
    have eA : sm_A M0 M1 (sm_N b C0 E0) (sm_N b C1 E1) = sm_N b C1 E1 := by
      unfold sm_A
      rw [n0]
      split <;> omega
    rw [eA]
    refine ⟨C1, 0, _, E1, sm_FN V1, rfl, ?_⟩
    intro f_raised f_trapped f_below f_value f_power f_rest f_wish f_exact a_format a_bits a_kind a_minus a_coefficient a_exponent a_wide post i j hi hj S0 S1 HP
    have hin : vp_in (nI i) 3 := vp_in_nI hi (by decide)
    have hin2 : vp_in (nI j) 3 := vp_in_nI hj (by decide)
    have hck : (nI i).toNatClampNeg = i := nI_clamp (by omega)
    have hck2 : (nI j).toNatClampNeg = j := nI_clamp (by omega)
    have c0 : a_coefficient (nI i).toNatClampNeg = 0 := by
      rw [hck, S0.2.2.1, z0]
      rfl
    refine sm_start hi hj (by omega) (by omega) S0 S1 ?_
    refine And.intro hin (br_t c0 ?_)
    refine And.intro hin (br_t c0 ⟨hin2, ?_⟩)
    rw [hck2, S1.2.2.1]
    refine zz_leq C1 0 (fun h1 => ?_) (fun h1 => ?_)
    · refine And.intro hin (br_t c0 ?_)
      refine xw_take hj hM1 S1 ?_
      refine br_f (by decide) ⟨hin, hin2, ?_⟩
      rw [hck, hck2, S0.2.1, S1.2.1]
      have n1 : sm_N b C1 E1 = 0 := by
        unfold sm_N
        rw [h1, Nat.zero_mul]
      rw [n0, n1] at HP
      unfold sm_s at HP
      refine pk_eq M0 M1 (fun h2 => ?_) (fun h2 => pk_eq m 3 (fun h3 => ?_) (fun h3 => ?_))
      · rw [if_pos h2, h2] at HP
        exact HP
      · rw [if_neg h2, if_pos rfl, if_pos h3] at HP
        exact HP
      · rw [if_neg h2, if_pos rfl, if_neg h3] at HP
        exact HP
    · refine And.intro hin (br_t c0 ?_)
      refine xw_take hj hM1 S1 ?_
      refine br_t rfl ?_
      have n1 : 0 < sm_N b C1 E1 := Nat.mul_pos (by omega) hB1
      rw [n0] at HP
      unfold sm_s at HP
      by_cases h2 : M0 = M1
      · rw [if_pos h2, h2] at HP
        exact HP
      · rw [if_neg h2, if_neg (by omega), if_pos n1] at HP
        exact HP
  · by_cases z1 : C1 = 0
    · have n1 : sm_N b C1 E1 = 0 := by
        unfold sm_N
        rw [z1, Nat.zero_mul]
      have n0 : 0 < sm_N b C0 E0 := Nat.mul_pos (by omega) hB0
      have eA : sm_A M0 M1 (sm_N b C0 E0) (sm_N b C1 E1) = sm_N b C0 E0 := by
        unfold sm_A
        rw [n1]
        split <;> omega
      rw [eA]
      refine ⟨C0, 0, _, E0, sm_FN V0, rfl, ?_⟩
      intro f_raised f_trapped f_below f_value f_power f_rest f_wish f_exact a_format a_bits a_kind a_minus a_coefficient a_exponent a_wide post i j hi hj S0 S1 HP
      have hin : vp_in (nI i) 3 := vp_in_nI hi (by decide)
      have hin2 : vp_in (nI j) 3 := vp_in_nI hj (by decide)
      have hck : (nI i).toNatClampNeg = i := nI_clamp (by omega)
      have hck2 : (nI j).toNatClampNeg = j := nI_clamp (by omega)
      have c0 : ¬ a_coefficient (nI i).toNatClampNeg = 0 := by
        rw [hck, S0.2.2.1, show (0 : Int64) = lN 0 from rfl, pk_lEQ (by omega) (by decide)]
        exact z0
      have c1 : a_coefficient (nI j).toNatClampNeg = 0 := by
        rw [hck2, S1.2.2.1, z1]
        rfl
      refine sm_start hi hj (by omega) (by omega) S0 S1 ?_
      refine And.intro hin (br_f c0 ⟨hin2, br_t c1 ?_⟩)
      refine And.intro hin (br_f c0 ?_)
      refine And.intro hin (br_f c0 ?_)
      refine xw_take hi hM0 S0 ?_
      refine br_t rfl ?_
      rw [n1] at HP
      unfold sm_s at HP
      by_cases h2 : M0 = M1
      · rw [if_pos h2] at HP
        exact HP
      · rw [if_neg h2, if_neg (by omega), if_neg (by omega)] at HP
        exact HP
    · have head : ∀ (f_raised : Int32) (f_trapped : Int32) (f_below : Int32) (f_value : Int64) (f_power : Int32) (f_rest : Int32) (f_wish : Int32) (f_exact : Int32) (a_format : Nat → Int32) (a_bits : Nat → Int32) (a_kind : Nat → Int32) (a_minus : Nat → Int32) (a_coefficient : Nat → Int64) (a_exponent : Nat → Int32) (a_wide : Nat → Int32) (post : SX → Prop) (i j : Nat), i < 3 → j < 3 → op_Sl a_kind a_minus a_coefficient a_exponent i K0 M0 C0 E0 → op_Sl a_kind a_minus a_coefficient a_exponent j K1 M1 C1 E1 → (E0 < E1 → wX_sum_163 post (nI b) (nI i) (nI j) (nI j) f_raised f_trapped (nI m) f_below f_value f_power f_rest (zz_I (if E1 ≤ E0 then E1 else E0)) f_exact a_format a_bits a_kind a_minus a_coefficient a_exponent a_wide) → (E1 ≤ E0 → wX_sum_163 post (nI b) (nI i) (nI j) (nI i) f_raised f_trapped (nI m) f_below f_value f_power f_rest (zz_I (if E1 ≤ E0 then E1 else E0)) f_exact a_format a_bits a_kind a_minus a_coefficient a_exponent a_wide) → wpX_sum post (f_raised, f_trapped, nI m, f_below, f_value, f_power, f_rest, f_wish, f_exact, a_format, a_bits, a_kind, a_minus, a_coefficient, a_exponent, a_wide) (nI b) (nI i) (nI j) := by
        intro f_raised f_trapped f_below f_value f_power f_rest f_wish f_exact a_format a_bits a_kind a_minus a_coefficient a_exponent a_wide post i j hi hj S0 S1 G1 G2
        have hin : vp_in (nI i) 3 := vp_in_nI hi (by decide)
        have hin2 : vp_in (nI j) 3 := vp_in_nI hj (by decide)
        have hck : (nI i).toNatClampNeg = i := nI_clamp (by omega)
        have hck2 : (nI j).toNatClampNeg = j := nI_clamp (by omega)
        have c0 : ¬ a_coefficient (nI i).toNatClampNeg = 0 := by
          rw [hck, S0.2.2.1, show (0 : Int64) = lN 0 from rfl, pk_lEQ (by omega) (by decide)]
          exact z0
        have c1 : ¬ a_coefficient (nI j).toNatClampNeg = 0 := by
          rw [hck2, S1.2.2.1, show (0 : Int64) = lN 0 from rfl, pk_lEQ (by omega) (by decide)]
          exact z1
        refine sm_start hi hj (by omega) (by omega) S0 S1 ?_
        refine And.intro hin (br_f c0 ⟨hin2, br_f c1 ⟨hin, hin2, ?_⟩⟩)
        rw [hck, hck2, S0.2.2.2, S1.2.2.2]
        exact zz_ltU G1 G2
      by_cases hE : E0 < E1
      · obtain ⟨v, r, s, pw, F, hs, W⟩ := xs_163 (m := m) (Mh := M1) (Ml := M0) V1 V0 (by omega) (by omega) (by omega) hm hM1 hM0
        rw [sm_A_comm] at F
        rw [sm_s_comm] at hs
        refine ⟨v, r, s, pw, F, hs, ?_⟩
        intro f_raised f_trapped f_below f_value f_power f_rest f_wish f_exact a_format a_bits a_kind a_minus a_coefficient a_exponent a_wide post i j hi hj S0 S1 HP
        refine head _ _ _ _ _ _ _ _ _ _ _ _ _ _ _ _ i j hi hj S0 S1 (fun _ => ?_) (fun h => absurd h (by omega))
        exact W _ _ _ _ _ _ _ _ _ _ _ _ _ _ _ post i j j i hj hi (by omega) S1.2.1 S0.2.1 S1.2.2.1 S0.2.2.1 S1.2.2.2 S0.2.2.2 HP
      · obtain ⟨v, r, s, pw, F, hs, W⟩ := xs_163 (m := m) (Mh := M0) (Ml := M1) V0 V1 (by omega) (by omega) (by omega) hm hM0 hM1
        refine ⟨v, r, s, pw, F, hs, ?_⟩
        intro f_raised f_trapped f_below f_value f_power f_rest f_wish f_exact a_format a_bits a_kind a_minus a_coefficient a_exponent a_wide post i j hi hj S0 S1 HP
        refine head _ _ _ _ _ _ _ _ _ _ _ _ _ _ _ _ i j hi hj S0 S1 (fun h => absurd h hE) (fun _ => ?_)
        exact W _ _ _ _ _ _ _ _ _ _ _ _ _ _ _ post i j i j hi hj rfl S0.2.1 S1.2.1 S0.2.2.1 S1.2.2.1 S0.2.2.2 S1.2.2.2 HP
end
section
/-! sums: the reference, and both -/
theorem sm_N_lt {b C : Nat} {E : Int} (V : sm_V b C E) : sm_N b C E < b ^ 799 ∧ (E + fm_P b).toNat ≤ 800 := by
  rcases V with ⟨rfl, h1, h2, h3⟩ | ⟨rfl, h1, h2, h3⟩
  · have hP : fm_P 2 = 450 := rfl
    unfold sm_N
    rw [hP]
    have h4 : C * 2 ^ (E + (450 : Nat)).toNat < 2 ^ 48 * 2 ^ (E + (450 : Nat)).toNat := Nat.mul_lt_mul_of_pos_right (by omega) (Nat.pow_pos (by decide))
    rw [← Nat.pow_add] at h4
    exact ⟨Nat.lt_of_lt_of_le h4 (dg_pow_le (by decide) (by omega)), by omega⟩
  · have hP : fm_P 10 = 230 := rfl
    unfold sm_N
    rw [hP]
    have h4 : C * 10 ^ (E + (230 : Nat)).toNat < 10 ^ 14 * 10 ^ (E + (230 : Nat)).toNat := Nat.mul_lt_mul_of_pos_right (by omega) (Nat.pow_pos (by decide))
    rw [← Nat.pow_add] at h4
    exact ⟨Nat.lt_of_lt_of_le h4 (dg_pow_le (by decide) (by omega)), by omega⟩
theorem sm_799 {b x : Nat} (hb : b = 2 ∨ b = 10) (h : x < b ^ 799) : x < b ^ 800 := Nat.lt_of_lt_of_le h (dg_pow_le (by omega) (by decide))
theorem sm_A_lt {b M0 M1 N0 N1 : Nat} (hb : b = 2 ∨ b = 10) (h0 : N0 < b ^ 799) (h1 : N1 < b ^ 799) : sm_A M0 M1 N0 N1 < b ^ 800 := by
  have e : b ^ 800 = b ^ 799 * b := Nat.pow_succ b 799
  have h2 : b ^ 799 * 2 ≤ b ^ 799 * b := Nat.mul_le_mul_left _ (by omega)
  rw [← e] at h2
  generalize b ^ 800 = x at *
  generalize b ^ 799 = y at *
  unfold sm_A
  split <;> omega
section
variable {f_attribute : Int32} {f_raised : Int32} {f_trapped : Int32} {f_more : Int32} {f_made : Int32} {a_format : Nat → Int32} {a_pattern : Nat → Int32} {a_kind : Nat → Int32} {a_exponent : Nat → Int32} {a_coefficient : Nat → Int64} {a_minus : Nat → Int32} {a_row : Nat → Int32} {post : SY → Prop}
/-- a cleared row, then a number -/
theorem yw_clay {b C : Nat} {E : Int} (hb : b = 2 ∨ b = 10) (hC : C < 9223372036854775808) (hE : 0 ≤ E + fm_P b) (hE8 : (E + fm_P b).toNat ≤ 800) (hN : C * b ^ (E + fm_P b).toNat < b ^ 800) (h0 : ∀ j, j < 1600 → a_row j = 0) (H : ∀ row' : Nat → Int32, yr_R b row' 0 (C * b ^ (E + fm_P b).toNat) → (∀ k, 800 ≤ k → k < 1600 → row' k = 0) → post (f_attribute, f_raised, f_trapped, f_more, f_made, a_format, a_pattern, a_kind, a_exponent, a_coefficient, a_minus, row')) : wpY_lay post (f_attribute, f_raised, f_trapped, f_more, f_made, a_format, a_pattern, a_kind, a_exponent, a_coefficient, a_minus, a_row) 0 (nI b) (lN C) (zz_I E) := by
  refine yw_lay (o := 0) (j := (E + fm_P b).toNat) hb (by decide) hC (by omega) hE8 hN (fun k hk => h0 _ (by omega)) ?_
  intro row' h1 h2
  exact H row' h1 (fun k hk hk2 => by rw [h2 k (by omega)]; exact h0 k hk2)
theorem yw_clay2 {b N0 C : Nat} {E : Int} (hb : b = 2 ∨ b = 10) (hC : C < 9223372036854775808) (hE : 0 ≤ E + fm_P b) (hE8 : (E + fm_P b).toNat ≤ 800) (hN : C * b ^ (E + fm_P b).toNat < b ^ 800) (h0 : yr_R b a_row 0 N0) (hz : ∀ k, 800 ≤ k → k < 1600 → a_row k = 0) (H : ∀ row' : Nat → Int32, yr_R b row' 0 N0 → yr_R b row' 800 (C * b ^ (E + fm_P b).toNat) → post (f_attribute, f_raised, f_trapped, f_more, f_made, a_format, a_pattern, a_kind, a_exponent, a_coefficient, a_minus, row')) : wpY_lay post (f_attribute, f_raised, f_trapped, f_more, f_made, a_format, a_pattern, a_kind, a_exponent, a_coefficient, a_minus, a_row) 800 (nI b) (lN C) (zz_I E) := by
  refine yw_lay (o := 800) (j := (E + fm_P b).toNat) hb (by decide) hC (by omega) hE8 hN (fun k hk => hz _ (by omega) (by omega)) ?_
  intro row' h1 h2
  refine H row' ?_ h1
  intro k hk
  rw [h2 (0 + k) (by omega)]
  exact h0 k hk
end
def bo_XA (f m K0 M0 C0 K1 M1 C1 : Nat) (E0 E1 : Int) (fl pt : Int32) : Prop := ∀ (f_raised : Int32) (f_trapped : Int32) (f_below : Int32) (f_value : Int64) (f_power : Int32) (f_rest : Int32) (f_wish : Int32) (f_exact : Int32) (a_format : Nat → Int32) (a_bits : Nat → Int32) (a_kind : Nat → Int32) (a_minus : Nat → Int32) (a_coefficient : Nat → Int64) (a_exponent : Nat → Int32) (a_wide : Nat → Int32) (post : Int32 → SX → Prop) (d i j : Nat), d < 8 → i < 3 → j < 3 → a_format d = nI f → op_Sl a_kind a_minus a_coefficient a_exponent i K0 M0 C0 E0 → op_Sl a_kind a_minus a_coefficient a_exponent j K1 M1 C1 E1 → xs_D post f_raised f_trapped (nI m) a_format a_bits d fl pt → wpX_addUp post (f_raised, f_trapped, nI m, f_below, f_value, f_power, f_rest, f_wish, f_exact, a_format, a_bits, a_kind, a_minus, a_coefficient, a_exponent, a_wide) (nI d) (nI i) (nI j)
def bo_YA (f m K0 M0 C0 K1 M1 C1 : Nat) (E0 E1 : Int) (fl pt : Int32) : Prop := ∀ (f_raised : Int32) (f_trapped : Int32) (f_more : Int32) (f_made : Int32) (a_format : Nat → Int32) (a_pattern : Nat → Int32) (a_kind : Nat → Int32) (a_exponent : Nat → Int32) (a_coefficient : Nat → Int64) (a_minus : Nat → Int32) (a_row : Nat → Int32) (post : Int32 → SY → Prop), op_Sl a_kind a_minus a_coefficient a_exponent 0 K0 M0 C0 E0 → op_Sl a_kind a_minus a_coefficient a_exponent 1 K1 M1 C1 E1 → ys_O post f_raised f_trapped (nI m) a_format a_pattern fl pt → wpY_sum post (nI m, f_raised, f_trapped, f_more, f_made, a_format, a_pattern, a_kind, a_exponent, a_coefficient, a_minus, a_row) (nI f)
theorem ys_sum {f m K0 M0 C0 K1 M1 C1 : Nat} {E0 E1 : Int} {fl pt : Int32} (hf : f < 4) (hm : m < 5) (hM0 : M0 < 2) (hM1 : M1 < 2) (hK0 : K0 < 4) (hK1 : K1 < 4) (k0 : ¬ K0 = 2) (k1 : ¬ K1 = 2) (V0 : sm_V (fm_b f) C0 E0) (V1 : sm_V (fm_b f) C1 E1) (R : bt_YR f m (sm_s m M0 M1 (sm_N (fm_b f) C0 E0) (sm_N (fm_b f) C1 E1)) (sm_A M0 M1 (sm_N (fm_b f) C0 E0) (sm_N (fm_b f) C1 E1)) 0 (if E1 ≤ E0 then E1 else E0) fl pt) : bo_YA f m K0 M0 C0 K1 M1 C1 E0 E1 fl pt := by
  obtain ⟨hb, q1, q2, q3, q4, q5⟩ := sm_Vb V0
  obtain ⟨_, t1, t2, t3, t4, t5⟩ := sm_Vb V1
  obtain ⟨l0, g0⟩ := sm_N_lt V0
  obtain ⟨l1, g1⟩ := sm_N_lt V1
  have l0' := sm_799 hb l0
  have l1' := sm_799 hb l1
  obtain ⟨b0, b2, b10, bb⟩ := yr_b hb
  intro f_raised f_trapped f_more f_made a_format a_pattern a_kind a_exponent a_coefficient a_minus a_row post S0 S1 HO
  have n0 : ¬ a_kind 0 = 2 := by
    rw [S0.1]
    exact fun h => k0 ((nI_eq (by omega) (by decide)).mp h)
  have n1 : ¬ a_kind 1 = 2 := by
    rw [S1.1]
    exact fun h => k1 ((nI_eq (by omega) (by decide)).mp h)
  refine br_f n0 ?_
  refine br_t rfl (br_f n1 ?_)
  refine yw_base hf ?_
  refine yw_clear ?_
  intro row1 hz1
  dsimp only
  rw [S0.2.2.1, S0.2.2.2]
  refine yw_clay hb q5 q1 g0 l0' hz1 ?_
  intro row2 hr2 hz2
  dsimp only
  rw [S1.2.2.1, S1.2.2.2]
  refine yw_clay2 hb t5 t1 g1 l1' hr2 hz2 ?_
  intro row3 hr3 hr3'
  change yr_R (fm_b f) row3 0 (sm_N (fm_b f) C0 E0) at hr3
  change yr_R (fm_b f) row3 800 (sm_N (fm_b f) C1 E1) at hr3'
  have h167 : wY_sum_167 post (nI f) (nI (fm_b f)) (zz_I (if E1 ≤ E0 then E1 else E0)) (nI m) f_raised f_trapped 0 f_made a_format a_pattern a_kind a_exponent a_coefficient a_minus row3 := by
    rw [wY_sum_167, S0.2.1, S1.2.1]
    refine pk_eq M0 M1 (fun hM => ?_) (fun hM => ?_)
    · refine yw_addRows hb hr3 hr3' ?_
      intro row4 hr4
      unfold sm_A sm_s at R
      rw [if_pos hM, if_pos hM] at R
      dsimp only
      rw [S0.2.1]
      exact R _ _ _ _ _ _ _ _ _ _ _ hr4 (fun u' h1 h2 => HO u' h1 h2)
    · unfold sm_A sm_s at R
      rw [if_neg hM, if_neg hM] at R
      refine yw_compareRows hb hr3 hr3' l0' l1' (fun h => ?_) (fun h => ?_) (fun h => ?_)
      · refine br_t (by decide) ?_
        rw [if_pos h] at R
        have e : sm_N (fm_b f) C0 E0 - sm_N (fm_b f) C1 E1 + (sm_N (fm_b f) C1 E1 - sm_N (fm_b f) C0 E0) = 0 := by omega
        rw [e] at R
        have hr3'' : yr_R (fm_b f) row3 0 (sm_N (fm_b f) C1 E1 + 0) := by
          rw [Nat.add_zero, ← h]
          exact hr3
        rw [wY_sum_221]
        refine yw_subtractRows 0 hb (Or.inl ⟨rfl, rfl⟩) hr3'' hr3' ?_
        intro row4 hr4
        refine br_t rfl (pk_eq m 3 (fun h3 => ?_) (fun h3 => ?_))
        · rw [if_pos h3] at R
          exact R _ _ _ _ _ _ _ _ _ _ _ hr4 (fun u' h1 h2 => HO u' h1 h2)
        · rw [if_neg h3] at R
          exact R _ _ _ _ _ _ _ _ _ _ _ hr4 (fun u' h1 h2 => HO u' h1 h2)
      · refine br_t (by decide) ?_
        rw [if_neg (by omega), if_neg (by omega)] at R
        obtain ⟨G, hG⟩ : ∃ G, sm_N (fm_b f) C0 E0 = sm_N (fm_b f) C1 E1 + G := ⟨sm_N (fm_b f) C0 E0 - sm_N (fm_b f) C1 E1, by omega⟩
        have e : sm_N (fm_b f) C0 E0 - sm_N (fm_b f) C1 E1 + (sm_N (fm_b f) C1 E1 - sm_N (fm_b f) C0 E0) = G := by omega
        rw [e] at R
        have hr3'' : yr_R (fm_b f) row3 0 (sm_N (fm_b f) C1 E1 + G) := by
          rw [← hG]
          exact hr3
        rw [wY_sum_221]
        refine yw_subtractRows 0 hb (Or.inl ⟨rfl, rfl⟩) hr3'' hr3' ?_
        intro row4 hr4
        refine br_f (by decide) (br_t (by decide) ?_)
        rw [S0.2.1]
        exact R _ _ _ _ _ _ _ _ _ _ _ hr4 (fun u' h1 h2 => HO u' h1 h2)
      · refine br_f (by decide) ?_
        rw [if_neg (by omega), if_pos h] at R
        obtain ⟨G, hG⟩ : ∃ G, sm_N (fm_b f) C1 E1 = sm_N (fm_b f) C0 E0 + G := ⟨sm_N (fm_b f) C1 E1 - sm_N (fm_b f) C0 E0, by omega⟩
        have e : sm_N (fm_b f) C0 E0 - sm_N (fm_b f) C1 E1 + (sm_N (fm_b f) C1 E1 - sm_N (fm_b f) C0 E0) = G := by omega
        rw [e] at R
        have hr3'' : yr_R (fm_b f) row3 800 (sm_N (fm_b f) C0 E0 + G) := by
          rw [← hG]
          exact hr3'
        rw [wY_sum_221]
        refine yw_subtractRows 800 hb (Or.inr ⟨by decide, rfl⟩) hr3'' hr3 ?_
        intro row4 hr4
        refine br_f (by decide) (br_f (by decide) ?_)
        rw [S1.2.1]
        exact R _ _ _ _ _ _ _ _ _ _ _ hr4 (fun u' h1 h2 => HO u' h1 h2)
  show (a_exponent 1 ≤ a_exponent 0 → wY_sum_167 post (nI f) (nI (fm_b f)) (a_exponent 1) (nI m) f_raised f_trapped 0 f_made a_format a_pattern a_kind a_exponent a_coefficient a_minus row3) ∧ (¬ a_exponent 1 ≤ a_exponent 0 → wY_sum_167 post (nI f) (nI (fm_b f)) (a_exponent 0) (nI m) f_raised f_trapped 0 f_made a_format a_pattern a_kind a_exponent a_coefficient a_minus row3)
  rw [S0.2.2.2, S1.2.2.2]
  refine zz_leU (fun h => ?_) (fun h => ?_)
  · rw [if_pos h] at h167
    exact h167
  · rw [if_neg (by omega)] at h167
    exact h167
end
section
/-! sums: both sides at one -/
theorem rn_M1 (b : Nat) (e : Int) : rn_M 1 b (fm_P b) e = b ^ (e + fm_P b).toNat := by
  unfold rn_M
  rw [Nat.one_mul]
theorem rn_M10 (b : Nat) : rn_M 1 b (fm_P b) (-(fm_P b : Int)) = 1 := by
  rw [rn_M1]
  have : (-(fm_P b : Int) + fm_P b).toNat = 0 := by omega
  rw [this, Nat.pow_zero]
theorem yr_Yx {b A : Nat} (hP : 0 ≤ (fm_P b : Int)) : yr_Y A 1 b (fm_P b) A 0 (-(fm_P b : Int)) := by
  have e0 : (-(fm_P b : Int) + fm_P b).toNat = 0 := by omega
  refine ⟨by decide, by omega, by omega, ?_, ?_⟩
  · rw [rn_M10, Nat.div_one, e0, Nat.pow_zero, Nat.mul_one]
  · rw [rn_M10, Nat.mod_one]
/-- a sum's two pictures -/
theorem bt_sum {f m s A v r : Nat} {pw w : Int} (hf : f < 4) (hm : m < 5) (hs : s < 2) (hw : -100000 < w ∧ w < 100000) (F : sm_F (fm_b f) A v r pw) (hA : A < fm_b f ^ 800) : ∃ fl pt : Int32, bt_ok f fl pt ∧ bt_XR f m s v r pw w fl pt ∧ bt_YR f m s A 0 w fl pt := by
  have hff := fm_facts hf
  have hb := fm_b2 f
  obtain ⟨b0, b2, b10, bb⟩ := yr_b hb
  obtain ⟨f1, f2, f3, f4, f5, f6, f7, f8⟩ := F
  have hM : 0 < fm_b f ^ (pw + fm_P (fm_b f)).toNat := Nat.pow_pos b0
  by_cases hA0 : A = 0
  · subst hA0
    rw [Nat.zero_div] at f5
    rw [Nat.zero_mod] at f6
    have e1 : r = 0 := f6.mpr rfl
    subst f5 e1
    obtain ⟨pt, h1, h2, h3⟩ := bt_zero (m := m) hf hs hw
    exact ⟨0, pt, h1, h2 pw, h3⟩
  · have hv0 : 0 < v := by
      rcases Nat.eq_zero_or_pos v with h | h
      · exfalso
        have e := Nat.div_add_mod A (fm_b f ^ (pw + fm_P (fm_b f)).toNat)
        rw [← f5, h, Nat.mul_zero, Nat.zero_add] at e
        rcases f8 with h8 | h8 | h8
        · have := f6.mp h8
          omega
        · have : 0 < 2 ^ 24 := by decide
          omega
        · have : 0 < 10 ^ 7 := by decide
          omega
      · exact h
    have hp24 : fm_p f ≤ 24 := by omega
    refine bt_round (A := A) (D := 1) (U := fm_P (fm_b f)) (u := -(fm_P (fm_b f) : Int)) hf hm hs hw (by decide) (Nat.le_refl _) f1 (by omega) ?_ ?_ f7 hv0 ?_ (by omega) hA (yr_Yx (by omega)) ?_
    · rw [rn_M1]
      exact f5
    · rw [rn_M1]
      exact f6
    · rcases f8 with h8 | ⟨h8, h9⟩ | ⟨h8, h9⟩
      · exact Or.inl h8
      · right
        rw [h8]
        exact Nat.le_trans (dg_pow_le (by decide) hp24) h9
      · right
        rw [h8]
        exact Nat.le_trans (dg_pow_le (by decide) (by omega)) h9
    · rw [rn_M10, Nat.div_one]
      have h1 : fm_b f ^ fm_p f ≤ fm_b f ^ (pw + fm_P (fm_b f)).toNat := dg_pow_le b0 (by omega)
      have h2 : fm_b f ^ (pw + fm_P (fm_b f)).toNat ≤ A := by
        rcases Nat.lt_or_ge A (fm_b f ^ (pw + fm_P (fm_b f)).toNat) with h | h
        · rw [Nat.div_eq_of_lt h] at f5
          omega
        · exact h
      exact Nat.le_trans h1 h2
theorem sm_s_lt {m M0 M1 N0 N1 : Nat} (h0 : M0 < 2) (h1 : M1 < 2) : sm_s m M0 M1 N0 N1 < 2 := by
  unfold sm_s
  split
  · exact h0
  · split
    · split <;> omega
    · split
      · exact h1
      · exact h0
theorem bo_k {K c : Nat} (hK : K < 4) (hc : c < 4) (h : ¬ K = c) : ¬ nI K = nI c := fun e => h ((nI_eq (by omega) (by omega)).mp e)
theorem bo_sum {f m K0 M0 C0 K1 M1 C1 : Nat} {E0 E1 : Int} (hf : f < 4) (hm : m < 5) (hM0 : M0 < 2) (hM1 : M1 < 2) (hK0 : K0 < 4) (hK1 : K1 < 4) (V0 : sm_V (fm_b f) C0 E0) (V1 : sm_V (fm_b f) C1 E1) : ∃ fl pt : Int32, bt_ok f fl pt ∧ bo_XA f m K0 M0 C0 K1 M1 C1 E0 E1 fl pt ∧ bo_YA f m K0 M0 C0 K1 M1 C1 E0 E1 fl pt := by
  by_cases k0 : K0 = 2
  · by_cases kk : K1 = 2 ∧ ¬ M0 = M1
    · refine ⟨1, pa_nan f, Or.inl ⟨rfl, rfl⟩, ?_, ?_⟩
      · intro f_raised f_trapped f_below f_value f_power f_rest f_wish f_exact a_format a_bits a_kind a_minus a_coefficient a_exponent a_wide post d i j hd hi hj ef S0 S1 HD
        have hin : vp_in (nI i) 3 := vp_in_nI hi (by decide)
        have hin2 : vp_in (nI j) 3 := vp_in_nI hj (by decide)
        have hck : (nI i).toNatClampNeg = i := nI_clamp (by omega)
        have hck2 : (nI j).toNatClampNeg = j := nI_clamp (by omega)
        have c0 : a_kind (nI i).toNatClampNeg = 2 := by rw [hck, S0.1, k0]; rfl
        have c1 : a_kind (nI j).toNatClampNeg = 2 := by rw [hck2, S1.1, kk.1]; rfl
        refine And.intro hin (br_t c0 ⟨hin2, br_t c1 ⟨hin, hin2, ?_⟩⟩)
        rw [hck, hck2, S0.2.1, S1.2.1]
        refine pk_eq M0 M1 (fun h => absurd h kk.2) (fun _ => ?_)
        exact xw_invalid hd hf ef (fun u' h => HD u' h)
      · intro f_raised f_trapped f_more f_made a_format a_pattern a_kind a_exponent a_coefficient a_minus a_row post S0 S1 HO
        have c0 : a_kind 0 = 2 := by rw [S0.1, k0]; rfl
        have c1 : a_kind 1 = 2 := by rw [S1.1, kk.1]; rfl
        have c2 : ¬ a_minus 0 = a_minus 1 := by
          rw [S0.2.1, S1.2.1]
          exact fun e => kk.2 ((nI_eq (by omega) (by omega)).mp e)
        refine br_t c0 ?_
        refine br_f (by decide) ?_
        refine br_f (by decide) (br_t c1 (br_f c2 ?_))
        exact HO _ ⟨rfl, rfl, rfl, rfl, rfl⟩ (Or.inl rfl)
    · refine ⟨0, pa_inf f M0, Or.inr (by decide), ?_, ?_⟩
      · intro f_raised f_trapped f_below f_value f_power f_rest f_wish f_exact a_format a_bits a_kind a_minus a_coefficient a_exponent a_wide post d i j hd hi hj ef S0 S1 HD
        have hin : vp_in (nI i) 3 := vp_in_nI hi (by decide)
        have hin2 : vp_in (nI j) 3 := vp_in_nI hj (by decide)
        have hck : (nI i).toNatClampNeg = i := nI_clamp (by omega)
        have hck2 : (nI j).toNatClampNeg = j := nI_clamp (by omega)
        have c0 : a_kind (nI i).toNatClampNeg = 2 := by rw [hck, S0.1, k0]; rfl
        have h41 : wX_addUp_41 post (nI d) (nI i) (nI j) f_raised f_trapped (nI m) f_below f_value f_power f_rest f_wish f_exact a_format a_bits a_kind a_minus a_coefficient a_exponent a_wide := by
          refine And.intro hin (br_t c0 ?_)
          refine And.intro hin (br_t c0 ⟨hin, ?_⟩)
          rw [hck, S0.2.1]
          exact xw_infinite hd hf hM0 ef (fun u' h => HD u' h)
        refine And.intro hin (br_t c0 ⟨hin2, ?_⟩)
        refine br_c (fun c1 => ⟨hin, hin2, ?_⟩) (fun _ => h41)
        rw [hck, hck2, S0.2.1, S1.2.1]
        refine pk_eq M0 M1 (fun h => h41) (fun h => ?_)
        exfalso
        refine kk ⟨?_, h⟩
        rw [hck2, S1.1] at c1
        exact (nI_eq (by omega) (by decide)).mp c1
      · intro f_raised f_trapped f_more f_made a_format a_pattern a_kind a_exponent a_coefficient a_minus a_row post S0 S1 HO
        have c0 : a_kind 0 = 2 := by rw [S0.1, k0]; rfl
        have h61 : wY_sum_61 post (nI f) 1 (nI m) f_raised f_trapped f_more f_made a_format a_pattern a_kind a_exponent a_coefficient a_minus a_row := by
          refine br_f (by decide) ?_
          rw [S0.2.1]
          refine pa_winfY hf hM0 ?_
          exact HO _ ⟨rfl, rfl, rfl, rfl, rfl⟩ (Or.inr rfl)
        refine br_t c0 ?_
        refine br_f (by decide) ?_
        refine br_f (by decide) (br_c (fun c1 => ?_) (fun _ => h61))
        refine br_c (fun _ => h61) (fun h => ?_)
        exfalso
        refine kk ⟨?_, ?_⟩
        · rw [S1.1] at c1
          exact (nI_eq (by omega) (by decide)).mp c1
        · intro e
          rw [S0.2.1, S1.2.1, e] at h
          exact h rfl
  · by_cases k1 : K1 = 2
    · refine ⟨0, pa_inf f M1, Or.inr (by decide), ?_, ?_⟩
      · intro f_raised f_trapped f_below f_value f_power f_rest f_wish f_exact a_format a_bits a_kind a_minus a_coefficient a_exponent a_wide post d i j hd hi hj ef S0 S1 HD
        have hin : vp_in (nI i) 3 := vp_in_nI hi (by decide)
        have hin2 : vp_in (nI j) 3 := vp_in_nI hj (by decide)
        have hck : (nI i).toNatClampNeg = i := nI_clamp (by omega)
        have hck2 : (nI j).toNatClampNeg = j := nI_clamp (by omega)
        have c0 : ¬ a_kind (nI i).toNatClampNeg = 2 := by
          rw [hck, S0.1]
          exact bo_k hK0 (by decide) k0
        have c1 : a_kind (nI j).toNatClampNeg = 2 := by rw [hck2, S1.1, k1]; rfl
        refine And.intro hin (br_f c0 ?_)
        refine And.intro hin (br_f c0 ⟨hin2, br_t c1 ?_⟩)
        refine And.intro hin (br_f c0 ⟨hin2, ?_⟩)
        rw [hck2, S1.2.1]
        exact xw_infinite hd hf hM1 ef (fun u' h => HD u' h)
      · intro f_raised f_trapped f_more f_made a_format a_pattern a_kind a_exponent a_coefficient a_minus a_row post S0 S1 HO
        have c0 : ¬ a_kind 0 = 2 := by
          rw [S0.1]
          exact bo_k hK0 (by decide) k0
        have c1 : a_kind 1 = 2 := by rw [S1.1, k1]; rfl
        refine br_f c0 ?_
        refine br_t rfl (br_t c1 ?_)
        refine br_t rfl (br_t rfl ?_)
        rw [S1.2.1]
        refine pa_winfY hf hM1 ?_
        exact HO _ ⟨rfl, rfl, rfl, rfl, rfl⟩ (Or.inr rfl)
    · obtain ⟨hb, q1, q2, q3, q4, q5⟩ := sm_Vb V0
      obtain ⟨_, t1, t2, t3, t4, t5⟩ := sm_Vb V1
      obtain ⟨v, r, s, pw, F, hs, WX⟩ := xs_sum (K0 := K0) (K1 := K1) V0 V1 hm hM0 hM1
      have hs2 : s < 2 := by
        rw [hs]
        exact sm_s_lt hM0 hM1
      obtain ⟨fl, pt, ok, RX, RY⟩ := bt_sum (w := if E1 ≤ E0 then E1 else E0) hf hm hs2 (by split <;> omega) F (sm_A_lt hb (sm_N_lt V0).1 (sm_N_lt V1).1)
      refine ⟨fl, pt, ok, ?_, ?_⟩
      · intro f_raised f_trapped f_below f_value f_power f_rest f_wish f_exact a_format a_bits a_kind a_minus a_coefficient a_exponent a_wide post d i j hd hi hj ef S0 S1 HD
        have hin : vp_in (nI i) 3 := vp_in_nI hi (by decide)
        have hin2 : vp_in (nI j) 3 := vp_in_nI hj (by decide)
        have hck : (nI i).toNatClampNeg = i := nI_clamp (by omega)
        have hck2 : (nI j).toNatClampNeg = j := nI_clamp (by omega)
        have c0 : ¬ a_kind (nI i).toNatClampNeg = 2 := by
          rw [hck, S0.1]
          exact bo_k hK0 (by decide) k0
        have c1 : ¬ a_kind (nI j).toNatClampNeg = 2 := by
          rw [hck2, S1.1]
          exact bo_k hK1 (by decide) k1
        refine And.intro hin (br_f c0 ?_)
        refine And.intro hin (br_f c0 ⟨hin2, br_f c1 ⟨vp_in_nI hd (by decide), ?_⟩⟩)
        rw [nI_clamp (show d < 2 ^ 31 by omega), ef]
        refine xw_baseOf hf ?_
        refine WX _ _ _ _ _ _ _ _ _ _ _ _ _ _ _ _ i j hi hj S0 S1 ?_
        exact RX _ _ _ _ _ _ _ _ _ _ _ d hd ef (fun u' h => HD u' h)
      · rw [hs] at RY
        exact ys_sum hf hm hM0 hM1 hK0 hK1 k0 k1 V0 V1 RY
end
section
/-! products -/
def op_V (b K M C : Nat) (E : Int) : Prop := K < 4 ∧ M < 2 ∧ ((b = 2 ∧ C < 16777216 ∧ -149 ≤ E ∧ E ≤ 104) ∨ (b = 10 ∧ C < 10000000 ∧ -101 ≤ E ∧ E ≤ 90))
theorem op_Vs {b K M C : Nat} {E : Int} (h : op_V b K M C E) : sm_V b C E := by
  obtain ⟨_, _, h⟩ := h
  unfold sm_V
  omega
theorem op_Vm {b K0 M0 C0 K1 M1 C1 : Nat} {E0 E1 : Int} (h0 : op_V b K0 M0 C0 E0) (h1 : op_V b K1 M1 C1 E1) : sm_V b (C0 * C1) (E0 + E1) := by
  obtain ⟨_, _, h0⟩ := h0
  obtain ⟨_, _, h1⟩ := h1
  rcases h0 with ⟨rfl, a1, a2, a3⟩ | ⟨rfl, a1, a2, a3⟩
  · left
    have hm : C0 * C1 ≤ 16777215 * 16777215 := Nat.mul_le_mul (by omega) (by omega)
    omega
  · right
    have hm : C0 * C1 ≤ 9999999 * 9999999 := Nat.mul_le_mul (by omega) (by omega)
    omega
def bo_Z (K C : Nat) : Nat := if K = 3 ∧ C = 0 then 1 else 0
theorem bo_Z_lt (K C : Nat) : bo_Z K C < 2 := by
  unfold bo_Z
  split <;> omega
theorem xw_isZero {f_raised : Int32} {f_trapped : Int32} {f_mode : Int32} {f_below : Int32} {f_value : Int64} {f_power : Int32} {f_rest : Int32} {f_wish : Int32} {f_exact : Int32} {a_format : Nat → Int32} {a_bits : Nat → Int32} {a_kind : Nat → Int32} {a_minus : Nat → Int32} {a_coefficient : Nat → Int64} {a_exponent : Nat → Int32} {a_wide : Nat → Int32} {post : Int32 → Prop} {k K M C : Nat} {E : Int} (hk : k < 3) (hK : K < 4) (hC : C < 9223372036854775808) (hS : op_Sl a_kind a_minus a_coefficient a_exponent k K M C E) (H : post (nI (bo_Z K C))) : wpX_isZero post (f_raised, f_trapped, f_mode, f_below, f_value, f_power, f_rest, f_wish, f_exact, a_format, a_bits, a_kind, a_minus, a_coefficient, a_exponent, a_wide) (nI k) := by
  have hin : vp_in (nI k) 3 := vp_in_nI hk (by decide)
  have hck : (nI k).toNatClampNeg = k := nI_clamp (by omega)
  unfold bo_Z at H
  refine And.intro hin ?_
  rw [hck, hS.1, hS.2.2.1]
  refine pk_eq K 3 (fun h => ⟨hin, zz_leq C 0 (fun h2 => ?_) (fun h2 => ?_)⟩) (fun h => ?_)
  · rw [if_pos ⟨h, h2⟩] at H
    exact H
  · rw [if_neg (fun hh => h2 hh.2)] at H
    exact H
  · rw [if_neg (fun hh => h hh.1)] at H
    exact H
theorem yw_isZero {f_attribute : Int32} {f_raised : Int32} {f_trapped : Int32} {f_more : Int32} {f_made : Int32} {a_format : Nat → Int32} {a_pattern : Nat → Int32} {a_kind : Nat → Int32} {a_exponent : Nat → Int32} {a_coefficient : Nat → Int64} {a_minus : Nat → Int32} {a_row : Nat → Int32} {post : Int32 → Prop} {k K M C : Nat} {E : Int} (hk : k < 3) (hK : K < 4) (hC : C < 9223372036854775808) (hS : op_Sl a_kind a_minus a_coefficient a_exponent k K M C E) (H : post (nI (bo_Z K C))) : wpY_isZero post (f_attribute, f_raised, f_trapped, f_more, f_made, a_format, a_pattern, a_kind, a_exponent, a_coefficient, a_minus, a_row) (nI k) := by
  have hin : vp_in (nI k) 3 := vp_in_nI hk (by decide)
  have hck : (nI k).toNatClampNeg = k := nI_clamp (by omega)
  unfold bo_Z at H
  refine And.intro hin ?_
  rw [hck, hS.1, hS.2.2.1]
  refine pk_eq K 3 (fun h => ⟨hin, zz_leq C 0 (fun h2 => ?_) (fun h2 => ?_)⟩) (fun h => ?_)
  · rw [if_pos ⟨h, h2⟩] at H
    exact H
  · rw [if_neg (fun hh => h2 hh.2)] at H
    exact H
  · rw [if_neg (fun hh => h hh.1)] at H
    exact H
/-- a call with operands 0 and 1 -/
def bo_X2 (W : (Int32 → SX → Prop) → SX → Int32 → Prop) (f m K0 M0 C0 K1 M1 C1 : Nat) (E0 E1 : Int) (fl pt : Int32) : Prop := ∀ (f_raised : Int32) (f_trapped : Int32) (f_below : Int32) (f_value : Int64) (f_power : Int32) (f_rest : Int32) (f_wish : Int32) (f_exact : Int32) (a_format : Nat → Int32) (a_bits : Nat → Int32) (a_kind : Nat → Int32) (a_minus : Nat → Int32) (a_coefficient : Nat → Int64) (a_exponent : Nat → Int32) (a_wide : Nat → Int32) (post : Int32 → SX → Prop) (d : Nat), d < 8 → a_format d = nI f → op_Sl a_kind a_minus a_coefficient a_exponent 0 K0 M0 C0 E0 → op_Sl a_kind a_minus a_coefficient a_exponent 1 K1 M1 C1 E1 → xs_D post f_raised f_trapped (nI m) a_format a_bits d fl pt → W post (f_raised, f_trapped, nI m, f_below, f_value, f_power, f_rest, f_wish, f_exact, a_format, a_bits, a_kind, a_minus, a_coefficient, a_exponent, a_wide) (nI d)
def bo_Y2 (W : (Int32 → SY → Prop) → SY → Int32 → Prop) (f m K0 M0 C0 K1 M1 C1 : Nat) (E0 E1 : Int) (fl pt : Int32) : Prop := ∀ (f_raised : Int32) (f_trapped : Int32) (f_more : Int32) (f_made : Int32) (a_format : Nat → Int32) (a_pattern : Nat → Int32) (a_kind : Nat → Int32) (a_exponent : Nat → Int32) (a_coefficient : Nat → Int64) (a_minus : Nat → Int32) (a_row : Nat → Int32) (post : Int32 → SY → Prop), op_Sl a_kind a_minus a_coefficient a_exponent 0 K0 M0 C0 E0 → op_Sl a_kind a_minus a_coefficient a_exponent 1 K1 M1 C1 E1 → ys_O post f_raised f_trapped (nI m) a_format a_pattern fl pt → W post (nI m, f_raised, f_trapped, f_more, f_made, a_format, a_pattern, a_kind, a_exponent, a_coefficient, a_minus, a_row) (nI f)
theorem bt_exactN {f m s c : Nat} {e w : Int} (hf : f < 4) (hm : m < 5) (hs : s < 2) (hw : -100000 < w ∧ w < 100000) (V : sm_V (fm_b f) c e) : ∃ fl pt : Int32, bt_ok f fl pt ∧ bt_XR f m s c 0 e w fl pt ∧ bt_YR f m s (sm_N (fm_b f) c e) 0 w fl pt := by
  obtain ⟨hb, q1, q2, q3, q4, q5⟩ := sm_Vb V
  have F := sm_FN V
  exact bt_sum hf hm hs hw F (sm_799 hb (sm_N_lt V).1)
theorem bo_prod {f m K0 M0 C0 K1 M1 C1 : Nat} {E0 E1 : Int} (hf : f < 4) (hm : m < 5) (V0 : op_V (fm_b f) K0 M0 C0 E0) (V1 : op_V (fm_b f) K1 M1 C1 E1) : ∃ fl pt : Int32, bt_ok f fl pt ∧ bo_X2 wpX_times f m K0 M0 C0 K1 M1 C1 E0 E1 fl pt ∧ bo_Y2 wpY_product f m K0 M0 C0 K1 M1 C1 E0 E1 fl pt := by
  obtain ⟨hK0, hM0, _⟩ := id V0
  obtain ⟨hK1, hM1, _⟩ := id V1
  obtain ⟨hb, q1, q2, q3, q4, q5⟩ := sm_Vb (op_Vs V0)
  obtain ⟨_, t1, t2, t3, t4, t5⟩ := sm_Vb (op_Vs V1)
  have VM := op_Vm V0 V1
  obtain ⟨_, p1, p2, p3, p4, p5⟩ := sm_Vb VM
  obtain ⟨s, hs⟩ : ∃ s : Nat, s = if M0 = M1 then 0 else 1 := ⟨_, rfl⟩
  have hs2 : s < 2 := by
    rw [hs]
    split <;> omega
  have Z0 := bo_Z_lt K0 C0
  have Z1 := bo_Z_lt K1 C1
  have startX : ∀ (f_raised : Int32) (f_trapped : Int32) (f_below : Int32) (f_value : Int64) (f_power : Int32) (f_rest : Int32) (f_wish : Int32) (f_exact : Int32) (a_format : Nat → Int32) (a_bits : Nat → Int32) (a_kind : Nat → Int32) (a_minus : Nat → Int32) (a_coefficient : Nat → Int64) (a_exponent : Nat → Int32) (a_wide : Nat → Int32) (post : Int32 → SX → Prop) (d : Nat), op_Sl a_kind a_minus a_coefficient a_exponent 0 K0 M0 C0 E0 → op_Sl a_kind a_minus a_coefficient a_exponent 1 K1 M1 C1 E1 → wX_times_20 post (nI d) (nI s) f_raised f_trapped (nI m) f_below f_value f_power f_rest f_wish f_exact a_format a_bits a_kind a_minus a_coefficient a_exponent a_wide → wpX_times post (f_raised, f_trapped, nI m, f_below, f_value, f_power, f_rest, f_wish, f_exact, a_format, a_bits, a_kind, a_minus, a_coefficient, a_exponent, a_wide) (nI d) := by
    intro f_raised f_trapped f_below f_value f_power f_rest f_wish f_exact a_format a_bits a_kind a_minus a_coefficient a_exponent a_wide post d S0 S1 h20
    unfold wpX_times
    dsimp only
    rw [S0.2.1, S1.2.1]
    refine pk_eq M0 M1 (fun h => ?_) (fun h => ?_)
    · rw [hs, if_pos h] at h20
      exact h20
    · rw [hs, if_neg h] at h20
      exact h20
  have startY : ∀ (f_raised : Int32) (f_trapped : Int32) (f_more : Int32) (f_made : Int32) (a_format : Nat → Int32) (a_pattern : Nat → Int32) (a_kind : Nat → Int32) (a_exponent : Nat → Int32) (a_coefficient : Nat → Int64) (a_minus : Nat → Int32) (a_row : Nat → Int32) (post : Int32 → SY → Prop), op_Sl a_kind a_minus a_coefficient a_exponent 0 K0 M0 C0 E0 → op_Sl a_kind a_minus a_coefficient a_exponent 1 K1 M1 C1 E1 → wY_product_20 post (nI f) (nI s) (nI m) f_raised f_trapped f_more f_made a_format a_pattern a_kind a_exponent a_coefficient a_minus a_row → wpY_product post (nI m, f_raised, f_trapped, f_more, f_made, a_format, a_pattern, a_kind, a_exponent, a_coefficient, a_minus, a_row) (nI f) := by
    intro f_raised f_trapped f_more f_made a_format a_pattern a_kind a_exponent a_coefficient a_minus a_row post S0 S1 h20
    unfold wpY_product
    dsimp only
    rw [S0.2.1, S1.2.1]
    refine pk_eq M0 M1 (fun h => ?_) (fun h => ?_)
    · rw [hs, if_pos h] at h20
      exact h20
    · rw [hs, if_neg h] at h20
      exact h20
  by_cases kk : K0 = 2 ∨ K1 = 2
  · have headX : ∀ (f_raised : Int32) (f_trapped : Int32) (f_below : Int32) (f_value : Int64) (f_power : Int32) (f_rest : Int32) (f_wish : Int32) (f_exact : Int32) (a_format : Nat → Int32) (a_bits : Nat → Int32) (a_kind : Nat → Int32) (a_minus : Nat → Int32) (a_coefficient : Nat → Int64) (a_exponent : Nat → Int32) (a_wide : Nat → Int32) (post : Int32 → SX → Prop) (d : Nat), op_Sl a_kind a_minus a_coefficient a_exponent 0 K0 M0 C0 E0 → op_Sl a_kind a_minus a_coefficient a_exponent 1 K1 M1 C1 E1 → (¬ (bo_Z K0 C0 = 0 ∧ bo_Z K1 C1 = 0) → wX_times_62 post (nI d) (nI s) (nI 1) f_raised f_trapped (nI m) f_below f_value f_power f_rest f_wish f_exact a_format a_bits a_kind a_minus a_coefficient a_exponent a_wide) → ((bo_Z K0 C0 = 0 ∧ bo_Z K1 C1 = 0) → wX_times_62 post (nI d) (nI s) (nI 0) f_raised f_trapped (nI m) f_below f_value f_power f_rest f_wish f_exact a_format a_bits a_kind a_minus a_coefficient a_exponent a_wide) → wpX_times post (f_raised, f_trapped, nI m, f_below, f_value, f_power, f_rest, f_wish, f_exact, a_format, a_bits, a_kind, a_minus, a_coefficient, a_exponent, a_wide) (nI d) := by
      intro f_raised f_trapped f_below f_value f_power f_rest f_wish f_exact a_format a_bits a_kind a_minus a_coefficient a_exponent a_wide post d S0 S1 G1 G0
      refine startX _ _ _ _ _ _ _ _ _ _ _ _ _ _ _ post d S0 S1 ?_
      have h41 : wX_times_41 post (nI d) (nI s) f_raised f_trapped (nI m) f_below f_value f_power f_rest f_wish f_exact a_format a_bits a_kind a_minus a_coefficient a_exponent a_wide := by
        rw [wX_times_41]
        refine xw_isZero (k := 0) (by decide) hK0 q5 S0 ?_
        refine pk_eq (bo_Z K0 C0) 0 (fun h => ?_) (fun h => G1 (fun hh => h hh.1))
        refine xw_isZero (k := 1) (by decide) hK1 t5 S1 ?_
        exact pk_eq (bo_Z K1 C1) 0 (fun h1 => G0 ⟨h, h1⟩) (fun h1 => G1 (fun hh => h1 hh.2))
      rw [wX_times_20, S0.1, S1.1]
      refine pk_eq K0 2 (fun _ => h41) (fun h => pk_eq K1 2 (fun _ => h41) (fun h1 => ?_))
      exfalso
      omega
    have headY : ∀ (f_raised : Int32) (f_trapped : Int32) (f_more : Int32) (f_made : Int32) (a_format : Nat → Int32) (a_pattern : Nat → Int32) (a_kind : Nat → Int32) (a_exponent : Nat → Int32) (a_coefficient : Nat → Int64) (a_minus : Nat → Int32) (a_row : Nat → Int32) (post : Int32 → SY → Prop), op_Sl a_kind a_minus a_coefficient a_exponent 0 K0 M0 C0 E0 → op_Sl a_kind a_minus a_coefficient a_exponent 1 K1 M1 C1 E1 → (¬ (bo_Z K0 C0 = 0 ∧ bo_Z K1 C1 = 0) → post 1 (nI m, f_raised, f_trapped, f_more, f_made, a_format, a_pattern, a_kind, a_exponent, a_coefficient, a_minus, a_row)) → ((bo_Z K0 C0 = 0 ∧ bo_Z K1 C1 = 0) → wY_product_69 post (nI f) (nI s) (nI 1) (nI m) f_raised f_trapped f_more f_made a_format a_pattern a_kind a_exponent a_coefficient a_minus a_row) → wpY_product post (nI m, f_raised, f_trapped, f_more, f_made, a_format, a_pattern, a_kind, a_exponent, a_coefficient, a_minus, a_row) (nI f) := by
      intro f_raised f_trapped f_more f_made a_format a_pattern a_kind a_exponent a_coefficient a_minus a_row post S0 S1 G1 G0
      refine startY _ _ _ _ _ _ _ _ _ _ _ post S0 S1 ?_
      have h41 : wY_product_41 post (nI f) (nI s) (nI m) f_raised f_trapped f_more f_made a_format a_pattern a_kind a_exponent a_coefficient a_minus a_row := by
        refine br_f (by decide) ?_
        refine yw_isZero (k := 0) (by decide) hK0 q5 S0 ?_
        refine pk_eq (bo_Z K0 C0) 0 (fun h => ?_) (fun h => G1 (fun hh => h hh.1))
        refine yw_isZero (k := 1) (by decide) hK1 t5 S1 ?_
        exact pk_eq (bo_Z K1 C1) 0 (fun h1 => G0 ⟨h, h1⟩) (fun h1 => G1 (fun hh => h1 hh.2))
      rw [wY_product_20, S0.1, S1.1]
      refine pk_eq K0 2 (fun _ => h41) (fun h => pk_eq K1 2 (fun _ => h41) (fun h1 => ?_))
      exfalso
      omega
    by_cases hz : bo_Z K0 C0 = 0 ∧ bo_Z K1 C1 = 0
    · refine ⟨0, pa_inf f s, Or.inr (by decide), ?_, ?_⟩
      · intro f_raised f_trapped f_below f_value f_power f_rest f_wish f_exact a_format a_bits a_kind a_minus a_coefficient a_exponent a_wide post d hd ef S0 S1 HD
        refine headX _ _ _ _ _ _ _ _ _ _ _ _ _ _ _ post d S0 S1 (fun h => absurd hz h) (fun _ => ?_)
        exact br_t rfl (xw_infinite hd hf hs2 ef (fun u' h => HD u' h))
      · intro f_raised f_trapped f_more f_made a_format a_pattern a_kind a_exponent a_coefficient a_minus a_row post S0 S1 HO
        refine headY _ _ _ _ _ _ _ _ _ _ _ post S0 S1 (fun h => absurd hz h) (fun _ => ?_)
        exact br_f (by decide) (pa_winfY hf hs2 (HO _ ⟨rfl, rfl, rfl, rfl, rfl⟩ (Or.inr rfl)))
    · refine ⟨1, pa_nan f, Or.inl ⟨rfl, rfl⟩, ?_, ?_⟩
      · intro f_raised f_trapped f_below f_value f_power f_rest f_wish f_exact a_format a_bits a_kind a_minus a_coefficient a_exponent a_wide post d hd ef S0 S1 HD
        refine headX _ _ _ _ _ _ _ _ _ _ _ _ _ _ _ post d S0 S1 (fun _ => ?_) (fun h => absurd h hz)
        exact br_f (by decide) (xw_invalid hd hf ef (fun u' h => HD u' h))
      · intro f_raised f_trapped f_more f_made a_format a_pattern a_kind a_exponent a_coefficient a_minus a_row post S0 S1 HO
        refine headY _ _ _ _ _ _ _ _ _ _ _ post S0 S1 (fun _ => ?_) (fun h => absurd h hz)
        exact HO _ ⟨rfl, rfl, rfl, rfl, rfl⟩ (Or.inl rfl)
  · obtain ⟨fl, pt, ok, RX, RY⟩ := bt_exactN (m := m) (s := s) (w := E0 + E1) hf hm hs2 (by omega) VM
    refine ⟨fl, pt, ok, ?_, ?_⟩
    · intro f_raised f_trapped f_below f_value f_power f_rest f_wish f_exact a_format a_bits a_kind a_minus a_coefficient a_exponent a_wide post d hd ef S0 S1 HD
      refine startX _ _ _ _ _ _ _ _ _ _ _ _ _ _ _ post d S0 S1 ?_
      rw [wX_times_20, S0.1, S1.1]
      refine pk_eq K0 2 (fun h => absurd (Or.inl h) kk) (fun _ => pk_eq K1 2 (fun h => absurd (Or.inr h) kk) (fun _ => ⟨zz_nb hs2, zz_fb hs2, nm_r (e' := lN (C0 * C1)) ?_ (nm_r (e' := zz_I (E0 + E1)) ?_ ?_)⟩))
      · rw [S0.2.2.1, S1.2.2.1, lN_mul]
      · rw [S0.2.2.2, S1.2.2.2, zz_Iadd]
      · exact RX _ _ _ _ _ _ _ _ _ _ _ d hd ef (fun u' h => HD u' h)
    · intro f_raised f_trapped f_more f_made a_format a_pattern a_kind a_exponent a_coefficient a_minus a_row post S0 S1 HO
      refine startY _ _ _ _ _ _ _ _ _ _ _ post S0 S1 ?_
      rw [wY_product_20, S0.1, S1.1]
      refine pk_eq K0 2 (fun h => absurd (Or.inl h) kk) (fun _ => pk_eq K1 2 (fun h => absurd (Or.inr h) kk) (fun _ => ?_))
      refine br_t rfl ?_
      refine br_t rfl ?_
      refine yw_base hf ?_
      refine yw_clear ?_
      intro row1 hz1
      dsimp only
      rw [S0.2.2.1, S0.2.2.2, S1.2.2.1, S1.2.2.2, lN_mul, zz_Iadd]
      refine yw_clay hb p5 p1 (sm_N_lt VM).2 (sm_799 hb (sm_N_lt VM).1) hz1 ?_
      intro row2 hr2 hz2
      dsimp only
      rw [S0.2.2.2, S1.2.2.2, zz_Iadd]
      exact RY _ _ _ _ _ _ _ _ _ _ _ hr2 (fun u' h1 h2 => HO u' h1 h2)
end
section
/-! quotients -/
section
variable {f_attribute : Int32} {f_raised : Int32} {f_trapped : Int32} {f_made : Int32} {a_format : Nat → Int32} {a_pattern : Nat → Int32} {a_kind : Nat → Int32} {a_exponent : Nat → Int32} {a_coefficient : Nat → Int64} {a_minus : Nat → Int32} {a_row : Nat → Int32} {post : Int32 → SY → Prop}
theorem yq_lp {f b s N y : Nat} {x4 : Int32} (hb : b = 2 ∨ b = 10) (hy0 : 0 < y) (hy : y < 100000000) (hc1 : a_coefficient 1 = lN y) (H : ∀ (row' : Nat → Int32) (mo : Nat), mo < 2 → yr_R b row' 0 (N / y) → (mo = 0 ↔ N % y = 0) → wpY_round (fun r u => post r u) (f_attribute, f_raised, f_trapped, nI mo, f_made, a_format, a_pattern, a_kind, a_exponent, a_coefficient, a_minus, row') (nI f) (nI s) x4) : ∀ k : Nat, k ≤ 800 → ∀ n, k < n → ∀ (f_more : Int32) (row : Nat → Int32), yr_R b row 800 N → (∀ j, k ≤ j → j < 800 → row j = nI (N / y / b ^ j % b)) → wY_quotient_175 post (nI f) (nI s) (nI b) x4 f_attribute f_raised f_trapped f_more f_made n (lN (N / b ^ k % y)) (zz_I ((k : Int) - 1)) a_format a_pattern a_kind a_exponent a_coefficient a_minus row := by
  obtain ⟨b0, b2, b10, bb⟩ := yr_b hb
  have ny : ¬ a_coefficient 1 = 0 := by
    rw [hc1, show (0 : Int64) = lN 0 from rfl, pk_lEQ (by omega) (by decide)]
    omega
  intro k
  induction k with
  | zero =>
    intro hk n hn f_more row hr2 hr
    obtain ⟨n, rfl⟩ := yr_fuel hn
    refine br_t yr_d0 ?_
    have hR : yr_R b row 0 (N / y) := by
      intro j hj
      rw [Nat.zero_add, hr j (by omega) hj]
    have er : N / b ^ 0 % y = N % y := by rw [Nat.pow_zero, Nat.div_one]
    have hlt : N % y < y := Nat.mod_lt _ hy0
    rw [er]
    refine zz_leq (N % y) 0 (fun hz => ⟨rfl, rfl, ?_⟩) (fun hz => ⟨rfl, rfl, ?_⟩)
    · exact H row 0 (by decide) hR ⟨fun _ => hz, fun _ => rfl⟩
    · exact H row 1 (by decide) hR ⟨fun h => absurd h (by decide), fun h => absurd h hz⟩
  | succ k ih =>
    intro hk n hn f_more row hr2 hr
    obtain ⟨n, rfl⟩ := yr_fuel hn
    rw [yr_dm]
    have e8 : (800 : Int32) + nI k = nI (800 + k) := nI_add 800 k
    have l1 := (yr_dlt (x := N / b ^ k) hb).1
    have l2 : N / b ^ (k + 1) % y < y := Nat.mod_lt _ hy0
    have l4 : N / b ^ (k + 1) % y * b ≤ 100000000 * 10 := Nat.mul_le_mul (by omega) b10
    have eq0 : row (800 + k) = nI (N / b ^ k % b) := hr2 k (by omega)
    obtain ⟨s1, s2⟩ := dg_over_step b0 hy0 N k
    have hin2 : vp_in (800 + nI k) 1600 := by
      rw [e8]
      exact vp_in_nI (by omega) (by decide)
    refine br_f (nI_pos (by omega)) ⟨hin2, nm_r (e' := lN (N / b ^ (k + 1) % y * b + N / b ^ k % b)) ?_ ⟨ny, vp_in_nI (by omega) (by decide), nm_e ⟨ny, nm_r (e' := lN (N / b ^ k % y)) ?_ (nm_r (yr_dm1 k) ?_)⟩⟩⟩
    · rw [e8, nI_clamp (by omega), eq0, nI_l bb, nI_l (by omega), lN_mul, lN_add]
    · rw [hc1, pk_lRem (by omega) hy0 (by omega), s2]
    · rw [hc1, pk_lDiv (by omega) hy0 (by omega), s1, lN_i, nI_clamp (by omega)]
      refine ih (by omega) n (by omega) f_more _ ?_ ?_
      · intro j hj
        rw [pk_un (by omega)]
        exact hr2 j hj
      · intro j hj1 hj2
        by_cases h : j = k
        · subst h
          exact pk_us
        · rw [pk_un h]
          exact hr j (by omega) hj2
end
/-- the arithmetic of a quotient -/
theorem qu_rep {b c0 c1 up : Nat} {e : Int} (hb : 0 < b) (h1 : 0 < c1) (h : 0 ≤ e - up + fm_P b) : c0 * b ^ up / c1 = c0 * b ^ (e + fm_P b).toNat / rn_M c1 b (fm_P b) (e - up) ∧ (c0 * b ^ up % c1 = 0 ↔ c0 * b ^ (e + fm_P b).toNat % rn_M c1 b (fm_P b) (e - up) = 0) := by
  have e1 : b ^ (e + fm_P b).toNat = b ^ up * b ^ (e - up + fm_P b).toNat := by
    rw [← Nat.pow_add]
    congr 1
    omega
  have hB : 0 < b ^ (e - up + fm_P b).toNat := Nat.pow_pos hb
  unfold rn_M
  rw [e1, ← Nat.mul_assoc]
  generalize b ^ (e - up + fm_P b).toNat = B at *
  constructor
  · rw [Nat.mul_div_mul_right _ _ hB]
  · rw [Nat.mul_comm _ B, Nat.mul_comm c1 B, Nat.mul_mod_mul_left]
    constructor
    · intro h
      rw [h, Nat.mul_zero]
    · intro h
      rcases Nat.mul_eq_zero.mp h with h2 | h2
      · omega
      · exact h2
theorem qu_Y {b A D : Nat} : yr_Y A D b (fm_P b) (A / D) (if A % D = 0 then 0 else 1) (-(fm_P b : Int)) := by
  have e0 : (-(fm_P b : Int) + fm_P b).toNat = 0 := by omega
  have eM : rn_M D b (fm_P b) (-(fm_P b : Int)) = D := by
    unfold rn_M
    rw [e0, Nat.pow_zero, Nat.mul_one]
  refine ⟨by split <;> omega, by omega, by omega, ?_, ?_⟩
  · rw [eM, e0, Nat.pow_zero, Nat.mul_one]
  · rw [eM]
    split
    · exact ⟨fun _ => by assumption, fun _ => rfl⟩
    · exact ⟨fun h => absurd h (by decide), fun h => absurd h (by assumption)⟩
/-- both pictures of a quotient of numbers that are not 0 -/
theorem bt_quot {f m s K0 M0 C0 K1 M1 C1 n : Nat} {E0 E1 : Int} (hf : f < 4) (hm : m < 5) (hs : s < 2) (V0 : op_V (fm_b f) K0 M0 C0 E0) (V1 : op_V (fm_b f) K1 M1 C1 E1) (h0 : 0 < C0) (h1 : 0 < C1) (hn : dg_n (fm_b f) C0 n) : n ≤ xr_w (fm_b f) ∧ C0 * fm_b f ^ (xr_w (fm_b f) - n) < 9223372036854775808 ∧ ∃ fl pt : Int32, bt_ok f fl pt ∧ bt_XR f m s (C0 * fm_b f ^ (xr_w (fm_b f) - n) / C1) (if C0 * fm_b f ^ (xr_w (fm_b f) - n) % C1 = 0 then 0 else 1) (E0 - E1 - ((xr_w (fm_b f) - n : Nat) : Int)) (E0 - E1) fl pt ∧ bt_YR f m s (C0 * fm_b f ^ (E0 - E1 + fm_P (fm_b f)).toNat / C1) (if C0 * fm_b f ^ (E0 - E1 + fm_P (fm_b f)).toNat % C1 = 0 then 0 else 1) (E0 - E1) fl pt := by
  have hff := fm_facts hf
  have hb := fm_b2 f
  obtain ⟨b0, b2, b10, bb⟩ := yr_b hb
  obtain ⟨_, _, V0⟩ := V0
  obtain ⟨_, _, V1⟩ := V1
  have hn0 : n ≠ 0 := fun e => by
    have := (dg_n0 b0 hn).mpr e
    omega
  have hnw : n ≤ xr_w (fm_b f) ∧ n ≤ 24 := by
    rcases V0 with ⟨e, h2, _⟩ | ⟨e, h2, _⟩
    · rw [e] at hn ⊢
      have h3 : n ≤ 24 := dg_n_le (by decide) hn (show C0 < 2 ^ 24 by omega)
      have h4 : xr_w 2 = 61 := rfl
      omega
    · rw [e] at hn ⊢
      have h3 : n ≤ 7 := dg_n_le (by decide) hn (show C0 < 10 ^ 7 by omega)
      have h4 : xr_w 10 = 18 := rfl
      omega
  have ha : C0 * fm_b f ^ (xr_w (fm_b f) - n) < fm_b f ^ xr_w (fm_b f) := by
    have h3 : C0 * fm_b f ^ (xr_w (fm_b f) - n) < fm_b f ^ n * fm_b f ^ (xr_w (fm_b f) - n) := Nat.mul_lt_mul_of_pos_right hn.1 (Nat.pow_pos b0)
    rw [← Nat.pow_add, show n + (xr_w (fm_b f) - n) = xr_w (fm_b f) by omega] at h3
    exact h3
  have ha2 : fm_b f ^ (xr_w (fm_b f) - 1) ≤ C0 * fm_b f ^ (xr_w (fm_b f) - n) := by
    have h3 : fm_b f ^ (n - 1) ≤ C0 := by
      rcases hn.2 with h2 | h2
      · exact absurd h2 hn0
      · exact h2
    have h4 : fm_b f ^ (n - 1) * fm_b f ^ (xr_w (fm_b f) - n) ≤ C0 * fm_b f ^ (xr_w (fm_b f) - n) := Nat.mul_le_mul_right _ h3
    rw [← Nat.pow_add, show n - 1 + (xr_w (fm_b f) - n) = xr_w (fm_b f) - 1 by omega] at h4
    exact h4
  have hlay : 24 + 24 ≤ (E0 - E1 + fm_P (fm_b f)).toNat ∧ (E0 - E1 + fm_P (fm_b f)).toNat ≤ 704 ∧ fm_b f = 2 ∨ 32 ≤ (E0 - E1 + fm_P (fm_b f)).toNat ∧ (E0 - E1 + fm_P (fm_b f)).toNat ≤ 422 ∧ fm_b f = 10 := by
    rcases V0 with ⟨e, h2, _⟩ | ⟨e, h2, _⟩
    · rw [e] at V1 ⊢
      have : fm_P 2 = 450 := rfl
      omega
    · rw [e] at V1 ⊢
      have : fm_P 10 = 230 := rfl
      omega
  have hNlt : C0 * fm_b f ^ (E0 - E1 + fm_P (fm_b f)).toNat / C1 < fm_b f ^ 800 := by
    have h3 : C0 * fm_b f ^ (E0 - E1 + fm_P (fm_b f)).toNat < fm_b f ^ n * fm_b f ^ (E0 - E1 + fm_P (fm_b f)).toNat := Nat.mul_lt_mul_of_pos_right hn.1 (Nat.pow_pos b0)
    rw [← Nat.pow_add] at h3
    exact Nat.lt_of_le_of_lt (Nat.div_le_self _ _) (Nat.lt_of_lt_of_le h3 (dg_pow_le b0 (by omega)))
  have hpw : 0 ≤ E0 - E1 - ((xr_w (fm_b f) - n : Nat) : Int) + fm_P (fm_b f) := by
    rcases V0 with ⟨e, h2, _⟩ | ⟨e, h2, _⟩
    · rw [e] at V1 ⊢
      have : fm_P 2 = 450 := rfl
      have : xr_w 2 = 61 := rfl
      omega
    · rw [e] at V1 ⊢
      have : fm_P 10 = 230 := rfl
      have : xr_w 10 = 18 := rfl
      omega
  have hpos : ∀ x : Nat, fm_b f ^ fm_p f * C1 ≤ x → fm_b f ^ fm_p f ≤ x / C1 := fun x hx => (Nat.le_div_iff_mul_le h1).mpr hx
  have hc1b : C1 ≤ fm_b f ^ 24 ∧ (fm_b f = 10 → C1 ≤ fm_b f ^ 7) := by
    rcases V1 with ⟨e, h2, _⟩ | ⟨e, h2, _⟩
    · rw [e]
      exact ⟨by omega, fun h => absurd h (by decide)⟩
    · rw [e]
      exact ⟨by omega, fun _ => by omega⟩
  have hbig : ∀ k : Nat, (fm_b f = 2 → 48 ≤ k) → (fm_b f = 10 → 14 ≤ k) → fm_b f ^ fm_p f * C1 ≤ fm_b f ^ k := by
    intro k k2 k10
    rcases hff with ⟨e2, hp⟩ | ⟨e10, hp, _⟩
    · have h3 : fm_b f ^ fm_p f * C1 ≤ fm_b f ^ 24 * fm_b f ^ 24 := Nat.mul_le_mul (dg_pow_le b0 (by omega)) hc1b.1
      rw [← Nat.pow_add] at h3
      exact Nat.le_trans h3 (dg_pow_le b0 (k2 e2))
    · have h3 : fm_b f ^ fm_p f * C1 ≤ fm_b f ^ 7 * fm_b f ^ 7 := Nat.mul_le_mul (dg_pow_le b0 (by omega)) (hc1b.2 e10)
      rw [← Nat.pow_add] at h3
      exact Nat.le_trans h3 (dg_pow_le b0 (k10 e10))
  have hv : fm_b f ^ fm_p f ≤ C0 * fm_b f ^ (xr_w (fm_b f) - n) / C1 := by
    refine hpos _ (Nat.le_trans (hbig (xr_w (fm_b f) - 1) (fun e => ?_) (fun e => ?_)) ha2)
    · rw [e]
      decide
    · rw [e]
      decide
  have hyA : fm_b f ^ fm_p f ≤ C0 * fm_b f ^ (E0 - E1 + fm_P (fm_b f)).toNat / C1 := by
    refine hpos _ (Nat.le_trans (hbig (E0 - E1 + fm_P (fm_b f)).toNat (fun e => by omega) (fun e => by omega)) (Nat.le_mul_of_pos_left _ h0))
  obtain ⟨r1, r2⟩ := qu_rep (b := fm_b f) (c0 := C0) (c1 := C1) (up := xr_w (fm_b f) - n) (e := E0 - E1) b0 h1 hpw
  have hwb : fm_b f ^ xr_w (fm_b f) < xr_bd (fm_b f) := by
    rcases hb with h | h <;> rw [h] <;> decide
  have hwb2 : xr_bd (fm_b f) < 9223372036854775808 := by
    rcases hb with h | h <;> rw [h] <;> decide
  have hp1 : 0 < fm_b f ^ fm_p f := Nat.pow_pos b0
  have hdl : C0 * fm_b f ^ (xr_w (fm_b f) - n) / C1 ≤ C0 * fm_b f ^ (xr_w (fm_b f) - n) := Nat.div_le_self _ _
  have eM : rn_M C1 (fm_b f) (fm_P (fm_b f)) (-(fm_P (fm_b f) : Int)) = C1 := by
    have e0 : (-(fm_P (fm_b f) : Int) + fm_P (fm_b f)).toNat = 0 := by omega
    unfold rn_M
    rw [e0, Nat.pow_zero, Nat.mul_one]
  have hP : fm_P (fm_b f) ≤ 450 := by rcases hb with h | h <;> rw [h] <;> decide
  refine ⟨hnw.1, by omega, ?_⟩
  refine bt_round (A := C0 * fm_b f ^ (E0 - E1 + fm_P (fm_b f)).toNat) (D := C1) (U := fm_P (fm_b f)) (u := -(fm_P (fm_b f) : Int)) hf hm hs (by omega) h1 (Nat.le_refl _) (by split <;> omega) hpw r1 ?_ (by omega) (by omega) (Or.inr hv) (by omega) hNlt qu_Y (by rw [eM]; exact hyA)
  rw [← r2]
  split
  · exact ⟨fun _ => by assumption, fun _ => rfl⟩
  · exact ⟨fun h => absurd h (by decide), fun h => absurd h (by assumption)⟩
end
section
/-! quotients: both sides at one -/
theorem bo_quot {f m K0 M0 C0 K1 M1 C1 : Nat} {E0 E1 : Int} (hf : f < 4) (hm : m < 5) (V0 : op_V (fm_b f) K0 M0 C0 E0) (V1 : op_V (fm_b f) K1 M1 C1 E1) (k0 : K0 = 2 ∨ K0 = 3) (k1 : K1 = 2 ∨ K1 = 3) : ∃ fl pt : Int32, bt_ok f fl pt ∧ bo_X2 wpX_divide f m K0 M0 C0 K1 M1 C1 E0 E1 fl pt ∧ bo_Y2 wpY_quotient f m K0 M0 C0 K1 M1 C1 E0 E1 fl pt := by
  have hff := fm_facts hf
  obtain ⟨hK0, hM0, _⟩ := id V0
  obtain ⟨hK1, hM1, _⟩ := id V1
  obtain ⟨hb, q1, q2, q3, q4, q5⟩ := sm_Vb (op_Vs V0)
  obtain ⟨_, t1, t2, t3, t4, t5⟩ := sm_Vb (op_Vs V1)
  obtain ⟨b0, b2, b10, bb⟩ := yr_b hb
  obtain ⟨s, hs⟩ : ∃ s : Nat, s = if M0 = M1 then 0 else 1 := ⟨_, rfl⟩
  have hs2 : s < 2 := by
    rw [hs]
    split <;> omega
  have Z0 := bo_Z_lt K0 C0
  have Z1 := bo_Z_lt K1 C1
  have z0 : bo_Z K0 C0 = 0 ↔ ¬ (K0 = 3 ∧ C0 = 0) := by
    unfold bo_Z
    split <;> simp_all
  have z1 : bo_Z K1 C1 = 0 ↔ ¬ (K1 = 3 ∧ C1 = 0) := by
    unfold bo_Z
    split <;> simp_all
  have startX : ∀ (f_raised : Int32) (f_trapped : Int32) (f_below : Int32) (f_value : Int64) (f_power : Int32) (f_rest : Int32) (f_wish : Int32) (f_exact : Int32) (a_format : Nat → Int32) (a_bits : Nat → Int32) (a_kind : Nat → Int32) (a_minus : Nat → Int32) (a_coefficient : Nat → Int64) (a_exponent : Nat → Int32) (a_wide : Nat → Int32) (post : Int32 → SX → Prop) (d : Nat), op_Sl a_kind a_minus a_coefficient a_exponent 0 K0 M0 C0 E0 → op_Sl a_kind a_minus a_coefficient a_exponent 1 K1 M1 C1 E1 → (K0 = 2 ∧ K1 = 2 → wX_divide_62 post (nI d) f_raised f_trapped (nI m) (nI s) f_value f_power f_rest f_wish f_exact a_format a_bits a_kind a_minus a_coefficient a_exponent a_wide) → (¬ (K0 = 2 ∧ K1 = 2) → wX_divide_50 post (nI d) (nI (bo_Z K0 C0)) f_raised f_trapped (nI m) (nI s) f_value f_power f_rest f_wish f_exact a_format a_bits a_kind a_minus a_coefficient a_exponent a_wide) → wpX_divide post (f_raised, f_trapped, nI m, f_below, f_value, f_power, f_rest, f_wish, f_exact, a_format, a_bits, a_kind, a_minus, a_coefficient, a_exponent, a_wide) (nI d) := by
    intro f_raised f_trapped f_below f_value f_power f_rest f_wish f_exact a_format a_bits a_kind a_minus a_coefficient a_exponent a_wide post d S0 S1 G1 G2
    have h21 : wX_divide_21 post (nI d) (nI s) f_raised f_trapped (nI m) f_below f_value f_power f_rest f_wish f_exact a_format a_bits a_kind a_minus a_coefficient a_exponent a_wide := by
      refine And.intro (zz_nb hs2) ⟨zz_fb hs2, ?_⟩
      refine xw_isZero (k := 0) (by decide) hK0 q5 S0 ?_
      rw [S0.1, S1.1]
      exact pk_eq K0 2 (fun h => pk_eq K1 2 (fun h1 => G1 ⟨h, h1⟩) (fun h1 => G2 (fun hh => h1 hh.2))) (fun h => G2 (fun hh => h hh.1))
    unfold wpX_divide
    dsimp only
    rw [S0.2.1, S1.2.1]
    refine pk_eq M0 M1 (fun h => ?_) (fun h => ?_)
    · rw [hs, if_pos h] at h21
      exact h21
    · rw [hs, if_neg h] at h21
      exact h21
  have startY : ∀ (f_raised : Int32) (f_trapped : Int32) (f_more : Int32) (f_made : Int32) (a_format : Nat → Int32) (a_pattern : Nat → Int32) (a_kind : Nat → Int32) (a_exponent : Nat → Int32) (a_coefficient : Nat → Int64) (a_minus : Nat → Int32) (a_row : Nat → Int32) (post : Int32 → SY → Prop), op_Sl a_kind a_minus a_coefficient a_exponent 0 K0 M0 C0 E0 → op_Sl a_kind a_minus a_coefficient a_exponent 1 K1 M1 C1 E1 → (K0 = 2 ∧ K1 = 2 → post 1 (nI m, f_raised, f_trapped, f_more, f_made, a_format, a_pattern, a_kind, a_exponent, a_coefficient, a_minus, a_row)) → (¬ (K0 = 2 ∧ K1 = 2) → wY_quotient_41 post (nI f) (nI s) (nI m) f_raised f_trapped f_more f_made a_format a_pattern a_kind a_exponent a_coefficient a_minus a_row) → wpY_quotient post (nI m, f_raised, f_trapped, f_more, f_made, a_format, a_pattern, a_kind, a_exponent, a_coefficient, a_minus, a_row) (nI f) := by
    intro f_raised f_trapped f_more f_made a_format a_pattern a_kind a_exponent a_coefficient a_minus a_row post S0 S1 G1 G2
    have h20 : wY_quotient_20 post (nI f) (nI s) (nI m) f_raised f_trapped f_more f_made a_format a_pattern a_kind a_exponent a_coefficient a_minus a_row := by
      rw [wY_quotient_20, S0.1, S1.1]
      exact pk_eq K0 2 (fun h => pk_eq K1 2 (fun h1 => G1 ⟨h, h1⟩) (fun h1 => G2 (fun hh => h1 hh.2))) (fun h => G2 (fun hh => h hh.1))
    unfold wpY_quotient
    dsimp only
    rw [S0.2.1, S1.2.1]
    refine pk_eq M0 M1 (fun h => ?_) (fun h => ?_)
    · rw [hs, if_pos h] at h20
      exact h20
    · rw [hs, if_neg h] at h20
      exact h20
  by_cases kk : K0 = 2 ∧ K1 = 2
  · refine ⟨1, pa_nan f, Or.inl ⟨rfl, rfl⟩, ?_, ?_⟩
    · intro f_raised f_trapped f_below f_value f_power f_rest f_wish f_exact a_format a_bits a_kind a_minus a_coefficient a_exponent a_wide post d hd ef S0 S1 HD
      exact startX _ _ _ _ _ _ _ _ _ _ _ _ _ _ _ post d S0 S1 (fun _ => xw_invalid hd hf ef (fun u' h => HD u' h)) (fun h => absurd kk h)
    · intro f_raised f_trapped f_more f_made a_format a_pattern a_kind a_exponent a_coefficient a_minus a_row post S0 S1 HO
      exact startY _ _ _ _ _ _ _ _ _ _ _ post S0 S1 (fun _ => HO _ ⟨rfl, rfl, rfl, rfl, rfl⟩ (Or.inl rfl)) (fun h => absurd kk h)
  by_cases zz : ¬ bo_Z K0 C0 = 0 ∧ ¬ bo_Z K1 C1 = 0
  · refine ⟨1, pa_nan f, Or.inl ⟨rfl, rfl⟩, ?_, ?_⟩
    · intro f_raised f_trapped f_below f_value f_power f_rest f_wish f_exact a_format a_bits a_kind a_minus a_coefficient a_exponent a_wide post d hd ef S0 S1 HD
      refine startX _ _ _ _ _ _ _ _ _ _ _ _ _ _ _ post d S0 S1 (fun h => absurd h kk) (fun _ => ?_)
      refine pk_eq (bo_Z K0 C0) 0 (fun h => absurd h zz.1) (fun _ => ?_)
      refine xw_isZero (k := 1) (by decide) hK1 t5 S1 ?_
      refine pk_eq (bo_Z K1 C1) 0 (fun h => absurd h zz.2) (fun _ => ?_)
      exact xw_invalid hd hf ef (fun u' h => HD u' h)
    · intro f_raised f_trapped f_more f_made a_format a_pattern a_kind a_exponent a_coefficient a_minus a_row post S0 S1 HO
      refine startY _ _ _ _ _ _ _ _ _ _ _ post S0 S1 (fun h => absurd h kk) (fun _ => ?_)
      rw [wY_quotient_41]
      refine yw_isZero (k := 0) (by decide) hK0 q5 S0 ?_
      refine pk_eq (bo_Z K0 C0) 0 (fun h => absurd h zz.1) (fun _ => ?_)
      refine yw_isZero (k := 1) (by decide) hK1 t5 S1 ?_
      refine pk_eq (bo_Z K1 C1) 0 (fun h => absurd h zz.2) (fun _ => ?_)
      exact HO _ ⟨rfl, rfl, rfl, rfl, rfl⟩ (Or.inl rfl)
  have midX : ∀ (f_raised : Int32) (f_trapped : Int32) (f_below : Int32) (f_value : Int64) (f_power : Int32) (f_rest : Int32) (f_wish : Int32) (f_exact : Int32) (a_format : Nat → Int32) (a_bits : Nat → Int32) (a_kind : Nat → Int32) (a_minus : Nat → Int32) (a_coefficient : Nat → Int64) (a_exponent : Nat → Int32) (a_wide : Nat → Int32) (post : Int32 → SX → Prop) (d : Nat), op_Sl a_kind a_minus a_coefficient a_exponent 0 K0 M0 C0 E0 → op_Sl a_kind a_minus a_coefficient a_exponent 1 K1 M1 C1 E1 → wX_divide_68 post (nI d) (nI (bo_Z K0 C0)) f_raised f_trapped (nI m) (nI s) f_value f_power f_rest f_wish f_exact a_format a_bits a_kind a_minus a_coefficient a_exponent a_wide → wpX_divide post (f_raised, f_trapped, nI m, f_below, f_value, f_power, f_rest, f_wish, f_exact, a_format, a_bits, a_kind, a_minus, a_coefficient, a_exponent, a_wide) (nI d) := by
    intro f_raised f_trapped f_below f_value f_power f_rest f_wish f_exact a_format a_bits a_kind a_minus a_coefficient a_exponent a_wide post d S0 S1 h68
    refine startX _ _ _ _ _ _ _ _ _ _ _ _ _ _ _ post d S0 S1 (fun h => absurd h kk) (fun _ => ?_)
    refine pk_eq (bo_Z K0 C0) 0 (fun _ => h68) (fun h => ?_)
    refine xw_isZero (k := 1) (by decide) hK1 t5 S1 ?_
    exact pk_eq (bo_Z K1 C1) 0 (fun _ => h68) (fun h1 => absurd ⟨h, h1⟩ zz)
  have midY : ∀ (f_raised : Int32) (f_trapped : Int32) (f_more : Int32) (f_made : Int32) (a_format : Nat → Int32) (a_pattern : Nat → Int32) (a_kind : Nat → Int32) (a_exponent : Nat → Int32) (a_coefficient : Nat → Int64) (a_minus : Nat → Int32) (a_row : Nat → Int32) (post : Int32 → SY → Prop), op_Sl a_kind a_minus a_coefficient a_exponent 0 K0 M0 C0 E0 → op_Sl a_kind a_minus a_coefficient a_exponent 1 K1 M1 C1 E1 → wY_quotient_59 post (nI f) (nI s) (nI m) f_raised f_trapped f_more f_made a_format a_pattern a_kind a_exponent a_coefficient a_minus a_row → wpY_quotient post (nI m, f_raised, f_trapped, f_more, f_made, a_format, a_pattern, a_kind, a_exponent, a_coefficient, a_minus, a_row) (nI f) := by
    intro f_raised f_trapped f_more f_made a_format a_pattern a_kind a_exponent a_coefficient a_minus a_row post S0 S1 h59
    refine startY _ _ _ _ _ _ _ _ _ _ _ post S0 S1 (fun h => absurd h kk) (fun _ => ?_)
    rw [wY_quotient_41]
    refine yw_isZero (k := 0) (by decide) hK0 q5 S0 ?_
    refine pk_eq (bo_Z K0 C0) 0 (fun _ => h59) (fun h => ?_)
    refine yw_isZero (k := 1) (by decide) hK1 t5 S1 ?_
    exact pk_eq (bo_Z K1 C1) 0 (fun _ => h59) (fun h1 => absurd ⟨h, h1⟩ zz)
  by_cases c0 : K0 = 2
  · refine ⟨0, pa_inf f s, Or.inr (by decide), ?_, ?_⟩
    · intro f_raised f_trapped f_below f_value f_power f_rest f_wish f_exact a_format a_bits a_kind a_minus a_coefficient a_exponent a_wide post d hd ef S0 S1 HD
      refine midX _ _ _ _ _ _ _ _ _ _ _ _ _ _ _ post d S0 S1 ?_
      refine br_t (by rw [S0.1, c0]; rfl) ?_
      exact xw_infinite hd hf hs2 ef (fun u' h => HD u' h)
    · intro f_raised f_trapped f_more f_made a_format a_pattern a_kind a_exponent a_coefficient a_minus a_row post S0 S1 HO
      refine midY _ _ _ _ _ _ _ _ _ _ _ post S0 S1 ?_
      refine br_t (by rw [S0.1, c0]; rfl) ?_
      refine pa_winfY hf hs2 ?_
      refine br_t (by rw [S0.1, c0]; rfl) ?_
      exact HO _ ⟨rfl, rfl, rfl, rfl, rfl⟩ (Or.inr rfl)
  have nk0 : ∀ x : Int32, x = nI K0 → ¬ x = 2 := by
    intro x hx
    rw [hx]
    exact bo_k hK0 (by decide) c0
  by_cases c1 : K1 = 2
  · have e1 : bo_Z K1 C1 = 0 := z1.mpr (by omega)
    refine ⟨0, pa_P f s 0 (rn_zq f (fm_l f)), Or.inr (by decide), ?_, ?_⟩
    · intro f_raised f_trapped f_below f_value f_power f_rest f_wish f_exact a_format a_bits a_kind a_minus a_coefficient a_exponent a_wide post d hd ef S0 S1 HD
      refine midX _ _ _ _ _ _ _ _ _ _ _ _ _ _ _ post d S0 S1 ?_
      have ck1 : a_kind 1 = 2 := by rw [S1.1, c1]; rfl
      refine br_f (nk0 _ S0.1) (br_t ck1 ⟨vp_in_nI hd (by decide), ?_⟩)
      rw [nI_clamp (by omega), ef]
      refine xw_leastOf hf ?_
      have h152 : wX_divide_152 post (nI d) f_raised f_trapped (nI m) (nI s) 0 f_power 0 (zz_I (fm_l f)) f_exact a_format a_bits a_kind a_minus a_coefficient a_exponent a_wide := xw_round_0 (fu := 0) hd hf hs2 (by omega) ef (fun u' h => HD u' h)
      exact br_c (fun _ => br_t ck1 h152) (fun _ => h152)
    · intro f_raised f_trapped f_more f_made a_format a_pattern a_kind a_exponent a_coefficient a_minus a_row post S0 S1 HO
      refine midY _ _ _ _ _ _ _ _ _ _ _ post S0 S1 ?_
      refine br_f (nk0 _ S0.1) ?_
      refine yw_isZero (k := 1) (by decide) hK1 t5 S1 ?_
      refine pk_eq (bo_Z K1 C1) 0 (fun _ => br_t (by rw [S1.1, c1]; rfl) ?_) (fun h => absurd e1 h)
      refine yw_least hf ?_
      refine yw_zero hf hs2 (by omega) ?_
      exact HO _ ⟨rfl, rfl, rfl, rfl, rfl⟩ (Or.inr rfl)
  have nk1 : ∀ x : Int32, x = nI K1 → ¬ x = 2 := by
    intro x hx
    rw [hx]
    exact bo_k hK1 (by decide) c1
  have e3 : K0 = 3 := by omega
  have e4 : K1 = 3 := by omega
  by_cases d1 : C1 = 0
  · have e1 : ¬ bo_Z K1 C1 = 0 := fun h => z1.mp h ⟨e4, d1⟩
    have e0 : bo_Z K0 C0 = 0 := by
      rcases Nat.eq_zero_or_pos (bo_Z K0 C0) with h | h
      · exact h
      · exact absurd ⟨by omega, e1⟩ zz
    refine ⟨2, pa_inf f s, Or.inr (by decide), ?_, ?_⟩
    · intro f_raised f_trapped f_below f_value f_power f_rest f_wish f_exact a_format a_bits a_kind a_minus a_coefficient a_exponent a_wide post d hd ef S0 S1 HD
      refine midX _ _ _ _ _ _ _ _ _ _ _ _ _ _ _ post d S0 S1 ?_
      refine br_f (nk0 _ S0.1) (br_f (nk1 _ S1.1) ?_)
      refine br_t (by rw [e0]; rfl) (br_f (nk1 _ S1.1) (br_t (by rw [S1.2.2.1, d1]; rfl) ?_))
      exact xw_infinite hd hf hs2 ef (fun u' h => HD u' h)
    · intro f_raised f_trapped f_more f_made a_format a_pattern a_kind a_exponent a_coefficient a_minus a_row post S0 S1 HO
      refine midY _ _ _ _ _ _ _ _ _ _ _ post S0 S1 ?_
      refine br_f (nk0 _ S0.1) ?_
      refine yw_isZero (k := 1) (by decide) hK1 t5 S1 ?_
      refine pk_eq (bo_Z K1 C1) 0 (fun h => absurd h e1) (fun _ => ?_)
      refine pa_winfY hf hs2 ?_
      refine br_f (nk0 _ S0.1) ?_
      exact HO _ ⟨rfl, rfl, rfl, rfl, rfl⟩ (Or.inr rfl)
  have e1 : bo_Z K1 C1 = 0 := z1.mpr (by omega)
  have hc1p : 0 < C1 := by omega
  have hc1m : C1 < 100000000 := by
    have := V1.2.2
    omega
  have nc1 : ∀ x : Int64, x = lN C1 → ¬ x = 0 := by
    intro x hx
    rw [hx, show (0 : Int64) = lN 0 from rfl, pk_lEQ (by omega) (by decide)]
    exact d1
  have hlay : 0 ≤ E0 - E1 + fm_P (fm_b f) ∧ (E0 - E1 + fm_P (fm_b f)).toNat ≤ 703 := by
    have v0 := V0.2.2
    have v1 := V1.2.2
    rcases hb with h | h
    · rw [h] at v0 v1 ⊢
      have : fm_P 2 = 450 := rfl
      omega
    · rw [h] at v0 v1 ⊢
      have : fm_P 10 = 230 := rfl
      omega
  have hNN : C0 * fm_b f ^ (E0 - E1 + fm_P (fm_b f)).toNat < fm_b f ^ 800 := by
    have v0 := V0.2.2
    have h3 : C0 < fm_b f ^ 24 := by
      rcases v0 with ⟨h, h4, _⟩ | ⟨h, h4, _⟩
      · rw [h]
        omega
      · rw [h]
        omega
    have h4 : C0 * fm_b f ^ (E0 - E1 + fm_P (fm_b f)).toNat < fm_b f ^ 24 * fm_b f ^ (E0 - E1 + fm_P (fm_b f)).toNat := Nat.mul_lt_mul_of_pos_right h3 (Nat.pow_pos b0)
    rw [← Nat.pow_add] at h4
    exact Nat.lt_of_lt_of_le h4 (dg_pow_le b0 (by omega))
  have lastY : ∀ fl pt : Int32, bt_YR f m s (C0 * fm_b f ^ (E0 - E1 + fm_P (fm_b f)).toNat / C1) (if C0 * fm_b f ^ (E0 - E1 + fm_P (fm_b f)).toNat % C1 = 0 then 0 else 1) (E0 - E1) fl pt → bo_Y2 wpY_quotient f m K0 M0 C0 K1 M1 C1 E0 E1 fl pt := by
    intro fl pt RY
    intro f_raised f_trapped f_more f_made a_format a_pattern a_kind a_exponent a_coefficient a_minus a_row post S0 S1 HO
    refine midY _ _ _ _ _ _ _ _ _ _ _ post S0 S1 ?_
    refine br_f (nk0 _ S0.1) ?_
    refine yw_isZero (k := 1) (by decide) hK1 t5 S1 ?_
    refine pk_eq (bo_Z K1 C1) 0 (fun _ => br_f (nk1 _ S1.1) ?_) (fun h => absurd e1 h)
    refine yw_base hf ?_
    refine nm_r (e' := zz_I (E0 - E1)) (by rw [S0.2.2.2, S1.2.2.2, zz_Isub]) ?_
    refine yw_clear ?_
    intro row1 hz1
    dsimp only
    rw [S0.2.2.1]
    refine yw_lay (o := 800) (j := (E0 - E1 + fm_P (fm_b f)).toNat) hb (by decide) q5 (by omega) (by omega) hNN (fun k hk => hz1 _ (by omega)) ?_
    intro row2 hr2 _
    dsimp only
    refine ⟨801, ?_⟩
    have h := yq_lp (post := post) (f := f) (s := s) (x4 := zz_I (E0 - E1)) (f_attribute := nI m) (f_raised := f_raised) (f_trapped := f_trapped) (f_made := f_made) (a_format := a_format) (a_pattern := a_pattern) (a_kind := a_kind) (a_exponent := a_exponent) (a_coefficient := a_coefficient) (a_minus := a_minus) (N := C0 * fm_b f ^ (E0 - E1 + fm_P (fm_b f)).toNat) hb hc1p hc1m S1.2.2.1 (fun row' mo hmo h1 h2 => by
      have emo : (if C0 * fm_b f ^ (E0 - E1 + fm_P (fm_b f)).toNat % C1 = 0 then 0 else 1) = mo := by
        by_cases hz : C0 * fm_b f ^ (E0 - E1 + fm_P (fm_b f)).toNat % C1 = 0
        · rw [if_pos hz]
          exact (h2.mpr hz).symm
        · rw [if_neg hz]
          have : ¬ mo = 0 := fun h => hz (h2.mp h)
          omega
      rw [emo] at RY
      exact RY _ _ _ _ _ _ _ _ _ _ _ h1 (fun u' g1 g2 => HO u' g1 g2)) 800 (by omega) 801 (by omega) 0 row2 hr2 (fun j h1 h2 => absurd h1 (by omega))
    rw [Nat.div_eq_of_lt hNN, Nat.zero_mod] at h
    exact h
  by_cases d0 : C0 = 0
  · have e0 : ¬ bo_Z K0 C0 = 0 := fun h => z0.mp h ⟨e3, d0⟩
    obtain ⟨pt, ok, RX, RY⟩ := bt_zero (m := m) (w := E0 - E1) hf hs2 (by omega)
    refine ⟨0, pt, ok, ?_, lastY 0 pt ?_⟩
    · intro f_raised f_trapped f_below f_value f_power f_rest f_wish f_exact a_format a_bits a_kind a_minus a_coefficient a_exponent a_wide post d hd ef S0 S1 HD
      refine midX _ _ _ _ _ _ _ _ _ _ _ _ _ _ _ post d S0 S1 ?_
      refine br_f (nk0 _ S0.1) (br_f (nk1 _ S1.1) ?_)
      rw [S0.2.2.2, S1.2.2.2, zz_Isub]
      refine br_f (fun h => e0 ((nI_eq (by omega) (by decide)).mp h)) ?_
      obtain ⟨z, _, hz⟩ := zz_Iof f_power
      subst hz
      exact RX z _ _ _ _ _ _ _ _ _ _ _ d hd ef (fun u' h => HD u' h)
    · rw [d0, Nat.zero_mul, Nat.zero_div, Nat.zero_mod, if_pos rfl]
      exact RY
  · have e0 : bo_Z K0 C0 = 0 := z0.mpr (by omega)
    obtain ⟨n, hn, _⟩ := dg_ex (b := fm_b f) b2 C0
    obtain ⟨hnw, haL, fl, pt, ok, RX, RY⟩ := bt_quot (m := m) (s := s) hf hm hs2 V0 V1 (by omega) hc1p hn
    refine ⟨fl, pt, ok, ?_, lastY fl pt RY⟩
    intro f_raised f_trapped f_below f_value f_power f_rest f_wish f_exact a_format a_bits a_kind a_minus a_coefficient a_exponent a_wide post d hd ef S0 S1 HD
    refine midX _ _ _ _ _ _ _ _ _ _ _ _ _ _ _ post d S0 S1 ?_
    refine br_f (nk0 _ S0.1) (br_f (nk1 _ S1.1) ?_)
    rw [S0.2.2.2, S1.2.2.2, zz_Isub]
    refine br_t (by rw [e0]; rfl) (br_f (nk1 _ S1.1) (br_f (nc1 _ S1.2.2.1) ⟨vp_in_nI hd (by decide), ?_⟩))
    rw [nI_clamp (show d < 2 ^ 31 by omega), ef, S0.2.2.1]
    refine xw_baseOf hf ?_
    refine xw_room hb q5 hn hnw ?_
    have hw : xr_w (fm_b f) < 62 := by rcases hb with h | h <;> rw [h] <;> decide
    refine xw_raise hb (by omega) ?_
    generalize hup : xr_w (fm_b f) - n = up at *
    refine nm_r (e' := lN (C0 * fm_b f ^ up)) (lN_mul _ _) ⟨nc1 _ S1.2.2.1, nm_r (e' := lN (C0 * fm_b f ^ up / C1)) (by rw [S1.2.2.1, pk_lDiv haL hc1p (by omega)]) ?_⟩
    have go : ∀ r : Nat, r < 2 → r = (if C0 * fm_b f ^ up % C1 = 0 then 0 else 1) → wX_divide_254 post (nI d) (nI up) (nI r) f_raised f_trapped (nI m) (nI s) (lN (C0 * fm_b f ^ up / C1)) f_power 0 (zz_I (E0 - E1)) f_exact a_format a_bits a_kind a_minus a_coefficient a_exponent a_wide := by
      intro r hr er
      refine And.intro (zz_nb hr) ⟨zz_fb hr, nm_r (e' := zz_I (E0 - E1 - (up : Int))) ?_ ?_⟩
      · rw [S0.2.2.2, S1.2.2.2, zz_nI, zz_Isub, zz_Isub]
        congr 1
        omega
      · rw [← er] at RX
        exact RX _ _ _ _ _ _ _ _ _ _ _ d hd ef (fun u' h => HD u' h)
    rw [S1.2.2.1, lN_mul]
    have hda := Nat.div_add_mod (C0 * fm_b f ^ up) C1
    rw [Nat.mul_comm] at hda
    generalize C0 * fm_b f ^ up = a at *
    have hle : a / C1 * C1 ≤ a := Nat.div_mul_le_self _ _
    refine zz_leqU (fun h => go 0 (by decide) ?_) (fun h => go 1 (by decide) ?_)
    · rw [if_pos]
      omega
    · rw [if_neg]
      omega
end
section
/-! remainders: the arithmetic, and the component -/
def re_r (X y : Nat) : Nat := if y < 2 * (X % y) ∨ (2 * (X % y) = y ∧ X / y % 2 = 1) then y - X % y else X % y
def re_s (M X y : Nat) : Nat := if y < 2 * (X % y) ∨ (2 * (X % y) = y ∧ X / y % 2 = 1) then 1 - M else M
theorem re_mod {X x y : Nat} (h : X % (2 * y) = x % (2 * y)) : X % y = x % y ∧ X / y % 2 = x / y % 2 := by
  rw [Nat.mul_comm] at h
  constructor
  · rw [← Nat.mod_mul_right_mod X y 2, h, Nat.mod_mul_right_mod]
  · rw [← Nat.mod_mul_right_div_self X y 2, h, Nat.mod_mul_right_div_self]
theorem re_r_mod {X x y : Nat} (h : X % (2 * y) = x % (2 * y)) : re_r X y = re_r x y := by
  obtain ⟨h1, h2⟩ := re_mod h
  unfold re_r
  rw [h1, h2]
theorem re_s_mod {M X x y : Nat} (h : X % (2 * y) = x % (2 * y)) : re_s M X y = re_s M x y := by
  obtain ⟨h1, h2⟩ := re_mod h
  unfold re_s
  rw [h1, h2]
theorem re_le (X y : Nat) : re_r X y ≤ X % y := by
  unfold re_r
  split <;> omega
theorem re_far {X y M : Nat} (h : 2 * X < y) : re_r X y = X ∧ re_s M X y = M := by
  have e : X % y = X := Nat.mod_eq_of_lt (by omega)
  unfold re_r re_s
  rw [e, if_neg (by omega), if_neg (by omega)]
  exact ⟨rfl, rfl⟩
theorem re_s0 {X y M : Nat} (h : re_r X y = 0) (hy : 0 < y) : re_s M X y = M := by
  unfold re_r at h
  unfold re_s
  have := Nat.mod_lt X hy
  split at h
  · omega
  · rename_i hn
    rw [if_neg hn]
theorem re_s_lt {X y M : Nat} (h : M < 2) : re_s M X y < 2 := by
  unfold re_s
  split <;> omega
section
variable {f_raised : Int32} {f_trapped : Int32} {f_mode : Int32} {f_value : Int64} {f_power : Int32} {f_rest : Int32} {f_wish : Int32} {f_exact : Int32} {a_format : Nat → Int32} {a_bits : Nat → Int32} {a_kind : Nat → Int32} {a_minus : Nat → Int32} {a_coefficient : Nat → Int64} {a_exponent : Nat → Int32} {a_wide : Nat → Int32} {post : SX → Prop}
theorem xr_201 {M s r : Nat} (hM : M < 2) (hr : r < 9223372036854775808) (e0 : a_minus 0 = nI M) (hs : r = 0 → s = M) (H : post (f_raised, f_trapped, f_mode, nI s, lN r, f_power, f_rest, f_wish, f_exact, a_format, a_bits, a_kind, a_minus, a_coefficient, a_exponent, a_wide)) : wX_reduce_201 post (lN r) f_raised f_trapped f_mode (nI s) f_value f_power f_rest f_wish f_exact a_format a_bits a_kind a_minus a_coefficient a_exponent a_wide := by
  refine zz_leq r 0 (fun h => nm_r e0 ⟨zz_nb hM, zz_fb hM, ?_⟩) (fun h => H)
  rw [hs h] at H
  exact H
theorem xr_l2 (z : Nat) : (2 : Int64) * lN z = lN (2 * z) := lN_mul 2 z
theorem xr_179 {M y R : Nat} (hM : M < 2) (hR : R < y) (hy2 : y < 4000000000000) (e0 : a_minus 0 = nI M) (H : post (f_raised, f_trapped, f_mode, nI (1 - M), lN (y - R), f_power, f_rest, f_wish, f_exact, a_format, a_bits, a_kind, a_minus, a_coefficient, a_exponent, a_wide)) : wX_reduce_179 post (lN y) (lN R) f_raised f_trapped f_mode (nI M) f_value f_power f_rest f_wish f_exact a_format a_bits a_kind a_minus a_coefficient a_exponent a_wide := by
  refine nm_r (e' := lN (y - R)) (lN_sub (by omega)) ?_
  refine pk_eq M 0 (fun h => ⟨rfl, rfl, ?_⟩) (fun h => ⟨rfl, rfl, ?_⟩)
  · have e : 1 - M = 1 := by omega
    rw [e] at H
    exact xr_201 (s := 1) hM (by omega) e0 (fun h => absurd h (by omega)) H
  · have e : 1 - M = 0 := by omega
    rw [e] at H
    exact xr_201 (s := 0) hM (by omega) e0 (fun h => absurd h (by omega)) H
theorem xr_152 {M y R odd : Nat} (hM : M < 2) (hR : R < y) (hy2 : y < 4000000000000) (ho : odd < 2) (e0 : a_minus 0 = nI M) (H : post (f_raised, f_trapped, f_mode, nI (if y < 2 * R ∨ (2 * R = y ∧ odd = 1) then 1 - M else M), lN (if y < 2 * R ∨ (2 * R = y ∧ odd = 1) then y - R else R), f_power, f_rest, f_wish, f_exact, a_format, a_bits, a_kind, a_minus, a_coefficient, a_exponent, a_wide)) : wX_reduce_152 post (lN y) (lN R) (nI odd) f_raised f_trapped f_mode (nI M) f_value f_power f_rest f_wish f_exact a_format a_bits a_kind a_minus a_coefficient a_exponent a_wide := by
  rw [wX_reduce_152, xr_l2]
  have hy : (y < 2 * R ∨ (2 * R = y ∧ odd = 1)) → wX_reduce_179 post (lN y) (lN R) f_raised f_trapped f_mode (nI M) f_value f_power f_rest f_wish f_exact a_format a_bits a_kind a_minus a_coefficient a_exponent a_wide := by
    intro h
    rw [if_pos h, if_pos h] at H
    exact xr_179 hM hR hy2 e0 H
  have hn : ¬ (y < 2 * R ∨ (2 * R = y ∧ odd = 1)) → wX_reduce_201 post (lN R) f_raised f_trapped f_mode (nI M) f_value f_power f_rest f_wish f_exact a_format a_bits a_kind a_minus a_coefficient a_exponent a_wide := by
    intro h
    rw [if_neg h, if_neg h] at H
    exact xr_201 hM (by omega) e0 (fun _ => rfl) H
  exact zz_lltU (fun h => hy (Or.inl h)) (fun h => zz_leqU (fun h2 => pk_eq odd 0 (fun h3 => hn (by omega)) (fun h3 => hy (by omega))) (fun h2 => hn (by omega)))
theorem xr_117 {M x y : Nat} (hM : M < 2) (hy : 0 < y) (hy2 : y < 4000000000000) (hx : x < 9223372036854775808) (e0 : a_minus 0 = nI M) (H : post (f_raised, f_trapped, f_mode, nI (re_s M x y), lN (re_r x y), f_power, f_rest, f_wish, f_exact, a_format, a_bits, a_kind, a_minus, a_coefficient, a_exponent, a_wide)) : wX_reduce_117 post (lN y) (lN x) f_raised f_trapped f_mode (nI M) f_value f_power f_rest f_wish f_exact a_format a_bits a_kind a_minus a_coefficient a_exponent a_wide := by
  have hz : x % (2 * y) < 2 * y := Nat.mod_lt _ (by omega)
  have e1 : x % (2 * y) = x % y + y * (x / y % 2) := by rw [Nat.mul_comm, Nat.mod_mul]
  have hR : x % y < y := Nat.mod_lt _ hy
  have ho : x / y % 2 < 2 := Nat.mod_lt _ (by decide)
  have n0 : ¬ lN (2 * y) = 0 := by
    rw [show (0 : Int64) = lN 0 from rfl, pk_lEQ (by omega) (by decide)]
    omega
  rw [wX_reduce_117, xr_l2]
  unfold re_s re_r at H
  refine ⟨n0, nm_r (e' := lN (x % (2 * y))) (pk_lRem hx (by omega) (by omega)) ?_⟩
  rw [e1]
  generalize x / y % 2 = odd at *
  generalize x % y = R at *
  rcases (show odd = 0 ∨ odd = 1 by omega) with h | h
  · subst h
    rw [Nat.mul_zero, Nat.add_zero]
    refine zz_lltU (fun _ => br_t rfl ?_) (fun h => absurd h (by omega))
    exact xr_152 (odd := 0) hM hR hy2 (by decide) e0 H
  · subst h
    rw [Nat.mul_one]
    refine zz_lltU (fun h => absurd h (by omega)) (fun _ => br_f (by decide) (nm_r (e' := lN R) ?_ ?_))
    · rw [lN_sub (by omega), Nat.add_sub_cancel]
    · exact xr_152 (odd := 1) hM hR hy2 (by decide) e0 H
theorem xr_91 {b M c y ap : Nat} (hb : b = 2 ∨ b = 10) (hM : M < 2) (hy : 0 < y) (hy2 : y < 100000000) (hap : ap < 100000) (e0 : a_minus 0 = nI M) (H : post (f_raised, f_trapped, f_mode, nI (re_s M (c * b ^ ap) y), lN (re_r (c * b ^ ap) y), f_power, f_rest, f_wish, f_exact, a_format, a_bits, a_kind, a_minus, a_coefficient, a_exponent, a_wide)) : ∀ j k x : Nat, k + j = ap → x < 1000000000 → x % (2 * y) = c * b ^ k % (2 * y) → ∀ n, j < n → wX_reduce_91 post (nI b) (lN y) (nI ap) f_raised f_trapped f_mode (nI M) f_value f_power f_rest f_wish f_exact a_format a_bits a_kind a_minus a_coefficient a_exponent a_wide n (lN x) (nI k) := by
  obtain ⟨b0, b2, b10, bb⟩ := yr_b hb
  have n0 : ¬ lN (2 * y) = 0 := by
    rw [show (0 : Int64) = lN 0 from rfl, pk_lEQ (by omega) (by decide)]
    omega
  intro j
  induction j with
  | zero =>
    intro k x hk hx hm n hn
    obtain ⟨n, rfl⟩ := yr_fuel hn
    have e : k = ap := by omega
    subst e
    refine br_t (nI_le (Nat.le_refl _) (by omega)) ?_
    rw [← re_s_mod hm, ← re_r_mod hm] at H
    exact xr_117 hM hy (by omega) (by omega) e0 H
  | succ j ih =>
    intro k x hk hx hm n hn
    obtain ⟨n, rfl⟩ := yr_fuel hn
    rw [wX_reduce_91, xr_l2]
    have hxb : x * b ≤ 1000000000 * 10 := Nat.mul_le_mul (by omega) b10
    have hz : x * b % (2 * y) < 2 * y := Nat.mod_lt _ (by omega)
    refine br_f (nI_ge (by omega) (by omega)) ⟨n0, nm_r (e' := lN (x * b % (2 * y))) ?_ (nm_r (nI_1 k) (ih (k + 1) _ (by omega) (by omega) ?_ n (by omega)))⟩
    · rw [nI_l bb, lN_mul, pk_lRem (by omega) (by omega) (by omega)]
    · rw [Nat.mod_mod, Nat.mul_mod, hm, ← Nat.mul_mod, Nat.pow_succ, Nat.mul_assoc]
theorem xr_45 {b M c y0 K : Nat} (hb : b = 2 ∨ b = 10) (hM : M < 2) (hy0 : 0 < y0) (hc : c < 20000000) (hK : K < 100000) (e0 : a_minus 0 = nI M) (H : post (f_raised, f_trapped, f_mode, nI (re_s M c (y0 * b ^ K)), lN (re_r c (y0 * b ^ K)), f_power, f_rest, f_wish, f_exact, a_format, a_bits, a_kind, a_minus, a_coefficient, a_exponent, a_wide)) (hfv : f_value = lN c) : ∀ j k : Nat, k + j = K → y0 * b ^ k < 10000000000 → ∀ n, j < n → wX_reduce_45 post (nI b) (lN c) f_raised f_trapped f_mode (nI M) f_value f_power f_rest f_wish f_exact a_format a_bits a_kind a_minus a_coefficient a_exponent a_wide n (lN (y0 * b ^ k)) (zz_I (-(j : Int))) := by
  obtain ⟨b0, b2, b10, bb⟩ := yr_b hb
  have far : ∀ k, k ≤ K → 1000000000 ≤ y0 * b ^ k → post (f_raised, f_trapped, f_mode, nI M, f_value, f_power, f_rest, f_wish, f_exact, a_format, a_bits, a_kind, a_minus, a_coefficient, a_exponent, a_wide) := by
    intro k hk hbig
    have h1 : y0 * b ^ k ≤ y0 * b ^ K := Nat.mul_le_mul_left _ (dg_pow_le b0 hk)
    obtain ⟨g1, g2⟩ := re_far (X := c) (y := y0 * b ^ K) (M := M) (by omega)
    rw [g1, g2, ← hfv] at H
    exact H
  intro j
  induction j with
  | zero =>
    intro k hk hyk n hn
    obtain ⟨n, rfl⟩ := yr_fuel hn
    have e : k = K := by omega
    subst e
    refine br_t (by decide) ?_
    refine zz_llt (y0 * b ^ k) 1000000000 (fun h => ?_) (fun h => far k (Nat.le_refl _) h)
    exact xr_117 hM (Nat.mul_pos hy0 (Nat.pow_pos b0)) (by omega) (by omega) e0 H
  | succ j ih =>
    intro k hk hyk n hn
    obtain ⟨n, rfl⟩ := yr_fuel hn
    refine zz_le 0 (-((j + 1 : Nat) : Int)) (fun h => absurd h (by omega)) (fun _ => zz_lle 1000000000 (y0 * b ^ k) (fun h => ?_) (fun h => ?_))
    · exact zz_llt (y0 * b ^ k) 1000000000 (fun h2 => absurd h2 (by omega)) (fun h2 => far k (by omega) h2)
    · have hxb : y0 * b ^ k * b ≤ y0 * b ^ k * 10 := Nat.mul_le_mul_left _ b10
      refine nm_r (e' := lN (y0 * b ^ (k + 1))) ?_ (nm_r (e' := zz_I (-(j : Int))) ?_ (ih (k + 1) (by omega) ?_ n (by omega)))
      · rw [nI_l bb, lN_mul, Nat.pow_succ, Nat.mul_assoc]
      · rw [zz_Ip1]
        congr 1
        omega
      · rw [Nat.pow_succ, ← Nat.mul_assoc]
        omega
/-- the component's reduce -/
theorem xw_reduce {b M0 C0 C1 : Nat} {E0 E1 : Int} (hb : b = 2 ∨ b = 10) (hM : M0 < 2) (hC0 : C0 < 20000000) (hC1 : 0 < C1) (hC1' : C1 < 20000000) (hE0 : -1000 < E0 ∧ E0 < 1000) (hE1 : -1000 < E1 ∧ E1 < 1000) (m0 : a_minus 0 = nI M0) (c1 : a_coefficient 1 = lN C1) (x0 : a_exponent 0 = zz_I E0) (x1 : a_exponent 1 = zz_I E1) (H : post (f_raised, f_trapped, f_mode, nI (re_s M0 (C0 * b ^ (E0 - (if E0 ≤ E1 then E0 else E1)).toNat) (C1 * b ^ (E1 - (if E0 ≤ E1 then E0 else E1)).toNat)), lN (re_r (C0 * b ^ (E0 - (if E0 ≤ E1 then E0 else E1)).toNat) (C1 * b ^ (E1 - (if E0 ≤ E1 then E0 else E1)).toNat)), zz_I (if E0 ≤ E1 then E0 else E1), f_rest, f_wish, f_exact, a_format, a_bits, a_kind, a_minus, a_coefficient, a_exponent, a_wide)) : wpX_reduce post (f_raised, f_trapped, f_mode, nI M0, lN C0, zz_I E0, f_rest, f_wish, f_exact, a_format, a_bits, a_kind, a_minus, a_coefficient, a_exponent, a_wide) (nI b) := by
  obtain ⟨b0, b2, b10, bb⟩ := yr_b hb
  refine nm_r c1 (nm_r (e' := zz_I (E0 - E1)) (by rw [x0, x1, zz_Isub]) ?_)
  refine zz_le 0 (E0 - E1) (fun h => nm_r x1 ?_) (fun h => zz_le (-30) (E0 - E1) (fun h2 => ?_) (fun h2 => ?_))
  · obtain ⟨ap, hap⟩ : ∃ ap : Nat, E0 = E1 + ap := ⟨(E0 - E1).toNat, by omega⟩
    have ee : (if E0 ≤ E1 then E0 else E1) = E1 := by
      split <;> omega
    have e1 : (E0 - E1).toNat = ap := by omega
    have e2 : (E1 - E1).toNat = 0 := by omega
    rw [ee, e1, e2, Nat.pow_zero, Nat.mul_one] at H
    have e3 : zz_I (E0 - E1) = nI ap := by
      rw [zz_nI]
      congr 1
      omega
    rw [e3]
    exact ⟨ap + 1, xr_91 hb hM hC1 (by omega) (by omega) m0 H ap 0 C0 (by omega) (by omega) (by rw [Nat.pow_zero, Nat.mul_one]) (ap + 1) (by omega)⟩
  · obtain ⟨K, hK⟩ : ∃ K : Nat, E1 = E0 + K := ⟨(E1 - E0).toNat, by omega⟩
    have ee : (if E0 ≤ E1 then E0 else E1) = E0 := by
      split <;> omega
    have e1 : (E1 - E0).toNat = K := by omega
    have e2 : (E0 - E0).toNat = 0 := by omega
    rw [ee, e1, e2, Nat.pow_zero, Nat.mul_one] at H
    have e3 : E0 - E1 = -(K : Int) := by omega
    rw [e3]
    refine ⟨K + 1, ?_⟩
    have h := xr_45 (y0 := C1) (K := K) hb hM hC1 hC0 (by omega) m0 H rfl K 0 (by omega) (by rw [Nat.pow_zero]; omega) (K + 1) (by omega)
    rw [Nat.pow_zero, Nat.mul_one] at h
    exact h
  · obtain ⟨K, hK⟩ : ∃ K : Nat, E1 = E0 + K := ⟨(E1 - E0).toNat, by omega⟩
    have ee : (if E0 ≤ E1 then E0 else E1) = E0 := by
      split <;> omega
    have e1 : (E1 - E0).toNat = K := by omega
    have e2 : (E0 - E0).toNat = 0 := by omega
    rw [ee, e1, e2, Nat.pow_zero, Nat.mul_one] at H
    have h31 : b ^ 31 ≤ b ^ K := dg_pow_le b0 (by omega)
    have h32 : (2 : Nat) ^ 31 ≤ b ^ 31 := Nat.pow_le_pow_left b2 31
    have h33 : b ^ K ≤ C1 * b ^ K := Nat.le_mul_of_pos_left _ hC1
    have h34 : (2 : Nat) ^ 31 = 2147483648 := by decide
    obtain ⟨g1, g2⟩ := re_far (X := C0) (y := C1 * b ^ K) (M := M0) (by omega)
    rw [g1, g2] at H
    exact H
end
end
section
/-! remainders: the reference, and both -/
theorem re_step {X y b : Nat} (hy : 0 < y) (hb : b = 2 ∨ b = 10) : X % y * b / y % 2 = X * b / y % 2 ∧ X % y * b % y = X * b % y := by
  have e := Nat.div_add_mod X y
  have e1 : X * b = y * (X / y * b) + X % y * b := by
    conv => lhs; rw [← e]
    rw [Nat.add_mul, Nat.mul_assoc]
  constructor
  · rw [e1, Nat.mul_add_div hy]
    generalize X % y * b / y = z
    rcases hb with rfl | rfl <;> omega
  · rw [e1, Nat.mul_add_mod]
section
variable {f_attribute : Int32} {f_raised : Int32} {f_trapped : Int32} {f_more : Int32} {f_made : Int32} {a_format : Nat → Int32} {a_pattern : Nat → Int32} {a_kind : Nat → Int32} {a_exponent : Nat → Int32} {a_coefficient : Nat → Int64} {a_minus : Nat → Int32} {a_row : Nat → Int32} {post : Int32 → SY → Prop}
theorem yr_163 {f b M c y ap : Nat} {e w : Int} (hb : b = 2 ∨ b = 10) (hM : M < 2) (hy : 0 < y) (hy2 : y < 10000000000000) (hap : ap < 100000) (he : -1000 < e ∧ e < 1000) (x0 : a_exponent 0 = zz_I (e + ap)) (H : wY_remainder_253 post (nI f) (nI b) (lN (re_r (c * b ^ ap) y)) (nI (re_s M (c * b ^ ap) y)) (zz_I e) (zz_I w) f_attribute f_raised f_trapped f_more f_made a_format a_pattern a_kind a_exponent a_coefficient a_minus a_row) : ∀ j k tm : Nat, k + j = ap → tm % 2 = c * b ^ k / y % 2 → tm < 9223372036854775808 → ∀ n, j < n → wY_remainder_163 post (nI f) (nI b) (nI M) (zz_I e) (zz_I w) (lN y) (zz_I e) f_attribute f_raised f_trapped f_more f_made a_format a_pattern a_kind a_exponent a_coefficient a_minus a_row n (lN (c * b ^ k % y)) (lN tm) (zz_I (e + k)) := by
  obtain ⟨b0, b2, b10, bb⟩ := yr_b hb
  have n0 : ¬ lN y = 0 := by
    rw [show (0 : Int64) = lN 0 from rfl, pk_lEQ (by omega) (by decide)]
    omega
  intro j
  induction j with
  | zero =>
    intro k tm hk htm htl n hn
    obtain ⟨n, rfl⟩ := yr_fuel hn
    have ek : k = ap := by omega
    subst ek
    have hR : c * b ^ k % y < y := Nat.mod_lt _ hy
    have erem : lN tm - lN tm / 2 * 2 = lN (tm % 2) := pk_lRem (b := 2) htl (by decide) (by decide)
    rw [wY_remainder_163]
    dsimp only
    rw [x0, xr_l2, erem, htm]
    unfold re_r re_s at H
    generalize c * b ^ k / y % 2 = odd at *
    generalize c * b ^ k % y = R at *
    have hyes : (y < 2 * R ∨ (2 * R = y ∧ odd = 1)) → wY_remainder_236 post (nI f) (nI b) (lN R) (nI M) (zz_I e) (zz_I w) (lN y) f_attribute f_raised f_trapped f_more f_made a_format a_pattern a_kind a_exponent a_coefficient a_minus a_row := by
      intro h
      rw [if_pos h, if_pos h] at H
      refine nm_r (e' := lN (y - R)) (lN_sub (by omega)) (pk_eq M 0 (fun h0 => ?_) (fun h0 => ?_))
      · have e : 1 - M = 1 := by omega
        rw [e] at H
        exact H
      · have e : 1 - M = 0 := by omega
        rw [e] at H
        exact H
    have hno : ¬ (y < 2 * R ∨ (2 * R = y ∧ odd = 1)) → wY_remainder_253 post (nI f) (nI b) (lN R) (nI M) (zz_I e) (zz_I w) f_attribute f_raised f_trapped f_more f_made a_format a_pattern a_kind a_exponent a_coefficient a_minus a_row := by
      intro h
      rw [if_neg h, if_neg h] at H
      exact H
    refine br_t (by rw [zz_Ile (by unfold zz_R; omega) (by unfold zz_R; omega)]; omega) (br_t rfl ?_)
    refine zz_lltU (fun h => hyes (Or.inl h)) (fun h => zz_leqU (fun h2 => ⟨by decide, ?_⟩) (fun h2 => hno (by omega)))
    by_cases ho : odd = 1
    · exact br_t (by rw [ho]; rfl) (hyes (Or.inr ⟨h2, ho⟩))
    · refine br_f ?_ (hno (by omega))
      rw [show (1 : Int64) = lN 1 from rfl, pk_lEQ (by omega) (by decide)]
      exact ho
  | succ j ih =>
    intro k tm hk htm htl n hn
    obtain ⟨n, rfl⟩ := yr_fuel hn
    have hR : c * b ^ k % y < y := Nat.mod_lt _ hy
    have hRb : c * b ^ k % y * b ≤ 10000000000000 * 10 := Nat.mul_le_mul (by omega) b10
    obtain ⟨s1, s2⟩ := re_step (X := c * b ^ k) hy hb
    have ep : c * b ^ k * b = c * b ^ (k + 1) := by rw [Nat.pow_succ, Nat.mul_assoc]
    rw [ep] at s1 s2
    have hq : c * b ^ k % y * b / y ≤ c * b ^ k % y * b := Nat.div_le_self _ _
    rw [wY_remainder_163, x0]
    refine zz_leU (fun h => absurd h (by omega)) (fun _ => nm_r (e' := lN (c * b ^ k % y * b)) (by rw [nI_l bb, lN_mul]) ⟨n0, nm_r (e' := lN (c * b ^ k % y * b / y)) (pk_lDiv (by omega) hy (by omega)) ⟨n0, nm_r (e' := lN (c * b ^ (k + 1) % y)) ?_ (nm_r (e' := zz_I (e + ((k + 1 : Nat) : Int))) ?_ (ih (k + 1) _ (by omega) s1 (by omega) n (by omega)))⟩⟩)
    · rw [pk_lRem (by omega) hy (by omega), s2]
    · rw [zz_Ip1]
      congr 1
      omega
theorem yr_101 {f b M c y0 K ap : Nat} {e w : Int} (hb : b = 2 ∨ b = 10) (hM : M < 2) (hy0 : 0 < y0) (hc : c < 20000000) (hK : K < 100000) (hap : ap < 100000) (hKap : 0 < K → ap = 0) (he : -1000 < e ∧ e < 1000) (x0 : a_exponent 0 = zz_I (e + ap)) (H : wY_remainder_253 post (nI f) (nI b) (lN (re_r (c * b ^ ap) (y0 * b ^ K))) (nI (re_s M (c * b ^ ap) (y0 * b ^ K))) (zz_I e) (zz_I w) f_attribute f_raised f_trapped f_more f_made a_format a_pattern a_kind a_exponent a_coefficient a_minus a_row) : ∀ j k : Nat, k + j = K → y0 * b ^ k < 10000000000000 → ∀ n, j < n → wY_remainder_101 post (nI f) (nI b) (lN c) (nI M) (zz_I e) (zz_I w) f_attribute f_raised f_trapped f_more f_made a_format a_pattern a_kind a_exponent a_coefficient a_minus a_row n (lN (y0 * b ^ k)) (zz_I (e + j)) := by
  obtain ⟨b0, b2, b10, bb⟩ := yr_b hb
  intro j
  induction j with
  | zero =>
    intro k hk hyk n hn
    obtain ⟨n, rfl⟩ := yr_fuel hn
    have ek : k = K := by omega
    subst ek
    have hyp : 0 < y0 * b ^ k := Nat.mul_pos hy0 (Nat.pow_pos b0)
    have n0 : ¬ lN (y0 * b ^ k) = 0 := by
      rw [show (0 : Int64) = lN 0 from rfl, pk_lEQ (by omega) (by decide)]
      omega
    have e0 : e + ((0 : Nat) : Int) = e := by omega
    rw [e0]
    have hle : zz_I e ≤ zz_I e := by
      rw [zz_Ile (by unfold zz_R; omega) (by unfold zz_R; omega)]
      omega
    have hq : c / (y0 * b ^ k) ≤ c := Nat.div_le_self _ _
    refine br_t hle (br_t hle ⟨n0, br_t rfl ⟨n0, nm_r (e' := lN (c * b ^ 0 % (y0 * b ^ k))) ?_ ⟨ap + 1, ?_⟩⟩⟩)
    · rw [pk_lRem (by omega) hyp (by omega), Nat.pow_zero, Nat.mul_one]
    · rw [pk_lDiv (by omega) hyp (by omega)]
      have h := yr_163 (c := c) (ap := ap) hb hM hyp hyk hap he x0 H ap 0 (c / (y0 * b ^ k)) (by omega) (by rw [Nat.pow_zero, Nat.mul_one]) (by omega) (ap + 1) (by omega)
      rw [e0] at h
      exact h
  | succ j ih =>
    intro k hk hyk n hn
    obtain ⟨n, rfl⟩ := yr_fuel hn
    have ap0 : ap = 0 := hKap (by omega)
    have nle : ¬ zz_I (e + ((j + 1 : Nat) : Int)) ≤ zz_I e := by
      rw [zz_Ile (by unfold zz_R; omega) (by unfold zz_R; omega)]
      omega
    have neq : ¬ zz_I (e + ((j + 1 : Nat) : Int)) = zz_I e := by
      rw [zz_Ieq (by unfold zz_R; omega) (by unfold zz_R; omega)]
      omega
    refine br_f nle (zz_lle 1000000000000 (y0 * b ^ k) (fun h => ?_) (fun h => ?_))
    · have h1 : y0 * b ^ k ≤ y0 * b ^ K := Nat.mul_le_mul_left _ (dg_pow_le b0 (by omega))
      rw [ap0, Nat.pow_zero, Nat.mul_one] at H
      obtain ⟨g1, g2⟩ := re_far (X := c) (y := y0 * b ^ K) (M := M) (by omega)
      rw [g1, g2] at H
      refine br_f nle (br_f neq ⟨1, ?_⟩)
      refine br_t ?_ (br_f neq H)
      rw [x0, ap0, zz_Ile (by unfold zz_R; omega) (by unfold zz_R; omega)]
      omega
    · have hxb : y0 * b ^ k * b ≤ y0 * b ^ k * 10 := Nat.mul_le_mul_left _ b10
      refine nm_r (e' := lN (y0 * b ^ (k + 1))) ?_ (nm_r (e' := zz_I (e + j)) ?_ (ih (k + 1) (by omega) ?_ n (by omega)))
      · rw [nI_l bb, lN_mul, Nat.pow_succ, Nat.mul_assoc]
      · rw [zz_Id1]
        congr 1
        omega
      · rw [Nat.pow_succ, ← Nat.mul_assoc]
        omega
theorem yr_253 {f m M0 sg r : Nat} {e w : Int} {fl pt : Int32} (hf : f < 4) (hM : M0 < 2) (V : sm_V (fm_b f) r e) (m0 : a_minus 0 = nI M0) (R : bt_YR f m (if r = 0 then M0 else sg) (sm_N (fm_b f) r e) 0 w fl pt) (HO : ys_O post f_raised f_trapped (nI m) a_format a_pattern fl pt) : wY_remainder_253 post (nI f) (nI (fm_b f)) (lN r) (nI sg) (zz_I e) (zz_I w) (nI m) f_raised f_trapped f_more f_made a_format a_pattern a_kind a_exponent a_coefficient a_minus a_row := by
  obtain ⟨hb, q1, q2, q3, q4, q5⟩ := sm_Vb V
  obtain ⟨l0, g0⟩ := sm_N_lt V
  rw [wY_remainder_253]
  refine yw_clear ?_
  intro row1 hz1
  dsimp only
  refine yw_clay hb q5 q1 g0 (sm_799 hb l0) hz1 ?_
  intro row2 hr2 _
  dsimp only
  refine zz_leq r 0 (fun h => ?_) (fun h => ?_)
  · rw [if_pos h] at R
    rw [m0]
    exact R _ _ _ _ _ _ _ _ _ _ _ hr2 (fun u' h1 h2 => HO u' h1 h2)
  · rw [if_neg h] at R
    exact R _ _ _ _ _ _ _ _ _ _ _ hr2 (fun u' h1 h2 => HO u' h1 h2)
end
theorem bo_rem {f m K0 M0 C0 K1 M1 C1 : Nat} {E0 E1 : Int} (hf : f < 4) (hm : m < 5) (V0 : op_V (fm_b f) K0 M0 C0 E0) (V1 : op_V (fm_b f) K1 M1 C1 E1) (k0 : K0 = 2 ∨ K0 = 3) (k1 : K1 = 2 ∨ K1 = 3) : ∃ fl pt : Int32, bt_ok f fl pt ∧ bo_X2 wpX_remainder f m K0 M0 C0 K1 M1 C1 E0 E1 fl pt ∧ bo_Y2 wpY_remainder f m K0 M0 C0 K1 M1 C1 E0 E1 fl pt := by
  obtain ⟨hK0, hM0, v0⟩ := id V0
  obtain ⟨hK1, hM1, v1⟩ := id V1
  obtain ⟨hb, q1, q2, q3, q4, q5⟩ := sm_Vb (op_Vs V0)
  obtain ⟨_, t1, t2, t3, t4, t5⟩ := sm_Vb (op_Vs V1)
  obtain ⟨b0, b2, b10, bb⟩ := yr_b hb
  have Z1 := bo_Z_lt K1 C1
  have z1 : bo_Z K1 C1 = 0 ↔ ¬ (K1 = 3 ∧ C1 = 0) := by
    unfold bo_Z
    split <;> simp_all
  by_cases inv : K0 = 2 ∨ ¬ bo_Z K1 C1 = 0
  · refine ⟨1, pa_nan f, Or.inl ⟨rfl, rfl⟩, ?_, ?_⟩
    · intro f_raised f_trapped f_below f_value f_power f_rest f_wish f_exact a_format a_bits a_kind a_minus a_coefficient a_exponent a_wide post d hd ef S0 S1 HD
      have h20 : wX_remainder_20 post (nI d) f_raised f_trapped (nI m) f_below f_value f_power f_rest f_wish f_exact a_format a_bits a_kind a_minus a_coefficient a_exponent a_wide := xw_invalid hd hf ef (fun u' h => HD u' h)
      unfold wpX_remainder
      dsimp only
      refine xw_isZero (k := 1) (by decide) hK1 t5 S1 ?_
      rw [S0.1]
      exact pk_eq K0 2 (fun _ => h20) (fun h => pk_eq (bo_Z K1 C1) 0 (fun h2 => absurd inv (by omega)) (fun _ => h20))
    · intro f_raised f_trapped f_more f_made a_format a_pattern a_kind a_exponent a_coefficient a_minus a_row post S0 S1 HO
      have hp := HO (nI m, f_raised, f_trapped, f_more, f_made, a_format, a_pattern, a_kind, a_exponent, a_coefficient, a_minus, a_row) ⟨rfl, rfl, rfl, rfl, rfl⟩ (Or.inl rfl)
      unfold wpY_remainder
      dsimp only
      rw [S0.1]
      refine pk_eq K0 2 (fun _ => hp) (fun h => ?_)
      refine yw_isZero (k := 1) (by decide) hK1 t5 S1 ?_
      exact pk_eq (bo_Z K1 C1) 0 (fun h2 => absurd inv (by omega)) (fun _ => hp)
  have e0 : K0 = 3 := by omega
  have e1 : bo_Z K1 C1 = 0 := by omega
  have headX : ∀ (f_raised : Int32) (f_trapped : Int32) (f_below : Int32) (f_value : Int64) (f_power : Int32) (f_rest : Int32) (f_wish : Int32) (f_exact : Int32) (a_format : Nat → Int32) (a_bits : Nat → Int32) (a_kind : Nat → Int32) (a_minus : Nat → Int32) (a_coefficient : Nat → Int64) (a_exponent : Nat → Int32) (a_wide : Nat → Int32) (post : Int32 → SX → Prop) (d : Nat), op_Sl a_kind a_minus a_coefficient a_exponent 0 K0 M0 C0 E0 → op_Sl a_kind a_minus a_coefficient a_exponent 1 K1 M1 C1 E1 → (K1 = 2 → wpX_round (fun r u => post r u) (f_raised, f_trapped, nI m, nI M0, lN C0, zz_I E0, 0, zz_I E0, f_exact, a_format, a_bits, a_kind, a_minus, a_coefficient, a_exponent, a_wide) (nI d) 0) → (¬ K1 = 2 → wX_remainder_79 post (nI d) f_raised f_trapped (nI m) (nI M0) (lN C0) (zz_I E0) 0 (zz_I (if E0 ≤ E1 then E0 else E1)) f_exact a_format a_bits a_kind a_minus a_coefficient a_exponent a_wide) → wpX_remainder post (f_raised, f_trapped, nI m, f_below, f_value, f_power, f_rest, f_wish, f_exact, a_format, a_bits, a_kind, a_minus, a_coefficient, a_exponent, a_wide) (nI d) := by
    intro f_raised f_trapped f_below f_value f_power f_rest f_wish f_exact a_format a_bits a_kind a_minus a_coefficient a_exponent a_wide post d S0 S1 G1 G2
    unfold wpX_remainder
    dsimp only
    refine xw_isZero (k := 1) (by decide) hK1 t5 S1 ?_
    rw [S0.1]
    refine pk_eq K0 2 (fun h => absurd h (by omega)) (fun _ => pk_eq (bo_Z K1 C1) 0 (fun _ => ?_) (fun h => absurd e1 h))
    refine xw_take (k := 0) (by decide) hM0 S0 ?_
    dsimp only
    rw [S1.1, S1.2.2.2]
    refine pk_eq K1 2 (fun h => G1 h) (fun h => zz_leU (fun h2 => ?_) (fun h2 => nm_e ?_))
    · have g := G2 h
      rw [if_pos h2] at g
      exact g
    · have g := G2 h
      rw [if_neg (by omega)] at g
      exact g
  by_cases c1 : K1 = 2
  · obtain ⟨fl, pt, ok, RX, RY⟩ := bt_exactN (m := m) (s := M0) (w := E0) hf hm hM0 (by omega) (op_Vs V0)
    refine ⟨fl, pt, ok, ?_, ?_⟩
    · intro f_raised f_trapped f_below f_value f_power f_rest f_wish f_exact a_format a_bits a_kind a_minus a_coefficient a_exponent a_wide post d hd ef S0 S1 HD
      refine headX _ _ _ _ _ _ _ _ _ _ _ _ _ _ _ post d S0 S1 (fun _ => ?_) (fun h => absurd c1 h)
      exact RX _ _ _ _ _ _ _ _ _ _ _ d hd ef (fun u' h => HD u' h)
    · intro f_raised f_trapped f_more f_made a_format a_pattern a_kind a_exponent a_coefficient a_minus a_row post S0 S1 HO
      unfold wpY_remainder
      dsimp only
      rw [S0.1]
      refine pk_eq K0 2 (fun h => absurd h (by omega)) (fun h => ?_)
      refine yw_isZero (k := 1) (by decide) hK1 t5 S1 ?_
      refine pk_eq (bo_Z K1 C1) 0 (fun h2 => ?_) (fun h => absurd e1 h)
      refine yw_base hf ?_
      refine nm_r S0.2.2.1 (nm_r S0.2.1 (nm_r S0.2.2.2 ?_))
      rw [S1.1]
      refine pk_eq K1 3 (fun h => absurd h (by omega)) (fun _ => ?_)
      refine yr_253 hf hM0 (op_Vs V0) S0.2.1 ?_ HO
      have es : (if C0 = 0 then M0 else M0) = M0 := by split <;> rfl
      rw [es]
      exact RY
  have e4 : K1 = 3 := by omega
  have hC1 : 0 < C1 := by
    have := z1.mp e1
    omega
  generalize hee : (if E0 ≤ E1 then E0 else E1) = e at *
  have he : e ≤ E0 ∧ e ≤ E1 ∧ (e = E0 ∨ e = E1) := by
    rw [← hee]
    split <;> omega
  have hX : C0 * fm_b f ^ (E0 - e).toNat = C0 * fm_b f ^ (E0 - e).toNat := rfl
  have hrle := re_le (C0 * fm_b f ^ (E0 - e).toNat) (C1 * fm_b f ^ (E1 - e).toNat)
  have hYp : 0 < C1 * fm_b f ^ (E1 - e).toNat := Nat.mul_pos hC1 (Nat.pow_pos b0)
  have hrb : re_r (C0 * fm_b f ^ (E0 - e).toNat) (C1 * fm_b f ^ (E1 - e).toNat) ≤ C0 ∨ re_r (C0 * fm_b f ^ (E0 - e).toNat) (C1 * fm_b f ^ (E1 - e).toNat) ≤ C1 := by
    rcases he.2.2 with h | h
    · left
      have e2 : (E0 - e).toNat = 0 := by omega
      rw [e2, Nat.pow_zero, Nat.mul_one] at hrle ⊢
      exact Nat.le_trans hrle (Nat.mod_le _ _)
    · right
      have e2 : (E1 - e).toNat = 0 := by omega
      rw [e2, Nat.pow_zero, Nat.mul_one] at hrle ⊢
      have := Nat.mod_lt (C0 * fm_b f ^ (E0 - e).toNat) hC1
      omega
  have VR : sm_V (fm_b f) (re_r (C0 * fm_b f ^ (E0 - e).toNat) (C1 * fm_b f ^ (E1 - e).toNat)) e := by
    unfold sm_V
    generalize re_r (C0 * fm_b f ^ (E0 - e).toNat) (C1 * fm_b f ^ (E1 - e).toNat) = rr at *
    omega
  have es : (if re_r (C0 * fm_b f ^ (E0 - e).toNat) (C1 * fm_b f ^ (E1 - e).toNat) = 0 then M0 else re_s M0 (C0 * fm_b f ^ (E0 - e).toNat) (C1 * fm_b f ^ (E1 - e).toNat)) = re_s M0 (C0 * fm_b f ^ (E0 - e).toNat) (C1 * fm_b f ^ (E1 - e).toNat) := by
    split
    · rename_i h
      exact (re_s0 h hYp).symm
    · rfl
  have lastY : ∀ fl pt : Int32, bt_YR f m (re_s M0 (C0 * fm_b f ^ (E0 - e).toNat) (C1 * fm_b f ^ (E1 - e).toNat)) (sm_N (fm_b f) (re_r (C0 * fm_b f ^ (E0 - e).toNat) (C1 * fm_b f ^ (E1 - e).toNat)) e) 0 e fl pt → bo_Y2 wpY_remainder f m K0 M0 C0 K1 M1 C1 E0 E1 fl pt := by
    intro fl pt RY
    intro f_raised f_trapped f_more f_made a_format a_pattern a_kind a_exponent a_coefficient a_minus a_row post S0 S1 HO
    have h81 : wY_remainder_81 post (nI f) (nI (fm_b f)) (lN C0) (nI M0) (zz_I e) (nI m) f_raised f_trapped f_more f_made a_format a_pattern a_kind a_exponent a_coefficient a_minus a_row := by
      refine nm_r S1.2.2.1 (nm_r S1.2.2.2 ⟨(E1 - e).toNat + 1, ?_⟩)
      have h253 : wY_remainder_253 post (nI f) (nI (fm_b f)) (lN (re_r (C0 * fm_b f ^ (E0 - e).toNat) (C1 * fm_b f ^ (E1 - e).toNat))) (nI (re_s M0 (C0 * fm_b f ^ (E0 - e).toNat) (C1 * fm_b f ^ (E1 - e).toNat))) (zz_I e) (zz_I e) (nI m) f_raised f_trapped f_more f_made a_format a_pattern a_kind a_exponent a_coefficient a_minus a_row := by
        refine yr_253 hf hM0 VR S0.2.1 ?_ HO
        rw [es]
        exact RY
      have x0 : a_exponent 0 = zz_I (e + ((E0 - e).toNat : Int)) := by
        rw [S0.2.2.2]
        congr 1
        omega
      have h := yr_101 (c := C0) (y0 := C1) (K := (E1 - e).toNat) (ap := (E0 - e).toNat) hb hM0 hC1 (by omega) (by omega) (by omega) (by omega) (by omega) x0 h253 (E1 - e).toNat 0 (by omega) (by rw [Nat.pow_zero]; omega) ((E1 - e).toNat + 1) (by omega)
      have ex1 : e + ((E1 - e).toNat : Int) = E1 := by omega
      rw [Nat.pow_zero, Nat.mul_one, ex1] at h
      exact h
    unfold wpY_remainder
    dsimp only
    rw [S0.1]
    refine pk_eq K0 2 (fun h => absurd h (by omega)) (fun h => ?_)
    refine yw_isZero (k := 1) (by decide) hK1 t5 S1 ?_
    refine pk_eq (bo_Z K1 C1) 0 (fun h2 => ?_) (fun h => absurd e1 h)
    refine yw_base hf ?_
    refine nm_r S0.2.2.1 (nm_r S0.2.1 (nm_r S0.2.2.2 ?_))
    rw [S1.1, S1.2.2.2]
    refine pk_eq K1 3 (fun _ => zz_leU (fun h5 => ?_) (fun h5 => nm_e ?_)) (fun h => absurd e4 h)
    · rw [if_pos h5] at hee
      rw [hee]
      exact h81
    · rw [if_neg (by omega)] at hee
      rw [hee]
      exact h81
  by_cases d0 : C0 = 0
  · obtain ⟨pt, ok, RX, RY⟩ := bt_zero (m := m) (s := M0) (w := e) hf hM0 (by omega)
    refine ⟨0, pt, ok, ?_, lastY 0 pt ?_⟩
    · intro f_raised f_trapped f_below f_value f_power f_rest f_wish f_exact a_format a_bits a_kind a_minus a_coefficient a_exponent a_wide post d hd ef S0 S1 HD
      refine headX _ _ _ _ _ _ _ _ _ _ _ _ _ _ _ post d S0 S1 (fun h => absurd h c1) (fun _ => ?_)
      refine zz_lle C0 0 (fun _ => ?_) (fun h => absurd h (by omega))
      rw [d0]
      exact RX E0 _ _ _ _ _ _ _ _ _ _ _ d hd ef (fun u' h => HD u' h)
    · have z : re_r (C0 * fm_b f ^ (E0 - e).toNat) (C1 * fm_b f ^ (E1 - e).toNat) = 0 := by
        rw [d0, Nat.zero_mul, Nat.zero_mod] at hrle
        rw [d0, Nat.zero_mul]
        omega
      rw [re_s0 z hYp, z]
      unfold sm_N
      rw [Nat.zero_mul]
      exact RY
  · obtain ⟨fl, pt, ok, RX, RY⟩ := bt_exactN (m := m) (s := re_s M0 (C0 * fm_b f ^ (E0 - e).toNat) (C1 * fm_b f ^ (E1 - e).toNat)) (w := e) hf hm (re_s_lt hM0) (by omega) VR
    refine ⟨fl, pt, ok, ?_, lastY fl pt RY⟩
    intro f_raised f_trapped f_below f_value f_power f_rest f_wish f_exact a_format a_bits a_kind a_minus a_coefficient a_exponent a_wide post d hd ef S0 S1 HD
    refine headX _ _ _ _ _ _ _ _ _ _ _ _ _ _ _ post d S0 S1 (fun h => absurd h c1) (fun _ => ?_)
    refine zz_lle C0 0 (fun h => absurd h (by omega)) (fun _ => ⟨vp_in_nI hd (by decide), ?_⟩)
    rw [nI_clamp (show d < 2 ^ 31 by omega), ef]
    refine xw_baseOf hf ?_
    refine xw_reduce hb hM0 (by omega) hC1 (by omega) (by omega) (by omega) S0.2.1 S1.2.2.1 S0.2.2.2 S1.2.2.2 ?_
    rw [hee]
    exact RX _ _ _ _ _ _ _ _ _ _ _ d hd ef (fun u' h => HD u' h)
end
section
/-! quantize -/
theorem bo_quan {f m K0 M0 C0 K1 M1 C1 : Nat} {E0 E1 : Int} (hf2 : f = 2 ∨ f = 3) (hm : m < 5) (V0 : op_V (fm_b f) K0 M0 C0 E0) (V1 : op_V (fm_b f) K1 M1 C1 E1) (k0 : K0 = 2 ∨ K0 = 3) (k1 : K1 = 2 ∨ K1 = 3) : ∃ fl pt : Int32, bt_ok f fl pt ∧ bo_X2 wpX_quantize f m K0 M0 C0 K1 M1 C1 E0 E1 fl pt ∧ bo_Y2 wpY_quantized f m K0 M0 C0 K1 M1 C1 E0 E1 fl pt := by
  have hf : f < 4 := by omega
  obtain ⟨hK0, hM0, v0⟩ := id V0
  obtain ⟨hK1, hM1, v1⟩ := id V1
  obtain ⟨hb, q1, q2, q3, q4, q5⟩ := sm_Vb (op_Vs V0)
  obtain ⟨l0, g0⟩ := sm_N_lt (op_Vs V0)
  have eb : fm_b f = 10 := by rcases hf2 with h | h <;> rw [h] <;> rfl
  have ep : fm_p f = 7 := by rcases hf2 with h | h <;> rw [h] <;> rfl
  rw [eb] at v0 v1 q1 q4 l0 g0
  have hP : fm_P 10 = 230 := rfl
  have infi : ∀ (f_raised : Int32) (f_trapped : Int32) (f_below : Int32) (f_value : Int64) (f_power : Int32) (f_rest : Int32) (f_wish : Int32) (f_exact : Int32) (a_format : Nat → Int32) (a_bits : Nat → Int32) (a_kind : Nat → Int32) (a_minus : Nat → Int32) (a_coefficient : Nat → Int64) (a_exponent : Nat → Int32) (a_wide : Nat → Int32) (post : Int32 → SX → Prop) (d : Nat), d < 8 → a_format d = nI f → op_Sl a_kind a_minus a_coefficient a_exponent 0 K0 M0 C0 E0 → op_Sl a_kind a_minus a_coefficient a_exponent 1 K1 M1 C1 E1 → (K0 = 2 ∧ K1 = 2 → xs_D post f_raised f_trapped (nI m) a_format a_bits d 0 (pa_inf f M0)) → (¬ (K0 = 2 ↔ K1 = 2) → xs_D post f_raised f_trapped (nI m) a_format a_bits d 1 (pa_nan f)) → (¬ K0 = 2 → ¬ K1 = 2 → wpX_whole (fun r_38 u => match u with | (f_raised, f_trapped, f_mode, f_below, f_value, f_power, f_rest, f_wish, f_exact, a_format, a_bits, a_kind, a_minus, a_coefficient, a_exponent, a_wide) => (((r_38 ≤ 9999999 → (vp_in (nI d) 8 ∧ (wpX_pack (fun r_57 => (((f_exact = 0 → (wX_quantize_132 post r_57 16 (nI d) f_raised f_trapped f_mode f_below f_value f_power f_rest f_wish f_exact a_format a_bits a_kind a_minus a_coefficient a_exponent a_wide)) ∧ (¬ f_exact = 0 → (wX_quantize_132 post r_57 0 (nI d) f_raised f_trapped f_mode f_below f_value f_power f_rest f_wish f_exact a_format a_bits a_kind a_minus a_coefficient a_exponent a_wide))))) (a_format (nI d).toNatClampNeg) f_below r_38 (a_exponent 1)))) ∧ (¬ r_38 ≤ 9999999 → (wpX_invalid (fun r u => post r u) (f_raised, f_trapped, f_mode, f_below, f_value, f_power, f_rest, f_wish, f_exact, a_format, a_bits, a_kind, a_minus, a_coefficient, a_exponent, a_wide) (nI d)))))) (f_raised, f_trapped, nI m, nI M0, lN C0, zz_I E0, 0, f_wish, f_exact, a_format, a_bits, a_kind, a_minus, a_coefficient, a_exponent, a_wide) 10 (zz_I E1) (nI m)) → wpX_quantize post (f_raised, f_trapped, nI m, f_below, f_value, f_power, f_rest, f_wish, f_exact, a_format, a_bits, a_kind, a_minus, a_coefficient, a_exponent, a_wide) (nI d) := by
    intro f_raised f_trapped f_below f_value f_power f_rest f_wish f_exact a_format a_bits a_kind a_minus a_coefficient a_exponent a_wide post d hd ef S0 S1 G1 G2 G3
    have h33 : ¬ (K0 = 2 ∧ K1 = 2) → wX_quantize_33 post (nI d) f_raised f_trapped (nI m) f_below f_value f_power f_rest f_wish f_exact a_format a_bits a_kind a_minus a_coefficient a_exponent a_wide := by
      intro hn
      rw [wX_quantize_33, S0.1, S1.1]
      refine pk_eq K0 2 (fun h => ?_) (fun h => pk_eq K1 2 (fun h2 => ?_) (fun h2 => ?_))
      · exact xw_invalid hd hf ef (fun u' h2 => G2 (fun hh => hn ⟨h, hh.mp h⟩) u' h2)
      · exact xw_invalid hd hf ef (fun u' h3 => G2 (fun hh => h (hh.mpr h2)) u' h3)
      · refine xw_take (k := 0) (by decide) hM0 S0 ?_
        dsimp only
        rw [S1.2.2.2]
        exact G3 h h2
    unfold wpX_quantize
    dsimp only
    rw [S0.1, S1.1, S0.2.1]
    refine pk_eq K0 2 (fun h => pk_eq K1 2 (fun h2 => ?_) (fun h2 => h33 (fun hh => h2 hh.2))) (fun h => h33 (fun hh => h hh.1))
    exact xw_infinite hd hf hM0 ef (fun u' h3 => G1 ⟨h, h2⟩ u' h3)
  have headY : ∀ (f_raised : Int32) (f_trapped : Int32) (f_more : Int32) (f_made : Int32) (a_format : Nat → Int32) (a_pattern : Nat → Int32) (a_kind : Nat → Int32) (a_exponent : Nat → Int32) (a_coefficient : Nat → Int64) (a_minus : Nat → Int32) (a_row : Nat → Int32) (post : Int32 → SY → Prop), op_Sl a_kind a_minus a_coefficient a_exponent 0 K0 M0 C0 E0 → op_Sl a_kind a_minus a_coefficient a_exponent 1 K1 M1 C1 E1 → (K0 = 2 ∧ K1 = 2 → post 0 (nI m, f_raised, f_trapped, f_more, pa_inf f M0, a_format, a_pattern, a_kind, a_exponent, a_coefficient, a_minus, a_row)) → (¬ (K0 = 2 ↔ K1 = 2) → post 1 (nI m, f_raised, f_trapped, f_more, f_made, a_format, a_pattern, a_kind, a_exponent, a_coefficient, a_minus, a_row)) → (¬ K0 = 2 → ¬ K1 = 2 → wY_quantized_32 post (nI f) 0 0 0 (nI m) f_raised f_trapped f_more f_made a_format a_pattern a_kind a_exponent a_coefficient a_minus a_row) → wpY_quantized post (nI m, f_raised, f_trapped, f_more, f_made, a_format, a_pattern, a_kind, a_exponent, a_coefficient, a_minus, a_row) (nI f) := by
    intro f_raised f_trapped f_more f_made a_format a_pattern a_kind a_exponent a_coefficient a_minus a_row post S0 S1 G1 G2 G3
    unfold wpY_quantized
    dsimp only
    rw [S0.1]
    refine pk_eq K0 2 (fun h => ?_) (fun h => ?_)
    · rw [wY_quantized_15, S1.1]
      refine pk_eq K1 2 (fun h2 => br_t rfl (br_f (by decide) ?_)) (fun h2 => br_f (by decide) ?_)
      · rw [S0.2.1]
        exact pa_winfY hf hM0 (G1 ⟨h, h2⟩)
      · exact G2 (fun hh => h2 (hh.mp h))
    · rw [wY_quantized_15, S1.1]
      refine pk_eq K1 2 (fun h2 => br_f (by decide) ?_) (fun h2 => ?_)
      · exact G2 (fun hh => h (hh.mpr h2))
      · exact G3 h h2
  by_cases ii : K0 = 2 ∧ K1 = 2
  · refine ⟨0, pa_inf f M0, Or.inr (by decide), ?_, ?_⟩
    · intro f_raised f_trapped f_below f_value f_power f_rest f_wish f_exact a_format a_bits a_kind a_minus a_coefficient a_exponent a_wide post d hd ef S0 S1 HD
      exact infi _ _ _ _ _ _ _ _ _ _ _ _ _ _ _ post d hd ef S0 S1 (fun _ => HD) (fun h => absurd ii (by omega)) (fun h => absurd ii.1 h)
    · intro f_raised f_trapped f_more f_made a_format a_pattern a_kind a_exponent a_coefficient a_minus a_row post S0 S1 HO
      exact headY _ _ _ _ _ _ _ _ _ _ _ post S0 S1 (fun _ => HO _ ⟨rfl, rfl, rfl, rfl, rfl⟩ (Or.inr rfl)) (fun h => absurd ii (by omega)) (fun h => absurd ii.1 h)
  by_cases jj : K0 = 2 ∨ K1 = 2
  · refine ⟨1, pa_nan f, Or.inl ⟨rfl, rfl⟩, ?_, ?_⟩
    · intro f_raised f_trapped f_below f_value f_power f_rest f_wish f_exact a_format a_bits a_kind a_minus a_coefficient a_exponent a_wide post d hd ef S0 S1 HD
      exact infi _ _ _ _ _ _ _ _ _ _ _ _ _ _ _ post d hd ef S0 S1 (fun h => absurd h ii) (fun _ => HD) (fun h1 h2 => absurd jj (by omega))
    · intro f_raised f_trapped f_more f_made a_format a_pattern a_kind a_exponent a_coefficient a_minus a_row post S0 S1 HO
      exact headY _ _ _ _ _ _ _ _ _ _ _ post S0 S1 (fun h => absurd h ii) (fun _ => HO _ ⟨rfl, rfl, rfl, rfl, rfl⟩ (Or.inl rfl)) (fun h1 h2 => absurd jj (by omega))
  -- numbers
  have eN : sm_N 10 C0 E0 = C0 * 10 ^ (E0 + 230).toNat := rfl
  have hUq : (0 : Int) ≤ E1 + fm_P 10 := by omega
  have hUp : (0 : Int) ≤ E0 + fm_P 10 := by omega
  have eMq : rn_M 1 10 (fm_P 10) E1 = 10 ^ (E1 + fm_P 10).toNat := rn_M1 10 E1
  have eMp : rn_M 1 10 (fm_P 10) E0 = 10 ^ (E0 + fm_P 10).toNat := rn_M1 10 E0
  have hrep : C0 = sm_N 10 C0 E0 / rn_M 1 10 (fm_P 10) E0 := by
    rw [eMp]
    unfold sm_N
    rw [Nat.mul_div_cancel _ (Nat.pow_pos (by decide))]
  have hmod : sm_N 10 C0 E0 % rn_M 1 10 (fm_P 10) E0 = 0 := by
    rw [eMp]
    unfold sm_N
    rw [Nat.mul_mod_left]
  have hY := yr_Yx (b := 10) (A := sm_N 10 C0 E0) (by omega)
  have hMq : 0 < rn_M 1 10 (fm_P 10) E1 := rn_M_pos (by decide) (by decide)
  have hrge : sm_N 10 C0 E0 / rn_M 1 10 (fm_P 10) E1 ≤ rn_r m M0 (sm_N 10 C0 E0) (rn_M 1 10 (fm_P 10) E1) := Nat.le_add_right _ _
  have lastX : ∀ fl pt : Int32, (rn_r m M0 (sm_N 10 C0 E0) (rn_M 1 10 (fm_P 10) E1) ≤ 9999999 → fl = nI (if rn_pt (sm_N 10 C0 E0) (rn_M 1 10 (fm_P 10) E1) = 0 then 0 else 16) ∧ pt = pa_P f M0 (rn_r m M0 (sm_N 10 C0 E0) (rn_M 1 10 (fm_P 10) E1)) E1) → (9999999 < rn_r m M0 (sm_N 10 C0 E0) (rn_M 1 10 (fm_P 10) E1) → fl = 1 ∧ pt = pa_nan f) → bo_X2 wpX_quantize f m K0 M0 C0 K1 M1 C1 E0 E1 fl pt := by
    intro fl pt F1 F2
    intro f_raised f_trapped f_below f_value f_power f_rest f_wish f_exact a_format a_bits a_kind a_minus a_coefficient a_exponent a_wide post d hd ef S0 S1 HD
    refine infi _ _ _ _ _ _ _ _ _ _ _ _ _ _ _ post d hd ef S0 S1 (fun h => absurd h ii) (fun h => absurd jj (by omega)) (fun _ _ => ?_)
    have hinv : 9999999 < rn_r m M0 (sm_N 10 C0 E0) (rn_M 1 10 (fm_P 10) E1) → xs_D post f_raised f_trapped (nI m) a_format a_bits d 1 (pa_nan f) := by
      intro h
      obtain ⟨g1, g2⟩ := F2 h
      rw [g1, g2] at HD
      exact HD
    have hfin : ∀ z : Nat, z < 2 → z = (if rn_pt (sm_N 10 C0 E0) (rn_M 1 10 (fm_P 10) E1) = 0 then 1 else 0) → rn_r m M0 (sm_N 10 C0 E0) (rn_M 1 10 (fm_P 10) E1) ≤ 9999999 → vp_in (nI d) 8 ∧ (wpX_pack (fun r_57 => (((nI z = 0 → (wX_quantize_132 post r_57 16 (nI d) f_raised f_trapped (nI m) (nI M0) (lN C0) (zz_I E0) 0 f_wish (nI z) a_format a_bits a_kind a_minus a_coefficient a_exponent a_wide)) ∧ (¬ nI z = 0 → (wX_quantize_132 post r_57 0 (nI d) f_raised f_trapped (nI m) (nI M0) (lN C0) (zz_I E0) 0 f_wish (nI z) a_format a_bits a_kind a_minus a_coefficient a_exponent a_wide))))) (a_format (nI d).toNatClampNeg) (nI M0) (lN (rn_r m M0 (sm_N 10 C0 E0) (rn_M 1 10 (fm_P 10) E1))) (a_exponent 1)) := by
      intro z hz ez hle
      obtain ⟨g1, g2⟩ := F1 hle
      refine ⟨vp_in_nI hd (by decide), ?_⟩
      rw [nI_clamp (show d < 2 ^ 31 by omega), ef, S1.2.2.2]
      refine pa_wPX hf hM0 (by rw [eb, ep]; omega) ?_
      rw [g1, g2] at HD
      by_cases hp : rn_pt (sm_N 10 C0 E0) (rn_M 1 10 (fm_P 10) E1) = 0
      · rw [if_pos hp] at HD ez
        refine br_f (by rw [ez]; decide) ?_
        exact xw_settle hd (fun u' h => HD u' h)
      · rw [if_neg hp] at HD ez
        refine br_t (by rw [ez]; rfl) ?_
        exact xw_settle hd (fun u' h => HD u' h)
    by_cases hl : E0 < E1
    · have hle : rn_r m M0 (sm_N 10 C0 E0) (rn_M 1 10 (fm_P 10) E1) < 9223372036854775808 := by
        have h1 : sm_N 10 C0 E0 / rn_M 1 10 (fm_P 10) E1 ≤ C0 := by
          rw [rn_div_up hUp (show E0 ≤ E1 by omega), ← hrep]
          exact Nat.div_le_self _ _
        have := rn_up_le m M0 (rn_pt (sm_N 10 C0 E0) (rn_M 1 10 (fm_P 10) E1)) (sm_N 10 C0 E0 / rn_M 1 10 (fm_P 10) E1 % 2)
        unfold rn_r
        omega
      refine xw_whole_up (b := 10) (r := 0) (D := 1) (U := fm_P 10) (Or.inr rfl) hm hM0 (by decide) (by decide) hUp hrep ⟨fun _ => hmod, fun _ => rfl⟩ (by have : xr_bd 10 = 5000000000000000000 := rfl; omega) hl (by omega) (by omega) ?_
      dsimp only
      refine zz_lle (rn_r m M0 (sm_N 10 C0 E0) (rn_M 1 10 (fm_P 10) E1)) 9999999 (fun h => ?_) (fun h => ?_)
      · exact hfin _ (by split <;> omega) rfl h
      · exact xw_invalid hd hf ef (fun u' h2 => hinv h u' h2)
    · obtain ⟨g1, g2⟩ := rn_fine (D := 1) (b := 10) (U := fm_P 10) (by decide) (by decide) hUq (show E1 ≤ E0 by omega) hmod
      rw [← hrep] at g1
      have gp : rn_pt (sm_N 10 C0 E0) (rn_M 1 10 (fm_P 10) E1) = 0 := rn_pt_0.mpr g2
      have gr : rn_r m M0 (sm_N 10 C0 E0) (rn_M 1 10 (fm_P 10) E1) = C0 * 10 ^ (E0 - E1).toNat := by rw [rn_r_ex gp, g1]
      refine xw_whole_dn (b := 10) (Or.inr rfl) (by omega) (show E1 ≤ E0 by omega) (by omega) (by omega) ?_
      intro c hc hcc
      have hbig : (4000000000000000000 : Nat) / 10 = 400000000000000000 := by decide
      rw [hbig] at hcc
      dsimp only
      refine zz_lle c 9999999 (fun h => ?_) (fun h => ?_)
      · have ec : c = rn_r m M0 (sm_N 10 C0 E0) (rn_M 1 10 (fm_P 10) E1) := by
          rw [gr]
          omega
        rw [ec]
        refine hfin 1 (by decide) (by rw [if_pos gp]) (by omega)
      · exact xw_invalid hd hf ef (fun u' h2 => hinv (by rw [gr]; omega) u' h2)
  have lastY : ∀ fl pt : Int32, (rn_r m M0 (sm_N 10 C0 E0) (rn_M 1 10 (fm_P 10) E1) ≤ 9999999 → fl = nI (if rn_pt (sm_N 10 C0 E0) (rn_M 1 10 (fm_P 10) E1) = 0 then 0 else 16) ∧ pt = pa_P f M0 (rn_r m M0 (sm_N 10 C0 E0) (rn_M 1 10 (fm_P 10) E1)) E1) → (9999999 < rn_r m M0 (sm_N 10 C0 E0) (rn_M 1 10 (fm_P 10) E1) → fl = 1 ∧ pt = pa_nan f) → bo_Y2 wpY_quantized f m K0 M0 C0 K1 M1 C1 E0 E1 fl pt := by
    intro fl pt F1 F2
    intro f_raised f_trapped f_more f_made a_format a_pattern a_kind a_exponent a_coefficient a_minus a_row post S0 S1 HO
    refine headY _ _ _ _ _ _ _ _ _ _ _ post S0 S1 (fun h => absurd h ii) (fun h => absurd jj (by omega)) (fun _ _ => ?_)
    refine br_t rfl (br_t rfl (nm_r S1.2.2.2 ?_))
    refine yw_clear ?_
    intro row1 hz1
    dsimp only
    rw [S0.2.2.1, S0.2.2.2]
    refine yw_clay (b := 10) (Or.inr rfl) q5 q1 g0 (sm_799 (Or.inr rfl) l0) hz1 ?_
    intro row2 hr2 _
    change yr_R 10 row2 0 (sm_N 10 C0 E0) at hr2
    have hN := sm_799 (b := 10) (Or.inr rfl) l0
    have hinv : 9999999 < rn_r m M0 (sm_N 10 C0 E0) (rn_M 1 10 (fm_P 10) E1) → post 1 (nI m, f_raised, f_trapped, 0, f_made, a_format, a_pattern, a_kind, a_exponent, a_coefficient, a_minus, row2) := by
      intro h
      obtain ⟨g1, g2⟩ := F2 h
      rw [g1, g2] at HO
      exact HO _ ⟨rfl, rfl, rfl, rfl, rfl⟩ (Or.inl rfl)
    have fin : sm_N 10 C0 E0 / rn_M 1 10 (fm_P 10) E1 < 10000000000 → wpY_rounded (fun r_46 => (((r_46 ≤ 9999999 → (wpY_finite (fun r_60 => (wpY_rest (fun r_61 => (((r_61 ≤ 0 → (post 0 (nI m, f_raised, f_trapped, 0, r_60, a_format, a_pattern, a_kind, a_exponent, a_coefficient, a_minus, row2))) ∧ (¬ r_61 ≤ 0 → (post 16 (nI m, f_raised, f_trapped, 0, r_60, a_format, a_pattern, a_kind, a_exponent, a_coefficient, a_minus, row2)))))) (nI m, f_raised, f_trapped, 0, r_60, a_format, a_pattern, a_kind, a_exponent, a_coefficient, a_minus, row2) 10 (zz_I E1))) (nI f) (a_minus 0) r_46 (zz_I E1))) ∧ (¬ r_46 ≤ 9999999 → (post 1 (nI m, f_raised, f_trapped, 0, f_made, a_format, a_pattern, a_kind, a_exponent, a_coefficient, a_minus, row2)))))) (nI m, f_raised, f_trapped, 0, f_made, a_format, a_pattern, a_kind, a_exponent, a_coefficient, a_minus, row2) 10 (zz_I E1) (a_minus 0) (nI m) := by
      intro hlt
      have hle : rn_r m M0 (sm_N 10 C0 E0) (rn_M 1 10 (fm_P 10) E1) < 9223372036854775808 := by
        have := rn_up_le m M0 (rn_pt (sm_N 10 C0 E0) (rn_M 1 10 (fm_P 10) E1)) (sm_N 10 C0 E0 / rn_M 1 10 (fm_P 10) E1 % 2)
        unfold rn_r
        omega
      rw [S0.2.1]
      refine yw_roundedA (b := 10) (D := 1) (U := fm_P 10) (mo := 0) (Or.inr rfl) (by decide) hm hM0 hr2 hN hY (by omega) (by omega) (by omega) ?_
      refine zz_lle (rn_r m M0 (sm_N 10 C0 E0) (rn_M 1 10 (fm_P 10) E1)) 9999999 (fun h => ?_) (fun h => hinv h)
      obtain ⟨g1, g2⟩ := F1 h
      refine pa_wPY hf hM0 (by rw [eb, ep]; omega) ?_
      refine yw_restA (b := 10) (D := 1) (U := fm_P 10) (mo := 0) (Or.inr rfl) (by decide) hr2 hY (by omega) (by omega) ?_
      rw [g1, g2] at HO
      have hp4 := rn_pt_le (sm_N 10 C0 E0) (rn_M 1 10 (fm_P 10) E1)
      refine pk_le (rn_pt (sm_N 10 C0 E0) (rn_M 1 10 (fm_P 10) E1)) 0 (fun h2 => ?_) (fun h2 => ?_)
      · rw [if_pos (by omega)] at HO
        exact HO _ ⟨rfl, rfl, rfl, rfl, rfl⟩ (Or.inr rfl)
      · rw [if_neg (by omega)] at HO
        exact HO _ ⟨rfl, rfl, rfl, rfl, rfl⟩ (Or.inr rfl)
    dsimp only
    refine yw_highest (b := 10) (Or.inr rfl) hr2 hN (fun h0 => ?_) (fun h h8 h1 h2 => ?_)
    · refine zz_le (-1000 - E1) 8 (fun _ => ?_) (fun h => absurd h (by omega)) (hx := by rw [← zz_Isub]; rfl)
      refine fin ?_
      rw [h0, Nat.zero_div]
      decide
    · refine zz_le ((h : Int) - fm_P 10 - E1) 8 (fun hle => ?_) (fun hgt => ?_) (hx := zz_Isub _ _)
      · refine fin ?_
        rw [eMq]
        have h3 : (10 : Nat) ^ (h + 1) ≤ 10 ^ (E1 + fm_P 10).toNat * 10 ^ 9 := by
          rw [← Nat.pow_add]
          exact dg_pow_le (by decide) (by omega)
        have h4 : (10 : Nat) ^ 9 = 1000000000 := by decide
        rw [h4] at h3
        have h5 : sm_N 10 C0 E0 / 10 ^ (E1 + fm_P 10).toNat < 1000000000 := by
          rw [Nat.div_lt_iff_lt_mul (Nat.pow_pos (by decide)), Nat.mul_comm]
          omega
        omega
      · refine hinv ?_
        have h3 : (10 : Nat) ^ 9 * 10 ^ (E1 + fm_P 10).toNat ≤ 10 ^ h := by
          rw [← Nat.pow_add]
          exact dg_pow_le (by decide) (by omega)
        have h4 : (10 : Nat) ^ 9 ≤ sm_N 10 C0 E0 / 10 ^ (E1 + fm_P 10).toNat := by
          rw [Nat.le_div_iff_mul_le (Nat.pow_pos (by decide))]
          omega
        rw [eMq] at hrge
        rw [eMq]
        have h5 : (10 : Nat) ^ 9 = 1000000000 := by decide
        rw [h5] at h4
        omega
  by_cases hle : rn_r m M0 (sm_N 10 C0 E0) (rn_M 1 10 (fm_P 10) E1) ≤ 9999999
  · refine ⟨nI (if rn_pt (sm_N 10 C0 E0) (rn_M 1 10 (fm_P 10) E1) = 0 then 0 else 16), pa_P f M0 (rn_r m M0 (sm_N 10 C0 E0) (rn_M 1 10 (fm_P 10) E1)) E1, Or.inr (by split <;> decide), ?_, ?_⟩
    · exact lastX _ _ (fun _ => ⟨rfl, rfl⟩) (fun h => absurd h (by omega))
    · exact lastY _ _ (fun _ => ⟨rfl, rfl⟩) (fun h => absurd h (by omega))
  · refine ⟨1, pa_nan f, Or.inl ⟨rfl, rfl⟩, ?_, ?_⟩
    · exact lastX _ _ (fun h => absurd h hle) (fun _ => ⟨rfl, rfl⟩)
    · exact lastY _ _ (fun h => absurd h hle) (fun _ => ⟨rfl, rfl⟩)
end
section
/-! nans among operands; like bases; the relation -/
section
variable {f_raised : Int32} {f_trapped : Int32} {f_mode : Int32} {f_below : Int32} {f_value : Int64} {f_power : Int32} {f_rest : Int32} {f_wish : Int32} {f_exact : Int32} {a_format : Nat → Int32} {a_bits : Nat → Int32} {a_kind : Nat → Int32} {a_minus : Nat → Int32} {a_coefficient : Nat → Int64} {a_exponent : Nat → Int32} {a_wide : Nat → Int32} {post : Int32 → SX → Prop}
theorem xn_lp {kk : Nat → Nat} {d f many : Nat} (hd : d < 8) (hf : f < 4) (ef : a_format d = nI f) (hmany : many ≤ 3) (hk : ∀ j, j < many → a_kind j = nI (kk j) ∧ kk j < 4) (H0 : (∀ j, j < many → ¬ kk j < 2) → post (-1) (f_raised, f_trapped, f_mode, f_below, f_value, f_power, f_rest, f_wish, f_exact, a_format, a_bits, a_kind, a_minus, a_coefficient, a_exponent, a_wide)) (H1 : ∀ lo : Nat, lo < 2 → (lo = 0 ↔ ∀ j, j < many → ¬ kk j = 0) → ¬ (∀ j, j < many → ¬ kk j < 2) → xs_D post f_raised f_trapped f_mode a_format a_bits d (nI lo) (pa_nan f)) : ∀ j k : Nat, k + j = many → ∀ n, j < n → ∀ so lo : Nat, so < 2 → lo < 2 → (so = 0 ↔ ∀ i, i < k → ¬ kk i < 2) → (lo = 0 ↔ ∀ i, i < k → ¬ kk i = 0) → wX_nans_8 post (nI d) (nI many) f_raised f_trapped f_mode f_below f_value f_power f_rest f_wish f_exact a_format a_bits a_kind a_minus a_coefficient a_exponent a_wide n (nI so) (nI lo) (nI k) := by
  intro j
  induction j with
  | zero =>
    intro k hkm n hn so lo hso hlo iso ilo
    obtain ⟨n, rfl⟩ := yr_fuel hn
    have ek : k = many := by omega
    subst ek
    refine br_t (nI_le (Nat.le_refl _) (by omega)) (pk_eq so 0 (fun h => H0 (iso.mp h)) (fun h => ⟨vp_in_nI hd (by decide), ?_⟩))
    have HD := H1 lo hlo ilo (fun hh => h (iso.mpr hh))
    rw [nI_clamp (show d < 2 ^ 31 by omega), ef]
    refine pa_wnanX hf (pk_eq lo 0 (fun h2 => ?_) (fun h2 => ?_))
    · rw [h2] at HD
      exact xw_settle hd (fun u' h => HD u' h)
    · have e1 : lo = 1 := by omega
      rw [e1] at HD
      exact xw_settle hd (fun u' h => HD u' h)
  | succ j ih =>
    intro k hkm n hn so lo hso hlo iso ilo
    obtain ⟨n, rfl⟩ := yr_fuel hn
    obtain ⟨ek, ek4⟩ := hk k (by omega)
    have hin : vp_in (nI k) 3 := vp_in_nI (by omega) (by decide)
    have hck : (nI k).toNatClampNeg = k := nI_clamp (by omega)
    have step : ∀ so' : Nat, so' < 2 → (so' = 0 ↔ ∀ i, i < k + 1 → ¬ kk i < 2) → wX_nans_27 post (wX_nans_8 post (nI d) (nI many) f_raised f_trapped f_mode f_below f_value f_power f_rest f_wish f_exact a_format a_bits a_kind a_minus a_coefficient a_exponent a_wide n) (nI d) (nI many) (nI so') (nI lo) (nI k) f_raised f_trapped f_mode f_below f_value f_power f_rest f_wish f_exact a_format a_bits a_kind a_minus a_coefficient a_exponent a_wide := by
      intro so' hso' iso'
      refine And.intro hin ?_
      rw [hck, ek]
      refine pk_eq (kk k) 0 (fun h => nm_r (nI_1 k) ?_) (fun h => nm_r (nI_1 k) ?_)
      · refine ih (k + 1) (by omega) n (by omega) so' 1 hso' (by decide) iso' ⟨fun h1 => absurd h1 (by decide), fun h1 => absurd h (h1 k (by omega))⟩
      · refine ih (k + 1) (by omega) n (by omega) so' lo hso' hlo iso' (ilo.trans ⟨fun h1 i hi => ?_, fun h1 i hi => h1 i (by omega)⟩)
        rcases (show i < k ∨ i = k by omega) with h2 | h2
        · exact h1 i h2
        · rw [h2]
          exact h
    refine br_f (nI_ge (by omega) (by omega)) ⟨hin, ?_⟩
    rw [hck, ek]
    refine pk_le 2 (kk k) (fun h => step so hso (iso.trans ⟨fun h1 i hi => ?_, fun h1 i hi => h1 i (by omega)⟩)) (fun h => step 1 (by decide) ⟨fun h1 => absurd h1 (by decide), fun h1 => absurd h (h1 k (by omega))⟩)
    rcases (show i < k ∨ i = k by omega) with h2 | h2
    · exact h1 i h2
    · rw [h2]
      omega
theorem xw_nans {kk : Nat → Nat} {d f many : Nat} (hd : d < 8) (hf : f < 4) (ef : a_format d = nI f) (hmany : many ≤ 3) (hk : ∀ j, j < many → a_kind j = nI (kk j) ∧ kk j < 4) (H0 : (∀ j, j < many → ¬ kk j < 2) → post (-1) (f_raised, f_trapped, f_mode, f_below, f_value, f_power, f_rest, f_wish, f_exact, a_format, a_bits, a_kind, a_minus, a_coefficient, a_exponent, a_wide)) (H1 : ∀ lo : Nat, lo < 2 → (lo = 0 ↔ ∀ j, j < many → ¬ kk j = 0) → ¬ (∀ j, j < many → ¬ kk j < 2) → xs_D post f_raised f_trapped f_mode a_format a_bits d (nI lo) (pa_nan f)) : wpX_nans post (f_raised, f_trapped, f_mode, f_below, f_value, f_power, f_rest, f_wish, f_exact, a_format, a_bits, a_kind, a_minus, a_coefficient, a_exponent, a_wide) (nI d) (nI many) :=
  ⟨many + 1, xn_lp hd hf ef hmany hk H0 H1 many 0 (by omega) (many + 1) (by omega) 0 0 (by decide) (by decide) ⟨fun _ i hi => absurd hi (by omega), fun _ => rfl⟩ ⟨fun _ i hi => absurd hi (by omega), fun _ => rfl⟩⟩
theorem xw_like {post : Int32 → Prop} {a b fa fb : Nat} (ha : a < 8) (hb : b < 8) (hfa : fa < 4) (hfb : fb < 4) (ea : a_format a = nI fa) (eb : a_format b = nI fb) (H1 : fm_b fa = fm_b fb → post 1) (H0 : ¬ fm_b fa = fm_b fb → post 0) : wpX_likeBase post (f_raised, f_trapped, f_mode, f_below, f_value, f_power, f_rest, f_wish, f_exact, a_format, a_bits, a_kind, a_minus, a_coefficient, a_exponent, a_wide) (nI a) (nI b) := by
  have hina : vp_in (nI a) 8 := vp_in_nI ha (by decide)
  have hinb : vp_in (nI b) 8 := vp_in_nI hb (by decide)
  have e : fm_b fa = fm_b fb ↔ (2 ≤ fa ↔ 2 ≤ fb) := by
    unfold fm_b
    split <;> split <;> omega
  unfold wpX_likeBase
  dsimp only
  refine xw_isReg ha ?_
  refine br_f (by decide) ?_
  refine xw_isReg hb ?_
  refine br_f (by decide) ⟨hina, ?_⟩
  rw [nI_clamp (show a < 2 ^ 31 by omega), ea]
  refine pk_le 2 fa (fun h => ⟨hinb, ?_⟩) (fun h => ⟨hinb, ?_⟩)
  · rw [nI_clamp (show b < 2 ^ 31 by omega), eb]
    refine pk_le 2 fb (fun h2 => br_t rfl (H1 (e.mpr (by omega)))) (fun h2 => br_f (by decide) (H0 (fun hh => by have := e.mp hh; omega)))
  · rw [nI_clamp (show b < 2 ^ 31 by omega), eb]
    refine pk_le 2 fb (fun h2 => br_f (by decide) (H0 (fun hh => by have := e.mp hh; omega))) (fun h2 => br_t rfl (H1 (e.mpr (by omega))))
theorem xw_likeN {post : Int32 → Prop} {x y : Int32} (h : ¬ ((∃ a : Nat, a < 8 ∧ x = nI a) ∧ (∃ b : Nat, b < 8 ∧ y = nI b))) (H : post 0) : wpX_likeBase post (f_raised, f_trapped, f_mode, f_below, f_value, f_power, f_rest, f_wish, f_exact, a_format, a_bits, a_kind, a_minus, a_coefficient, a_exponent, a_wide) x y := by
  unfold wpX_likeBase
  dsimp only
  by_cases hx : ∃ a : Nat, a < 8 ∧ x = nI a
  · have hy : ¬ ∃ b : Nat, b < 8 ∧ y = nI b := fun hy => h ⟨hx, hy⟩
    obtain ⟨a, ha, rfl⟩ := hx
    refine xw_isReg ha ?_
    refine br_f (by decide) ?_
    exact xw_isRegN hy (br_t rfl H)
  · exact xw_isRegN hx (br_t rfl H)
end
section
variable {f_attribute : Int32} {f_raised : Int32} {f_trapped : Int32} {f_more : Int32} {f_made : Int32} {a_format : Nat → Int32} {a_pattern : Nat → Int32} {a_kind : Nat → Int32} {a_exponent : Nat → Int32} {a_coefficient : Nat → Int64} {a_minus : Nat → Int32} {a_row : Nat → Int32}
theorem yn_lp {post : Int32 → Prop} {kk : Nat → Nat} {w many : Nat} (hmany : many ≤ 3) (hw : w < 4) (hk : ∀ j, j < many → a_kind j = nI (kk j) ∧ kk j < 4) (H0 : (∀ j, j < many → ¬ kk j = w) → post 0) (H1 : ¬ (∀ j, j < many → ¬ kk j = w) → post 1) : ∀ j k : Nat, k + j = many → ∀ n, j < n → (∀ i, i < k → ¬ kk i = w) → wY_any_2 post (nI many) (nI w) f_attribute f_raised f_trapped f_more f_made a_format a_pattern a_kind a_exponent a_coefficient a_minus a_row n (nI k) := by
  intro j
  induction j with
  | zero =>
    intro k hkm n hn ik
    obtain ⟨n, rfl⟩ := yr_fuel hn
    have ek : k = many := by omega
    subst ek
    exact br_t (nI_le (Nat.le_refl _) (by omega)) (H0 ik)
  | succ j ih =>
    intro k hkm n hn ik
    obtain ⟨n, rfl⟩ := yr_fuel hn
    obtain ⟨ek, ek4⟩ := hk k (by omega)
    refine br_f (nI_ge (by omega) (by omega)) ⟨vp_in_nI (by omega) (by decide), ?_⟩
    rw [nI_clamp (show k < 2 ^ 31 by omega), ek]
    refine pk_eq (kk k) w (fun h => H1 (fun hh => hh k (by omega) h)) (fun h => nm_r (nI_1 k) (ih (k + 1) (by omega) n (by omega) (fun i hi => ?_)))
    rcases (show i < k ∨ i = k by omega) with h2 | h2
    · exact ik i h2
    · rw [h2]
      exact h
theorem yw_any {post : Int32 → Prop} {kk : Nat → Nat} {w many : Nat} (hmany : many ≤ 3) (hw : w < 4) (hk : ∀ j, j < many → a_kind j = nI (kk j) ∧ kk j < 4) (H0 : (∀ j, j < many → ¬ kk j = w) → post 0) (H1 : ¬ (∀ j, j < many → ¬ kk j = w) → post 1) : wpY_any post (f_attribute, f_raised, f_trapped, f_more, f_made, a_format, a_pattern, a_kind, a_exponent, a_coefficient, a_minus, a_row) (nI many) (nI w) :=
  ⟨many + 1, yn_lp hmany hw hk H0 H1 many 0 (by omega) (many + 1) (by omega) (fun i hi => absurd hi (by omega))⟩
theorem yw_nans {post : Int32 → Prop} {kk : Nat → Nat} {many : Nat} (hmany : many ≤ 3) (hk : ∀ j, j < many → a_kind j = nI (kk j) ∧ kk j < 4) (H0 : (∀ j, j < many → ¬ kk j < 2) → post (-1)) (H1 : ∀ lo : Nat, lo < 2 → (lo = 0 ↔ ∀ j, j < many → ¬ kk j = 0) → ¬ (∀ j, j < many → ¬ kk j < 2) → post (nI lo)) : wpY_nans post (f_attribute, f_raised, f_trapped, f_more, f_made, a_format, a_pattern, a_kind, a_exponent, a_coefficient, a_minus, a_row) (nI many) := by
  unfold wpY_nans
  dsimp only
  refine yw_any (w := 0) hmany (by decide) hk (fun h0 => ?_) (fun h0 => ?_)
  · refine br_t rfl ?_
    refine yw_any (w := 1) hmany (by decide) hk (fun h1 => ?_) (fun h1 => ?_)
    · refine br_t rfl (H0 (fun j hj => ?_))
      have := h0 j hj
      have := h1 j hj
      omega
    · refine br_f (by decide) (br_t rfl ?_)
      refine H1 0 (by decide) ⟨fun _ => h0, fun _ => rfl⟩ (fun hh => h1 (fun j hj => ?_))
      have := hh j hj
      omega
  · refine br_f (by decide) (br_f (by decide) ?_)
    refine H1 1 (by decide) ⟨fun h => absurd h (by decide), fun h => absurd h h0⟩ (fun hh => h0 (fun j hj => ?_))
    have := hh j hj
    omega
theorem yw_alike {post : Int32 → Prop} {a b fa fb : Nat} (ha : a < 8) (hb : b < 8) (hfa : fa < 4) (hfb : fb < 4) (ea : a_format a = nI fa) (eb : a_format b = nI fb) (H1 : fm_b fa = fm_b fb → post 1) (H0 : ¬ fm_b fa = fm_b fb → post 0) : wpY_alike post (f_attribute, f_raised, f_trapped, f_more, f_made, a_format, a_pattern, a_kind, a_exponent, a_coefficient, a_minus, a_row) (nI a) (nI b) := by
  have hina : vp_in (nI a) 8 := vp_in_nI ha (by decide)
  have hinb : vp_in (nI b) 8 := vp_in_nI hb (by decide)
  have ba := fm_b2 fa
  have bb := fm_b2 fb
  unfold wpY_alike
  dsimp only
  refine yw_in (n := 8) ha (by decide) ?_
  refine br_f (by decide) ?_
  refine yw_in (n := 8) hb (by decide) ?_
  refine br_f (by decide) ⟨hina, ?_⟩
  rw [nI_clamp (show a < 2 ^ 31 by omega), ea]
  refine yw_base hfa ⟨hinb, ?_⟩
  rw [nI_clamp (show b < 2 ^ 31 by omega), eb]
  refine yw_base hfb ?_
  exact zn_eqU (fun h => H1 h) (fun h => H0 h)
theorem yw_alikeN {post : Int32 → Prop} {x y : Int32} (h : ¬ ((∃ a : Nat, a < 8 ∧ x = nI a) ∧ (∃ b : Nat, b < 8 ∧ y = nI b))) (H : post 0) : wpY_alike post (f_attribute, f_raised, f_trapped, f_more, f_made, a_format, a_pattern, a_kind, a_exponent, a_coefficient, a_minus, a_row) x y := by
  unfold wpY_alike
  dsimp only
  by_cases hx : ∃ a : Nat, a < 8 ∧ x = nI a
  · have hy : ¬ ∃ b : Nat, b < 8 ∧ y = nI b := fun hy => h ⟨hx, hy⟩
    obtain ⟨a, ha, rfl⟩ := hx
    refine yw_in (n := 8) ha (by decide) ?_
    refine br_f (by decide) ?_
    exact yw_inN (n := 8) (by decide) hy (br_t rfl H)
  · exact yw_inN (n := 8) (by decide) hx (br_t rfl H)
end
/-- THE RELATION -/
def i_Rel (_ : Nat) (u : SX) (v : SY) : Prop := ∃ (rs tr : Int32) (m : Nat) (fo bi : Nat → Int32), m < 5 ∧ (∀ j, j < 8 → ∃ f : Nat, f < 4 ∧ fo j = nI f) ∧ xs_S u rs tr (nI m) fo bi ∧ ys_S v rs tr (nI m) fo bi
theorem i_up {k : Nat} {u : SX} {v : SY} (h : i_Rel k u v) : i_Rel (k + 5) u v := h
theorem rl_el {k : Nat} {u : SX} {v : SY} {P : SX → SY → Prop} (h : ∀ (m : Nat) (f_raised : Int32) (f_trapped : Int32) (f_below : Int32) (f_value : Int64) (f_power : Int32) (f_rest : Int32) (f_wish : Int32) (f_exact : Int32) (a_format : Nat → Int32) (a_bits : Nat → Int32) (a_kind : Nat → Int32) (a_minus : Nat → Int32) (a_coefficient : Nat → Int64) (a_exponent : Nat → Int32) (a_wide : Nat → Int32) (y_more y_made : Int32) (y_kind y_exponent : Nat → Int32) (y_coefficient : Nat → Int64) (y_minus y_row : Nat → Int32), m < 5 → (∀ j, j < 8 → ∃ f : Nat, f < 4 ∧ a_format j = nI f) → P (f_raised, f_trapped, nI m, f_below, f_value, f_power, f_rest, f_wish, f_exact, a_format, a_bits, a_kind, a_minus, a_coefficient, a_exponent, a_wide) (nI m, f_raised, f_trapped, y_more, y_made, a_format, a_bits, y_kind, y_exponent, y_coefficient, y_minus, y_row)) (I : i_Rel k u v) : P u v := by
  obtain ⟨rs, tr, m, fo, bi, hm, hfo, hx, hy⟩ := I
  obtain ⟨x1, x2, x3, x4, x5, x6, x7, x8, x9, x10, x11, x12, x13, x14, x15, x16⟩ := u
  obtain ⟨y1, y2, y3, y4, y5, y6, y7, y8, y9, y10, y11, y12⟩ := v
  obtain ⟨a1, a2, a3, a4, a5⟩ := hx
  obtain ⟨b1, b2, b3, b4, b5⟩ := hy
  dsimp only at a1 a2 a3 a4 a5 b1 b2 b3 b4 b5
  subst a1 a2 a3 a4 a5 b1 b2 b3 b4 b5
  exact h m _ _ _ _ _ _ _ _ _ _ _ _ _ _ _ _ _ _ _ _ _ _ hm hfo
theorem rl_in {k m : Nat} {u : SX} {v : SY} {rs tr : Int32} {fo bi : Nat → Int32} (hm : m < 5) (hfo : ∀ j, j < 8 → ∃ f : Nat, f < 4 ∧ fo j = nI f) (hx : xs_S u rs tr (nI m) fo bi) (hy : ys_S v rs tr (nI m) fo bi) : i_Rel k u v := ⟨rs, tr, m, fo, bi, hm, hfo, hx, hy⟩
end
section
/-! the easy calls -/
theorem vi_f (k : Nat) : upd (fun j => if j < k then (1 : Int32) else 0) k 1 = fun j => if j < k + 1 then 1 else 0 := by
  funext j
  unfold upd
  by_cases h : j = k
  · rw [if_pos h, if_pos (by omega)]
  · rw [if_neg h]
    dsimp only
    by_cases h2 : j < k
    · rw [if_pos h2, if_pos (by omega)]
    · rw [if_neg h2, if_neg (by omega)]
theorem vi_X {f_raised : Int32} {f_trapped : Int32} {f_mode : Int32} {f_below : Int32} {f_value : Int64} {f_power : Int32} {f_rest : Int32} {f_wish : Int32} {f_exact : Int32} {a_bits : Nat → Int32} {a_kind : Nat → Int32} {a_minus : Nat → Int32} {a_coefficient : Nat → Int64} {a_exponent : Nat → Int32} {a_wide : Nat → Int32} {post : SX → Prop} (H : post (f_raised, f_trapped, f_mode, f_below, f_value, f_power, f_rest, f_wish, f_exact, fun j => if j < 8 then 1 else 0, a_bits, a_kind, a_minus, a_coefficient, a_exponent, a_wide)) : ∀ m k : Nat, k + m = 8 → ∀ n, m < n → wX_init_58 post f_raised f_trapped f_mode f_below f_value f_power f_rest f_wish f_exact n (nI k) (fun j => if j < k then 1 else 0) a_bits a_kind a_minus a_coefficient a_exponent a_wide := by
  intro m
  induction m with
  | zero =>
    intro k hk n hn
    obtain ⟨n, rfl⟩ := yr_fuel hn
    have e : k = 8 := by omega
    subst e
    exact br_t (by decide) H
  | succ m ih =>
    intro k hk n hn
    obtain ⟨n, rfl⟩ := yr_fuel hn
    refine br_f (nI_ge (b := 8) (by omega) (by decide)) ⟨vp_in_nI (by omega) (by decide), nm_r (e' := fun j => if j < k + 1 then 1 else 0) ?_ (nm_r (nI_1 k) (ih (k + 1) (by omega) n (by omega)))⟩
    rw [nI_clamp (by omega), ← vi_f]
    congr 1
theorem vi_Y {f_attribute : Int32} {f_raised : Int32} {f_trapped : Int32} {f_more : Int32} {f_made : Int32} {a_pattern : Nat → Int32} {a_kind : Nat → Int32} {a_exponent : Nat → Int32} {a_coefficient : Nat → Int64} {a_minus : Nat → Int32} {a_row : Nat → Int32} {post : SY → Prop} (H : post (f_attribute, f_raised, f_trapped, f_more, f_made, fun j => if j < 8 then 1 else 0, a_pattern, a_kind, a_exponent, a_coefficient, a_minus, a_row)) : ∀ m k : Nat, k + m = 8 → ∀ n, m < n → wY_init_59 post f_attribute f_raised f_trapped f_more f_made n (nI k) (fun j => if j < k then 1 else 0) a_pattern a_kind a_exponent a_coefficient a_minus a_row := by
  intro m
  induction m with
  | zero =>
    intro k hk n hn
    obtain ⟨n, rfl⟩ := yr_fuel hn
    have e : k = 8 := by omega
    subst e
    exact br_t (by decide) H
  | succ m ih =>
    intro k hk n hn
    obtain ⟨n, rfl⟩ := yr_fuel hn
    refine br_f (nI_ge (b := 8) (by omega) (by decide)) ⟨vp_in_nI (by omega) (by decide), nm_r (e' := fun j => if j < k + 1 then 1 else 0) ?_ (nm_r (nI_1 k) (ih (k + 1) (by omega) n (by omega)))⟩
    rw [nI_clamp (by omega), ← vi_f]
theorem vi_0 : (fun _ : Nat => (0 : Int32)) = fun j => if j < 0 then 1 else 0 := by
  funext j
  rw [if_neg (by omega)]
theorem i_vc0 : wpX_init (fun u => wpY_init (fun v => i_Rel 0 u v)) := by
  refine ⟨9, ?_⟩
  have hX := vi_X (post := fun u => wpY_init (fun v => i_Rel 0 u v)) (f_raised := 0) (f_trapped := 0) (f_mode := 0) (f_below := 0) (f_value := 0) (f_power := 0) (f_rest := 0) (f_wish := 0) (f_exact := 0) (a_bits := fun _ => 0) (a_kind := fun _ => 0) (a_minus := fun _ => 0) (a_coefficient := fun _ => 0) (a_exponent := fun _ => 0) (a_wide := fun _ => 0) ?_ 8 0 (by omega) 9 (by omega)
  · rw [← vi_0] at hX
    exact hX
  · refine ⟨9, ?_⟩
    have hY := vi_Y (post := fun v => i_Rel 0 (0, 0, 0, 0, 0, 0, 0, 0, 0, fun j => if j < 8 then 1 else 0, fun _ => 0, fun _ => 0, fun _ => 0, fun _ => 0, fun _ => 0, fun _ => 0) v) (f_attribute := 0) (f_raised := 0) (f_trapped := 0) (f_more := 0) (f_made := 0) (a_pattern := fun _ => 0) (a_kind := fun _ => 0) (a_exponent := fun _ => 0) (a_coefficient := fun _ => 0) (a_minus := fun _ => 0) (a_row := fun _ => 0) ?_ 8 0 (by omega) 9 (by omega)
    · rw [← vi_0] at hY
      exact hY
    · refine rl_in (m := 0) (by decide) (fun j hj => ⟨1, by decide, ?_⟩) ⟨rfl, rfl, rfl, rfl, rfl⟩ ⟨rfl, rfl, rfl, rfl, rfl⟩
      dsimp only
      rw [if_pos hj]
      rfl
theorem i_vc_attribute {k : Nat} {u : SX} {v : SY} (I : i_Rel k u v) (hk : k + 5 ≤ 2560) (v1 : Int32) : wpX_attribute (fun r u' => wpY_attribute (fun r' v' => r' = r ∧ i_Rel (k + 5) u' v') v v1) u v1 := by
  refine rl_el (P := fun u v => wpX_attribute (fun r u' => wpY_attribute (fun r' v' => r' = r ∧ i_Rel (k + 5) u' v') v v1) u v1) ?_ I
  intro m f_raised f_trapped f_below f_value f_power f_rest f_wish f_exact a_format a_bits a_kind a_minus a_coefficient a_exponent a_wide y_more y_made y_kind y_exponent y_coefficient y_minus y_row hm hfo
  by_cases h : ∃ a : Nat, a < 5 ∧ v1 = nI a
  · obtain ⟨a, ha, rfl⟩ := h
    refine br_f (nI_pos (by omega)) (pk_le a 4 (fun _ => ?_) (fun h => absurd h (by omega)))
    unfold wpY_attribute
    dsimp only
    refine yw_in (n := 5) ha (by decide) ?_
    refine br_f (by decide) ⟨rfl, ?_⟩
    exact rl_in ha hfo ⟨rfl, rfl, rfl, rfl, rfl⟩ ⟨rfl, rfl, rfl, rfl, rfl⟩
  · have hY : wpY_attribute (fun r' v' => r' = 0 ∧ i_Rel (k + 5) (f_raised, f_trapped, nI m, f_below, f_value, f_power, f_rest, f_wish, f_exact, a_format, a_bits, a_kind, a_minus, a_coefficient, a_exponent, a_wide) v') (nI m, f_raised, f_trapped, y_more, y_made, a_format, a_bits, y_kind, y_exponent, y_coefficient, y_minus, y_row) v1 := by
      unfold wpY_attribute
      dsimp only
      refine yw_inN (n := 5) (by decide) h ?_
      exact br_t rfl ⟨rfl, rl_in hm hfo ⟨rfl, rfl, rfl, rfl, rfl⟩ ⟨rfl, rfl, rfl, rfl, rfl⟩⟩
    rcases pk_ix v1 (n := 5) (by decide) with h0 | h8 | hj
    · exact br_t h0 hY
    · refine br_c (fun _ => hY) (fun _ => br_f ?_ hY)
      intro h4
      rw [Int32.le_iff_toInt_le] at h8 h4
      have e5 : (nI 5).toInt = 5 := by decide
      have e4 : (4 : Int32).toInt = 4 := by decide
      omega
    · exact absurd hj h
theorem i_vc_flags {k : Nat} {u : SX} {v : SY} (I : i_Rel k u v) (hk : k + 5 ≤ 2560) (v1 : Int32) : wpX_flags (fun r u' => wpY_flags (fun r' v' => r' = r ∧ i_Rel (k + 5) u' v') v v1) u v1 := by
  refine rl_el (P := fun u v => wpX_flags (fun r u' => wpY_flags (fun r' v' => r' = r ∧ i_Rel (k + 5) u' v') v v1) u v1) ?_ I
  intro m f_raised f_trapped f_below f_value f_power f_rest f_wish f_exact a_format a_bits a_kind a_minus a_coefficient a_exponent a_wide y_more y_made y_kind y_exponent y_coefficient y_minus y_row hm hfo
  refine nm_e ?_
  refine nm_e ⟨rfl, ?_⟩
  exact rl_in hm hfo ⟨rfl, rfl, rfl, rfl, rfl⟩ ⟨rfl, rfl, rfl, rfl, rfl⟩
theorem i_vc_trap {k : Nat} {u : SX} {v : SY} (I : i_Rel k u v) (hk : k + 5 ≤ 2560) (v1 : Int32) : wpX_trap (fun r u' => wpY_trap (fun r' v' => r' = r ∧ i_Rel (k + 5) u' v') v v1) u v1 := by
  refine rl_el (P := fun u v => wpX_trap (fun r u' => wpY_trap (fun r' v' => r' = r ∧ i_Rel (k + 5) u' v') v v1) u v1) ?_ I
  intro m f_raised f_trapped f_below f_value f_power f_rest f_wish f_exact a_format a_bits a_kind a_minus a_coefficient a_exponent a_wide y_more y_made y_kind y_exponent y_coefficient y_minus y_row hm hfo
  by_cases h : ∃ a : Nat, a < 32 ∧ v1 = nI a
  · obtain ⟨a, ha, rfl⟩ := h
    refine br_f (nI_pos (by omega)) (pk_le a 31 (fun _ => ?_) (fun h => absurd h (by omega)))
    unfold wpY_trap
    dsimp only
    refine yw_in (n := 32) ha (by decide) ?_
    refine br_f (by decide) ⟨rfl, ?_⟩
    exact rl_in hm hfo ⟨rfl, rfl, rfl, rfl, rfl⟩ ⟨rfl, rfl, rfl, rfl, rfl⟩
  · have hY : wpY_trap (fun r' v' => r' = 0 ∧ i_Rel (k + 5) (f_raised, f_trapped, nI m, f_below, f_value, f_power, f_rest, f_wish, f_exact, a_format, a_bits, a_kind, a_minus, a_coefficient, a_exponent, a_wide) v') (nI m, f_raised, f_trapped, y_more, y_made, a_format, a_bits, y_kind, y_exponent, y_coefficient, y_minus, y_row) v1 := by
      unfold wpY_trap
      dsimp only
      refine yw_inN (n := 32) (by decide) h ?_
      exact br_t rfl ⟨rfl, rl_in hm hfo ⟨rfl, rfl, rfl, rfl, rfl⟩ ⟨rfl, rfl, rfl, rfl, rfl⟩⟩
    rcases pk_ix v1 (n := 32) (by decide) with h0 | h8 | hj
    · exact br_t h0 hY
    · refine br_c (fun _ => hY) (fun _ => br_f ?_ hY)
      intro h4
      rw [Int32.le_iff_toInt_le] at h8 h4
      have e5 : (nI 32).toInt = 32 := by decide
      have e4 : (31 : Int32).toInt = 31 := by decide
      omega
    · exact absurd hj h
theorem i_vc_put {k : Nat} {u : SX} {v : SY} (I : i_Rel k u v) (hk : k + 5 ≤ 2560) (v1 : Int32) (v2 : Int32) (v3 : Int32) : wpX_put (fun r u' => wpY_put (fun r' v' => r' = r ∧ i_Rel (k + 5) u' v') v v1 v2 v3) u v1 v2 v3 := by
  refine rl_el (P := fun u v => wpX_put (fun r u' => wpY_put (fun r' v' => r' = r ∧ i_Rel (k + 5) u' v') v v1 v2 v3) u v1 v2 v3) ?_ I
  intro m f_raised f_trapped f_below f_value f_power f_rest f_wish f_exact a_format a_bits a_kind a_minus a_coefficient a_exponent a_wide y_more y_made y_kind y_exponent y_coefficient y_minus y_row hm hfo
  have R0 : i_Rel (k + 5) (f_raised, f_trapped, nI m, f_below, f_value, f_power, f_rest, f_wish, f_exact, a_format, a_bits, a_kind, a_minus, a_coefficient, a_exponent, a_wide) (nI m, f_raised, f_trapped, y_more, y_made, a_format, a_bits, y_kind, y_exponent, y_coefficient, y_minus, y_row) := rl_in hm hfo ⟨rfl, rfl, rfl, rfl, rfl⟩ ⟨rfl, rfl, rfl, rfl, rfl⟩
  by_cases hr : ∃ a : Nat, a < 8 ∧ v1 = nI a
  · obtain ⟨a, ha, rfl⟩ := hr
    have hin : vp_in (nI a) 8 := vp_in_nI ha (by decide)
    by_cases hf : ∃ f : Nat, f < 4 ∧ v2 = nI f
    · obtain ⟨f, hf, rfl⟩ := hf
      unfold wpX_put
      dsimp only
      refine xw_isReg ha ?_
      have hfo' : ∀ j, j < 8 → ∃ g : Nat, g < 4 ∧ upd a_format a (nI f) j = nI g := by
        intro j hj
        by_cases h : j = a
        · exact ⟨f, hf, by rw [h]; exact pk_us⟩
        · obtain ⟨g, hg, eg⟩ := hfo j hj
          exact ⟨g, hg, by rw [pk_un h]; exact eg⟩
      have hY : ∀ x : Int32, x = (if f = 0 then v3 &&& 65535 else v3) → wpY_put (fun r' v' => r' = 1 ∧ i_Rel (k + 5) (f_raised, f_trapped, nI m, f_below, f_value, f_power, f_rest, f_wish, f_exact, upd a_format a (nI f), upd a_bits a x, a_kind, a_minus, a_coefficient, a_exponent, a_wide) v') (nI m, f_raised, f_trapped, y_more, y_made, a_format, a_bits, y_kind, y_exponent, y_coefficient, y_minus, y_row) (nI a) (nI f) v3 := by
        intro x hx
        unfold wpY_put
        dsimp only
        refine yw_in (n := 8) ha (by decide) ?_
        refine br_f (by decide) ?_
        refine yw_in (n := 4) hf (by decide) ?_
        refine br_f (by decide) ⟨hin, nm_e ?_⟩
        rw [nI_clamp (show a < 2 ^ 31 by omega)]
        refine pk_eq f 0 (fun h => ⟨hin, nm_e ⟨rfl, ?_⟩⟩) (fun h => ⟨hin, nm_e ⟨rfl, ?_⟩⟩)
        · rw [if_pos h] at hx
          rw [hx]
          exact rl_in hm hfo' ⟨rfl, rfl, rfl, rfl, rfl⟩ ⟨rfl, rfl, rfl, rfl, rfl⟩
        · rw [if_neg h] at hx
          rw [hx]
          exact rl_in hm hfo' ⟨rfl, rfl, rfl, rfl, rfl⟩ ⟨rfl, rfl, rfl, rfl, rfl⟩
      refine br_f (by decide) (br_f (nI_pos (by omega)) (pk_le f 3 (fun _ => ⟨hin, nm_e ?_⟩) (fun h => absurd h (by omega))))
      rw [nI_clamp (show a < 2 ^ 31 by omega), zz_vby' hf]
      refine pk_eq f 0 (fun h => ⟨hin, nm_e ?_⟩) (fun h => ⟨hin, nm_e ?_⟩)
      · exact hY _ (by rw [if_pos h])
      · exact hY _ (by rw [if_neg h])
    · have hY : wpY_put (fun r' v' => r' = 0 ∧ i_Rel (k + 5) (f_raised, f_trapped, nI m, f_below, f_value, f_power, f_rest, f_wish, f_exact, a_format, a_bits, a_kind, a_minus, a_coefficient, a_exponent, a_wide) v') (nI m, f_raised, f_trapped, y_more, y_made, a_format, a_bits, y_kind, y_exponent, y_coefficient, y_minus, y_row) (nI a) v2 v3 := by
        unfold wpY_put
        dsimp only
        refine yw_in (n := 8) ha (by decide) ?_
        refine br_f (by decide) ?_
        refine yw_inN (n := 4) (by decide) hf ?_
        exact br_t rfl ⟨rfl, R0⟩
      unfold wpX_put
      dsimp only
      refine xw_isReg ha ?_
      refine br_f (by decide) ?_
      rcases pk_ix v2 (n := 4) (by decide) with h0 | h8 | hj
      · exact br_t h0 hY
      · refine br_c (fun _ => hY) (fun _ => br_f ?_ hY)
        intro h4
        rw [Int32.le_iff_toInt_le] at h8 h4
        have e5 : (nI 4).toInt = 4 := by decide
        have e4 : (3 : Int32).toInt = 3 := by decide
        omega
      · exact absurd hj hf
  · unfold wpX_put
    dsimp only
    refine xw_isRegN hr (br_t rfl ?_)
    unfold wpY_put
    dsimp only
    refine yw_inN (n := 8) (by decide) hr ?_
    exact br_t rfl ⟨rfl, R0⟩
theorem i_vc_at {k : Nat} {u : SX} {v : SY} (I : i_Rel k u v) (hk : k + 5 ≤ 2560) (v1 : Int32) (v2 : Int32) : wpX_at (fun r u' => wpY_at (fun r' v' => r' = r ∧ i_Rel (k + 5) u' v') v v1 v2) u v1 v2 := by
  refine rl_el (P := fun u v => wpX_at (fun r u' => wpY_at (fun r' v' => r' = r ∧ i_Rel (k + 5) u' v') v v1 v2) u v1 v2) ?_ I
  intro m f_raised f_trapped f_below f_value f_power f_rest f_wish f_exact a_format a_bits a_kind a_minus a_coefficient a_exponent a_wide y_more y_made y_kind y_exponent y_coefficient y_minus y_row hm hfo
  have R0 : ∀ (u' : SX) (v' : SY), xs_S u' f_raised f_trapped (nI m) a_format a_bits → ys_S v' f_raised f_trapped (nI m) a_format a_bits → i_Rel (k + 5) u' v' := fun u' v' h1 h2 => rl_in hm hfo h1 h2
  by_cases hr : ∃ a : Nat, a < 8 ∧ v1 = nI a
  · obtain ⟨a, ha, rfl⟩ := hr
    have hin : vp_in (nI a) 8 := vp_in_nI ha (by decide)
    have hca : (nI a).toNatClampNeg = a := nI_clamp (by omega)
    obtain ⟨f, hf, ef⟩ := hfo a ha
    have hM := op_M_lt f (a_bits a)
    by_cases hw : ∃ w : Nat, w < 6 ∧ v2 = nI w
    · obtain ⟨w, hw, rfl⟩ := hw
      unfold wpX_at
      dsimp only
      refine xw_isReg ha ?_
      refine br_f (by decide) (br_f (nI_pos (by omega)) (pk_le w 5 (fun _ => ?_) (fun h => absurd h (by omega))))
      refine xw_open (k := 0) ha (by decide) hf ef ?_
      intro ak am ac ae hSl _
      dsimp only
      have hY : ∀ r : Int32, (w = 0 → r = a_bits a) → (w = 1 → r = a_format a) → (w = 2 → r = ak 0) → (w = 3 → r = am 0) → (w = 4 → r = ae 0) → (w = 5 → r = (ac 0).toInt32) → wpY_at (fun r' v' => r' = r ∧ i_Rel (k + 5) (f_raised, f_trapped, nI m, f_below, f_value, f_power, f_rest, f_wish, f_exact, a_format, a_bits, ak, am, ac, ae, a_wide) v') (nI m, f_raised, f_trapped, y_more, y_made, a_format, a_bits, y_kind, y_exponent, y_coefficient, y_minus, y_row) (nI a) (nI w) := by
        intro r r0 r1 r2 r3 r4 r5
        unfold wpY_at
        dsimp only
        refine yw_in (n := 8) ha (by decide) ?_
        refine br_f (by decide) ?_
        refine yw_open (k := 0) ha (by decide) hf ef ?_
        intro bk bm bc be hSl2 _
        dsimp only
        refine br_f (nI_pos (by omega)) (pk_lt 5 w (fun h => absurd h (by omega)) (fun _ => ?_))
        refine pk_eq w 0 (fun h => ⟨hin, ?_, R0 _ _ ⟨rfl, rfl, rfl, rfl, rfl⟩ ⟨rfl, rfl, rfl, rfl, rfl⟩⟩) (fun h => pk_eq w 1 (fun h => ⟨hin, ?_, R0 _ _ ⟨rfl, rfl, rfl, rfl, rfl⟩ ⟨rfl, rfl, rfl, rfl, rfl⟩⟩) (fun h => pk_eq w 2 (fun h => ⟨?_, R0 _ _ ⟨rfl, rfl, rfl, rfl, rfl⟩ ⟨rfl, rfl, rfl, rfl, rfl⟩⟩) (fun h => pk_eq w 3 (fun h => ?_) (fun h => pk_eq w 4 (fun h => ⟨?_, R0 _ _ ⟨rfl, rfl, rfl, rfl, rfl⟩ ⟨rfl, rfl, rfl, rfl, rfl⟩⟩) (fun h => pk_eq w 5 (fun h => ⟨?_, R0 _ _ ⟨rfl, rfl, rfl, rfl, rfl⟩ ⟨rfl, rfl, rfl, rfl, rfl⟩⟩) (fun h => True.intro))))))
        · rw [hca, r0 h]
        · rw [hca, r1 h]
        · rw [r2 h, hSl.1, hSl2.1]
        · rw [hSl2.2.1]
          have e3 := r3 h
          rw [hSl.2.1] at e3
          refine pk_eq (op_M f (a_bits a)) 0 (fun h0 => ⟨?_, R0 _ _ ⟨rfl, rfl, rfl, rfl, rfl⟩ ⟨rfl, rfl, rfl, rfl, rfl⟩⟩) (fun h0 => ⟨?_, R0 _ _ ⟨rfl, rfl, rfl, rfl, rfl⟩ ⟨rfl, rfl, rfl, rfl, rfl⟩⟩)
          · rw [e3, h0]
            rfl
          · rw [e3, show op_M f (a_bits a) = 1 by omega]
            rfl
        · rw [r4 h, hSl.2.2.2, hSl2.2.2.2]
        · rw [r5 h, hSl.2.2.1, hSl2.2.2.1]
      refine br_f (nI_pos (by omega)) (pk_lt 4 w (fun h => ?_) (fun h => pk_eq w 0 (fun h => ⟨hin, ?_⟩) (fun h => pk_eq w 1 (fun h => ⟨hin, ?_⟩) (fun h => pk_eq w 2 (fun h => ?_) (fun h => pk_eq w 3 (fun h => ?_) (fun h => pk_eq w 4 (fun h => ?_) (fun h => True.intro)))))))
      · exact hY _ (fun h => absurd h (by omega)) (fun h => absurd h (by omega)) (fun h => absurd h (by omega)) (fun h => absurd h (by omega)) (fun h => absurd h (by omega)) (fun _ => rfl)
      · exact hY _ (fun _ => by rw [hca]) (fun h => absurd h (by omega)) (fun h => absurd h (by omega)) (fun h => absurd h (by omega)) (fun h => absurd h (by omega)) (fun h => absurd h (by omega))
      · exact hY _ (fun h => absurd h (by omega)) (fun _ => by rw [hca]) (fun h => absurd h (by omega)) (fun h => absurd h (by omega)) (fun h => absurd h (by omega)) (fun h => absurd h (by omega))
      · exact hY _ (fun h => absurd h (by omega)) (fun h => absurd h (by omega)) (fun _ => rfl) (fun h => absurd h (by omega)) (fun h => absurd h (by omega)) (fun h => absurd h (by omega))
      · rw [hSl.2.1]
        refine pk_eq (op_M f (a_bits a)) 0 (fun h0 => ?_) (fun h0 => ?_)
        · refine hY _ (fun h => absurd h (by omega)) (fun h => absurd h (by omega)) (fun h => absurd h (by omega)) (fun _ => ?_) (fun h => absurd h (by omega)) (fun h => absurd h (by omega))
          rw [hSl.2.1, h0]
          rfl
        · refine hY _ (fun h => absurd h (by omega)) (fun h => absurd h (by omega)) (fun h => absurd h (by omega)) (fun _ => ?_) (fun h => absurd h (by omega)) (fun h => absurd h (by omega))
          rw [hSl.2.1, show op_M f (a_bits a) = 1 by omega]
          rfl
      · exact hY _ (fun h => absurd h (by omega)) (fun h => absurd h (by omega)) (fun h => absurd h (by omega)) (fun h => absurd h (by omega)) (fun _ => rfl) (fun h => absurd h (by omega))
    · have hY : wpY_at (fun r' v' => r' = 0 ∧ i_Rel (k + 5) (f_raised, f_trapped, nI m, f_below, f_value, f_power, f_rest, f_wish, f_exact, a_format, a_bits, a_kind, a_minus, a_coefficient, a_exponent, a_wide) v') (nI m, f_raised, f_trapped, y_more, y_made, a_format, a_bits, y_kind, y_exponent, y_coefficient, y_minus, y_row) (nI a) v2 := by
        unfold wpY_at
        dsimp only
        refine yw_in (n := 8) ha (by decide) ?_
        refine br_f (by decide) ?_
        refine yw_open (k := 0) ha (by decide) hf ef ?_
        intro bk bm bc be hSl2 _
        dsimp only
        have hr0 : (0 : Int32) = 0 ∧ i_Rel (k + 5) (f_raised, f_trapped, nI m, f_below, f_value, f_power, f_rest, f_wish, f_exact, a_format, a_bits, a_kind, a_minus, a_coefficient, a_exponent, a_wide) (nI m, f_raised, f_trapped, y_more, y_made, a_format, a_bits, bk, be, bc, bm, y_row) := ⟨rfl, R0 _ _ ⟨rfl, rfl, rfl, rfl, rfl⟩ ⟨rfl, rfl, rfl, rfl, rfl⟩⟩
        rcases pk_ix v2 (n := 6) (by decide) with h0 | h8 | hj
        · exact br_t h0 hr0
        · refine br_c (fun _ => hr0) (fun _ => br_t ?_ hr0)
          rw [Int32.lt_iff_toInt_lt]
          rw [Int32.le_iff_toInt_le] at h8
          have e5 : (nI 6).toInt = 6 := by decide
          have e4 : (5 : Int32).toInt = 5 := by decide
          omega
        · exact absurd hj hw
      unfold wpX_at
      dsimp only
      refine xw_isReg ha ?_
      refine br_f (by decide) ?_
      rcases pk_ix v2 (n := 6) (by decide) with h0 | h8 | hj
      · exact br_t h0 hY
      · refine br_c (fun _ => hY) (fun _ => br_f ?_ hY)
        intro h4
        rw [Int32.le_iff_toInt_le] at h8 h4
        have e5 : (nI 6).toInt = 6 := by decide
        have e4 : (5 : Int32).toInt = 5 := by decide
        omega
      · exact absurd hj hw
  · unfold wpX_at
    dsimp only
    refine xw_isRegN hr (br_t rfl ?_)
    unfold wpY_at
    dsimp only
    refine yw_inN (n := 8) (by decide) hr ?_
    exact br_t rfl ⟨rfl, R0 _ _ ⟨rfl, rfl, rfl, rfl, rfl⟩ ⟨rfl, rfl, rfl, rfl, rfl⟩⟩
end
section
/-! arithmetic -/
theorem op_Vof {f b : Nat} (hf : f < 4) (hb : fm_b f = b) (x : Int32) : op_V b (op_K f x) (op_M f x) (op_C f x) (op_E f x) := by
  have hff := fm_facts hf
  have hC := op_C_lt hf x
  have hE := op_E_r hf x
  refine ⟨op_K_lt f x, op_M_lt f x, ?_⟩
  rcases (show f = 0 ∨ f = 1 ∨ f = 2 ∨ f = 3 by omega) with rfl | rfl | rfl | rfl
  · have h1 : op_C 0 x < 2048 := hC
    have h2 : fm_l 0 = -24 := rfl
    have h3 : fm_g 0 = 5 := rfl
    have h4 : fm_b 0 = 2 := rfl
    left
    omega
  · have h1 : op_C 1 x < 16777216 := hC
    have h2 : fm_l 1 = -149 := rfl
    have h3 : fm_g 1 = 104 := rfl
    have h4 : fm_b 1 = 2 := rfl
    left
    omega
  · have h1 : op_C 2 x < 10000000 := hC
    have h2 : fm_l 2 = -101 := rfl
    have h3 : fm_g 2 = 90 := rfl
    have h4 : fm_b 2 = 10 := rfl
    right
    omega
  · have h1 : op_C 3 x < 10000000 := hC
    have h2 : fm_l 3 = -101 := rfl
    have h3 : fm_g 3 = 90 := rfl
    have h4 : fm_b 3 = 10 := rfl
    right
    omega
def ar_X (op f m K0 M0 C0 K1 M1 C1 : Nat) (E0 E1 : Int) (fl pt : Int32) : Prop := ∀ (f_raised : Int32) (f_trapped : Int32) (f_below : Int32) (f_value : Int64) (f_power : Int32) (f_rest : Int32) (f_wish : Int32) (f_exact : Int32) (a_format : Nat → Int32) (a_bits : Nat → Int32) (a_kind : Nat → Int32) (a_minus : Nat → Int32) (a_coefficient : Nat → Int64) (a_exponent : Nat → Int32) (a_wide : Nat → Int32) (post : Int32 → SX → Prop) (d : Nat), d < 8 → a_format d = nI f → op_Sl a_kind a_minus a_coefficient a_exponent 0 K0 M0 C0 E0 → op_Sl a_kind a_minus a_coefficient a_exponent 1 K1 M1 C1 E1 → xs_D post f_raised f_trapped (nI m) a_format a_bits d fl pt → wX_arithmetic_112 post (nI op) (nI d) f_raised f_trapped (nI m) f_below f_value f_power f_rest f_wish f_exact a_format a_bits a_kind a_minus a_coefficient a_exponent a_wide
def ar_Y (op f m K0 M0 C0 K1 M1 C1 : Nat) (E0 E1 : Int) (fl pt : Int32) : Prop := ∀ (f_raised : Int32) (f_trapped : Int32) (f_more : Int32) (f_made : Int32) (a_format : Nat → Int32) (a_pattern : Nat → Int32) (a_kind : Nat → Int32) (a_exponent : Nat → Int32) (a_coefficient : Nat → Int64) (a_minus : Nat → Int32) (a_row : Nat → Int32) (post : Int32 → SY → Prop) (d : Nat), d < 8 → a_format d = nI f → op_Sl a_kind a_minus a_coefficient a_exponent 0 K0 M0 C0 E0 → op_Sl a_kind a_minus a_coefficient a_exponent 1 K1 M1 C1 E1 → ys_D post f_raised f_trapped (nI m) a_format a_pattern d fl pt → wY_arithmetic_118 post (nI op) (nI d) (nI f) (nI m) f_raised f_trapped f_more f_made a_format a_pattern a_kind a_exponent a_coefficient a_minus a_row
theorem ar_op {op f m K0 M0 C0 K1 M1 C1 : Nat} {E0 E1 : Int} (hop : op < 6) (h5 : op = 5 → 2 ≤ f) (hf : f < 4) (hm : m < 5) (V0 : op_V (fm_b f) K0 M0 C0 E0) (V1 : op_V (fm_b f) K1 M1 C1 E1) (k0 : K0 = 2 ∨ K0 = 3) (k1 : K1 = 2 ∨ K1 = 3) : ∃ fl pt : Int32, bt_ok f fl pt ∧ ar_X op f m K0 M0 C0 K1 M1 C1 E0 E1 fl pt ∧ ar_Y op f m K0 M0 C0 K1 M1 C1 E0 E1 fl pt := by
  by_cases o1 : op < 2
  · obtain ⟨fl, pt, ok, HX, HY⟩ := bo_sum hf hm V0.2.1 V1.2.1 V0.1 V1.1 (op_Vs V0) (op_Vs V1)
    refine ⟨fl, pt, ok, ?_, ?_⟩
    · intro f_raised f_trapped f_below f_value f_power f_rest f_wish f_exact a_format a_bits a_kind a_minus a_coefficient a_exponent a_wide post d hd ef S0 S1 HD
      have h : wX_arithmetic_148 post (nI d) f_raised f_trapped (nI m) f_below f_value f_power f_rest f_wish f_exact a_format a_bits a_kind a_minus a_coefficient a_exponent a_wide := HX _ _ _ _ _ _ _ _ _ _ _ _ _ _ _ _ d 0 1 hd (by decide) (by decide) ef S0 S1 (fun u' h => HD u' h)
      refine br_f (nI_pos (by omega)) (pk_lt 4 op (fun h => absurd h (by omega)) (fun _ => pk_eq op 0 (fun _ => h) (fun _ => pk_eq op 1 (fun _ => h) (fun h => absurd o1 (by omega)))))
    · intro f_raised f_trapped f_more f_made a_format a_pattern a_kind a_exponent a_coefficient a_minus a_row post d hd ef S0 S1 HD
      have h : wY_arithmetic_152 post (nI d) (nI f) (nI m) f_raised f_trapped f_more f_made a_format a_pattern a_kind a_exponent a_coefficient a_minus a_row := by
        refine HY _ _ _ _ _ _ _ _ _ _ _ _ S0 S1 ?_
        intro u' h1 h2
        exact yw_finish h1 hd hf ef ok h2 (fun v' hv => HD v' hv)
      refine br_f (nI_pos (by omega)) (pk_lt 4 op (fun h => absurd h (by omega)) (fun _ => pk_eq op 0 (fun _ => h) (fun _ => pk_eq op 1 (fun _ => h) (fun h => absurd o1 (by omega)))))
  by_cases o2 : op = 2
  · obtain ⟨fl, pt, ok, HX, HY⟩ := bo_prod (m := m) hf hm V0 V1
    refine ⟨fl, pt, ok, ?_, ?_⟩
    · intro f_raised f_trapped f_below f_value f_power f_rest f_wish f_exact a_format a_bits a_kind a_minus a_coefficient a_exponent a_wide post d hd ef S0 S1 HD
      refine br_f (nI_pos (by omega)) (pk_lt 4 op (fun h => absurd h (by omega)) (fun _ => pk_eq op 0 (fun h => absurd h (by omega)) (fun _ => pk_eq op 1 (fun h => absurd h (by omega)) (fun _ => pk_eq op 2 (fun _ => ?_) (fun h => absurd o2 h)))))
      exact HX _ _ _ _ _ _ _ _ _ _ _ _ _ _ _ _ d hd ef S0 S1 (fun u' h => HD u' h)
    · intro f_raised f_trapped f_more f_made a_format a_pattern a_kind a_exponent a_coefficient a_minus a_row post d hd ef S0 S1 HD
      refine br_f (nI_pos (by omega)) (pk_lt 4 op (fun h => absurd h (by omega)) (fun _ => pk_eq op 0 (fun h => absurd h (by omega)) (fun _ => pk_eq op 1 (fun h => absurd h (by omega)) (fun _ => pk_eq op 2 (fun _ => ?_) (fun h => absurd o2 h)))))
      refine HY _ _ _ _ _ _ _ _ _ _ _ _ S0 S1 ?_
      intro u' h1 h2
      exact yw_finish h1 hd hf ef ok h2 (fun v' hv => HD v' hv)
  by_cases o3 : op = 3
  · obtain ⟨fl, pt, ok, HX, HY⟩ := bo_quot (m := m) hf hm V0 V1 k0 k1
    refine ⟨fl, pt, ok, ?_, ?_⟩
    · intro f_raised f_trapped f_below f_value f_power f_rest f_wish f_exact a_format a_bits a_kind a_minus a_coefficient a_exponent a_wide post d hd ef S0 S1 HD
      refine br_f (nI_pos (by omega)) (pk_lt 4 op (fun h => absurd h (by omega)) (fun _ => pk_eq op 0 (fun h => absurd h (by omega)) (fun _ => pk_eq op 1 (fun h => absurd h (by omega)) (fun _ => pk_eq op 2 (fun h => absurd h o2) (fun _ => pk_eq op 3 (fun _ => ?_) (fun h => absurd o3 h))))))
      exact HX _ _ _ _ _ _ _ _ _ _ _ _ _ _ _ _ d hd ef S0 S1 (fun u' h => HD u' h)
    · intro f_raised f_trapped f_more f_made a_format a_pattern a_kind a_exponent a_coefficient a_minus a_row post d hd ef S0 S1 HD
      refine br_f (nI_pos (by omega)) (pk_lt 4 op (fun h => absurd h (by omega)) (fun _ => pk_eq op 0 (fun h => absurd h (by omega)) (fun _ => pk_eq op 1 (fun h => absurd h (by omega)) (fun _ => pk_eq op 2 (fun h => absurd h o2) (fun _ => pk_eq op 3 (fun _ => ?_) (fun h => absurd o3 h))))))
      refine HY _ _ _ _ _ _ _ _ _ _ _ _ S0 S1 ?_
      intro u' h1 h2
      exact yw_finish h1 hd hf ef ok h2 (fun v' hv => HD v' hv)
  by_cases o4 : op = 4
  · obtain ⟨fl, pt, ok, HX, HY⟩ := bo_rem (m := m) hf hm V0 V1 k0 k1
    refine ⟨fl, pt, ok, ?_, ?_⟩
    · intro f_raised f_trapped f_below f_value f_power f_rest f_wish f_exact a_format a_bits a_kind a_minus a_coefficient a_exponent a_wide post d hd ef S0 S1 HD
      refine br_f (nI_pos (by omega)) (pk_lt 4 op (fun h => absurd h (by omega)) (fun _ => pk_eq op 0 (fun h => absurd h (by omega)) (fun _ => pk_eq op 1 (fun h => absurd h (by omega)) (fun _ => pk_eq op 2 (fun h => absurd h o2) (fun _ => pk_eq op 3 (fun h => absurd h o3) (fun _ => pk_eq op 4 (fun _ => ?_) (fun h => absurd o4 h)))))))
      exact HX _ _ _ _ _ _ _ _ _ _ _ _ _ _ _ _ d hd ef S0 S1 (fun u' h => HD u' h)
    · intro f_raised f_trapped f_more f_made a_format a_pattern a_kind a_exponent a_coefficient a_minus a_row post d hd ef S0 S1 HD
      refine br_f (nI_pos (by omega)) (pk_lt 4 op (fun h => absurd h (by omega)) (fun _ => pk_eq op 0 (fun h => absurd h (by omega)) (fun _ => pk_eq op 1 (fun h => absurd h (by omega)) (fun _ => pk_eq op 2 (fun h => absurd h o2) (fun _ => pk_eq op 3 (fun h => absurd h o3) (fun _ => pk_eq op 4 (fun _ => ?_) (fun h => absurd o4 h)))))))
      refine HY _ _ _ _ _ _ _ _ _ _ _ _ S0 S1 ?_
      intro u' h1 h2
      exact yw_finish h1 hd hf ef ok h2 (fun v' hv => HD v' hv)
  · have h2f := h5 (by omega)
    obtain ⟨fl, pt, ok, HX, HY⟩ := bo_quan (m := m) (show f = 2 ∨ f = 3 by omega) hm V0 V1 k0 k1
    refine ⟨fl, pt, ok, ?_, ?_⟩
    · intro f_raised f_trapped f_below f_value f_power f_rest f_wish f_exact a_format a_bits a_kind a_minus a_coefficient a_exponent a_wide post d hd ef S0 S1 HD
      refine br_f (nI_pos (by omega)) (pk_lt 4 op (fun _ => ?_) (fun h => absurd h (by omega)))
      exact HX _ _ _ _ _ _ _ _ _ _ _ _ _ _ _ _ d hd ef S0 S1 (fun u' h => HD u' h)
    · intro f_raised f_trapped f_more f_made a_format a_pattern a_kind a_exponent a_coefficient a_minus a_row post d hd ef S0 S1 HD
      refine br_f (nI_pos (by omega)) (pk_lt 4 op (fun _ => ?_) (fun h => absurd h (by omega)))
      refine HY _ _ _ _ _ _ _ _ _ _ _ _ S0 S1 ?_
      intro u' h1 h2
      exact yw_finish h1 hd hf ef ok h2 (fun v' hv => HD v' hv)
theorem ar_kk {K0 K1 : Nat} (h0 : K0 < 4) (h1 : K1 < 4) (ak : Nat → Int32) (e0 : ak 0 = nI K0) (e1 : ak 1 = nI K1) : ∀ j, j < 2 → ak j = nI ((fun j => if j = 0 then K0 else K1) j) ∧ (fun j => if j = 0 then K0 else K1) j < 4 := by
  intro j hj
  rcases (show j = 0 ∨ j = 1 by omega) with rfl | rfl
  · exact ⟨e0, h0⟩
  · exact ⟨e1, h1⟩
def ar_M (op M : Nat) : Nat := if op = 1 then 1 - M else M
/-- from the opened operands on: one outcome -/
theorem ar_main {op f fa fb m : Nat} {x y : Int32} (hop : op < 6) (h5 : op = 5 → 2 ≤ f) (hf : f < 4) (hfa : fa < 4) (hfb : fb < 4) (ha : fm_b fa = fm_b f) (hb : fm_b fb = fm_b f) (hm : m < 5) : ∃ fl pt : Int32, bt_ok f fl pt ∧ (∀ (f_raised : Int32) (f_trapped : Int32) (f_below : Int32) (f_value : Int64) (f_power : Int32) (f_rest : Int32) (f_wish : Int32) (f_exact : Int32) (a_format : Nat → Int32) (a_bits : Nat → Int32) (a_kind : Nat → Int32) (a_minus : Nat → Int32) (a_coefficient : Nat → Int64) (a_exponent : Nat → Int32) (a_wide : Nat → Int32) (post : Int32 → SX → Prop) (d a b : Nat), d < 8 → a < 8 → b < 8 → a_format d = nI f → a_format a = nI fa → a_format b = nI fb → a_bits a = x → a_bits b = y → xs_D post f_raised f_trapped (nI m) a_format a_bits d fl pt → wX_arithmetic_58 post (nI op) (nI d) (nI a) (nI b) f_raised f_trapped (nI m) f_below f_value f_power f_rest f_wish f_exact a_format a_bits a_kind a_minus a_coefficient a_exponent a_wide) ∧ (∀ (f_raised : Int32) (f_trapped : Int32) (f_more : Int32) (f_made : Int32) (a_format : Nat → Int32) (a_pattern : Nat → Int32) (a_kind : Nat → Int32) (a_exponent : Nat → Int32) (a_coefficient : Nat → Int64) (a_minus : Nat → Int32) (a_row : Nat → Int32) (post : Int32 → SY → Prop) (d a b : Nat), d < 8 → a < 8 → b < 8 → a_format d = nI f → a_format a = nI fa → a_format b = nI fb → a_pattern a = x → a_pattern b = y → ys_D post f_raised f_trapped (nI m) a_format a_pattern d fl pt → wY_arithmetic_51 post (nI op) (nI d) (nI a) (nI b) (nI f) (nI m) f_raised f_trapped f_more f_made a_format a_pattern a_kind a_exponent a_coefficient a_minus a_row) := by
  have V0 := op_Vof hfa ha x
  have V1 := op_Vof hfb hb y
  obtain ⟨hK0, hM0, _⟩ := id V0
  obtain ⟨hK1, hM1, _⟩ := id V1
  have c1 : (1 : Int32).toNatClampNeg = 1 := by decide
  by_cases hn : ∀ j, j < 2 → ¬ (fun j => if j = 0 then op_K fa x else op_K fb y) j < 2
  · have n0 : ¬ op_K fa x < 2 := hn 0 (by decide)
    have n1 : ¬ op_K fb y < 2 := hn 1 (by decide)
    have V1' : op_V (fm_b f) (op_K fb y) (ar_M op (op_M fb y)) (op_C fb y) (op_E fb y) := ⟨hK1, by unfold ar_M; split <;> omega, V1.2.2⟩
    obtain ⟨fl, pt, ok, HX, HY⟩ := ar_op (m := m) hop h5 hf hm V0 V1' (by omega) (by omega)
    refine ⟨fl, pt, ok, ?_, ?_⟩
    · intro f_raised f_trapped f_below f_value f_power f_rest f_wish f_exact a_format a_bits a_kind a_minus a_coefficient a_exponent a_wide post d a b hd hAl hBl ef efa efb hx hy HD
      subst hx hy
      rw [wX_arithmetic_58]
      refine xw_open (k := 0) hAl (by decide) hfa efa ?_
      intro ak am ac ae S0 _
      dsimp only
      refine xw_open (k := 1) hBl (by decide) hfb efb ?_
      intro bk bm bc be S1 oth
      dsimp only
      obtain ⟨o1, o2, o3, o4⟩ := oth 0 (by decide)
      have S0' : op_Sl bk bm bc be 0 (op_K fa (a_bits a)) (op_M fa (a_bits a)) (op_C fa (a_bits a)) (op_E fa (a_bits a)) := ⟨o1.trans S0.1, o2.trans S0.2.1, o3.trans S0.2.2.1, o4.trans S0.2.2.2⟩
      refine xw_nans (many := 2) hd hf ef (by decide) (ar_kk hK0 hK1 bk S0'.1 S1.1) (fun _ => ?_) (fun lo _ _ hh => absurd hn hh)
      dsimp only
      refine br_t (by decide) (pk_eq op 1 (fun h1 => ?_) (fun h1 => ?_))
      · rw [S1.2.1]
        have go : ∀ s : Nat, s < 2 → s = ar_M op (op_M fb (a_bits b)) → wX_arithmetic_111 post (nI op) (nI d) (nI s) 1 f_raised f_trapped (nI m) f_below f_value f_power f_rest f_wish f_exact a_format a_bits bk bm bc be a_wide := by
          intro s hs es
          refine And.intro (vp_in_nI (n := 1) (by decide) (by decide)) (nm_e ?_)
          rw [c1, zz_vb hs]
          refine HX _ _ _ _ _ _ _ _ _ _ _ _ _ _ _ post d hd ef ⟨S0'.1, ?_, S0'.2.2.1, S0'.2.2.2⟩ ⟨S1.1, ?_, S1.2.2.1, S1.2.2.2⟩ HD
          · rw [pk_un (by decide)]
            exact S0'.2.1
          · rw [pk_us, es]
        refine pk_eq (op_M fb (a_bits b)) 0 (fun h0 => go 1 (by decide) ?_) (fun h0 => go 0 (by decide) ?_)
        · unfold ar_M
          rw [if_pos h1, h0]
        · unfold ar_M
          rw [if_pos h1]
          omega
      · have eM : ar_M op (op_M fb (a_bits b)) = op_M fb (a_bits b) := by
          unfold ar_M
          rw [if_neg h1]
        rw [eM] at HX
        exact HX _ _ _ _ _ _ _ _ _ _ _ _ _ _ _ post d hd ef S0' S1 HD
    · intro f_raised f_trapped f_more f_made a_format a_pattern a_kind a_exponent a_coefficient a_minus a_row post d a b hd hAl hBl ef efa efb hx hy HD
      subst hx hy
      rw [wY_arithmetic_51]
      refine yw_open (k := 0) hAl (by decide) hfa efa ?_
      intro ak am ac ae S0 _
      dsimp only
      refine yw_open (k := 1) hBl (by decide) hfb efb ?_
      intro bk bm bc be S1 oth
      dsimp only
      obtain ⟨o1, o2, o3, o4⟩ := oth 0 (by decide)
      have S0' : op_Sl bk bm bc be 0 (op_K fa (a_pattern a)) (op_M fa (a_pattern a)) (op_C fa (a_pattern a)) (op_E fa (a_pattern a)) := ⟨o1.trans S0.1, o2.trans S0.2.1, o3.trans S0.2.2.1, o4.trans S0.2.2.2⟩
      refine yw_nans (many := 2) (by decide) (ar_kk hK0 hK1 bk S0'.1 S1.1) (fun _ => ?_) (fun lo _ _ hh => absurd hn hh)
      refine br_t (by decide) (pk_eq op 1 (fun h1 => ?_) (fun h1 => ?_))
      · rw [S1.2.1]
        have go : ∀ s : Nat, s < 2 → s = ar_M op (op_M fb (a_pattern b)) → wY_arithmetic_117 post (nI op) (nI d) (nI f) (nI s) 1 (nI m) f_raised f_trapped f_more f_made a_format a_pattern bk be bc bm a_row := by
          intro s hs es
          refine And.intro (vp_in_nI (n := 1) (by decide) (by decide)) (nm_e ?_)
          rw [c1, zz_vb hs]
          refine HY _ _ _ _ _ _ _ _ _ _ _ post d hd ef ⟨S0'.1, ?_, S0'.2.2.1, S0'.2.2.2⟩ ⟨S1.1, ?_, S1.2.2.1, S1.2.2.2⟩ HD
          · rw [pk_un (by decide)]
            exact S0'.2.1
          · rw [pk_us, es]
        refine pk_eq (op_M fb (a_pattern b)) 0 (fun h0 => go 1 (by decide) ?_) (fun h0 => go 0 (by decide) ?_)
        · unfold ar_M
          rw [if_pos h1, h0]
        · unfold ar_M
          rw [if_pos h1]
          omega
      · have eM : ar_M op (op_M fb (a_pattern b)) = op_M fb (a_pattern b) := by
          unfold ar_M
          rw [if_neg h1]
        rw [eM] at HY
        exact HY _ _ _ _ _ _ _ _ _ _ _ post d hd ef S0' S1 HD
  · obtain ⟨lo, hlo, elo⟩ : ∃ lo : Nat, lo < 2 ∧ (lo = 0 ↔ ∀ j, j < 2 → ¬ (fun j => if j = 0 then op_K fa x else op_K fb y) j = 0) := by
      by_cases h : ∀ j, j < 2 → ¬ (fun j => if j = 0 then op_K fa x else op_K fb y) j = 0
      · exact ⟨0, by decide, fun _ => h, fun _ => rfl⟩
      · exact ⟨1, by decide, fun h1 => absurd h1 (by decide), fun h1 => absurd h1 h⟩
    have uniq : ∀ lo' : Nat, lo' < 2 → (lo' = 0 ↔ ∀ j, j < 2 → ¬ (fun j => if j = 0 then op_K fa x else op_K fb y) j = 0) → lo' = lo := by
      intro lo' h1 h2
      have := h2.trans elo.symm
      omega
    have nneg : ¬ nI lo < 0 := nI_pos (by omega)
    have hok : bt_ok f (nI lo) (pa_nan f) := by
      rcases (show lo = 0 ∨ lo = 1 by omega) with rfl | rfl
      · exact Or.inr (by decide)
      · exact Or.inl ⟨rfl, rfl⟩
    refine ⟨nI lo, pa_nan f, hok, ?_, ?_⟩
    · intro f_raised f_trapped f_below f_value f_power f_rest f_wish f_exact a_format a_bits a_kind a_minus a_coefficient a_exponent a_wide post d a b hd hAl hBl ef efa efb hx hy HD
      subst hx hy
      rw [wX_arithmetic_58]
      refine xw_open (k := 0) hAl (by decide) hfa efa ?_
      intro ak am ac ae S0 _
      dsimp only
      refine xw_open (k := 1) hBl (by decide) hfb efb ?_
      intro bk bm bc be S1 oth
      dsimp only
      obtain ⟨o1, o2, o3, o4⟩ := oth 0 (by decide)
      refine xw_nans (many := 2) hd hf ef (by decide) (ar_kk hK0 hK1 bk (o1.trans S0.1) S1.1) (fun h => absurd h hn) (fun lo' h1 h2 _ => ?_)
      rw [uniq lo' h1 h2]
      intro u' hu
      obtain ⟨z1, z2, z3, z4, z5, z6, z7, z8, z9, z10, z11, z12, z13, z14, z15, z16⟩ := u'
      exact br_f nneg (HD _ hu)
    · intro f_raised f_trapped f_more f_made a_format a_pattern a_kind a_exponent a_coefficient a_minus a_row post d a b hd hAl hBl ef efa efb hx hy HD
      subst hx hy
      rw [wY_arithmetic_51]
      refine yw_open (k := 0) hAl (by decide) hfa efa ?_
      intro ak am ac ae S0 _
      dsimp only
      refine yw_open (k := 1) hBl (by decide) hfb efb ?_
      intro bk bm bc be S1 oth
      dsimp only
      obtain ⟨o1, o2, o3, o4⟩ := oth 0 (by decide)
      refine yw_nans (many := 2) (by decide) (ar_kk hK0 hK1 bk (o1.trans S0.1) S1.1) (fun h => absurd h hn) (fun lo' h1 h2 _ => ?_)
      rw [uniq lo' h1 h2]
      refine br_f nneg ?_
      refine pa_wnanY hf ?_
      exact yw_finishT hd hf ef hok (Or.inr rfl) (fun v' hv => HD v' hv)
theorem i_vc_arithmetic {k : Nat} {u : SX} {v : SY} (I : i_Rel k u v) (hk : k + 5 ≤ 2560) (v1 : Int32) (v2 : Int32) (v3 : Int32) (v4 : Int32) : wpX_arithmetic (fun r u' => wpY_arithmetic (fun r' v' => r' = r ∧ i_Rel (k + 5) u' v') v v1 v2 v3 v4) u v1 v2 v3 v4 := by
  refine rl_el (P := fun u v => wpX_arithmetic (fun r u' => wpY_arithmetic (fun r' v' => r' = r ∧ i_Rel (k + 5) u' v') v v1 v2 v3 v4) u v1 v2 v3 v4) ?_ I
  intro m f_raised f_trapped f_below f_value f_power f_rest f_wish f_exact a_format a_bits a_kind a_minus a_coefficient a_exponent a_wide y_more y_made y_kind y_exponent y_coefficient y_minus y_row hm hfo
  have R0 : i_Rel (k + 5) (f_raised, f_trapped, nI m, f_below, f_value, f_power, f_rest, f_wish, f_exact, a_format, a_bits, a_kind, a_minus, a_coefficient, a_exponent, a_wide) (nI m, f_raised, f_trapped, y_more, y_made, a_format, a_bits, y_kind, y_exponent, y_coefficient, y_minus, y_row) := rl_in hm hfo ⟨rfl, rfl, rfl, rfl, rfl⟩ ⟨rfl, rfl, rfl, rfl, rfl⟩
  have P0 : (-1 : Int32) = -1 ∧ i_Rel (k + 5) (f_raised, f_trapped, nI m, f_below, f_value, f_power, f_rest, f_wish, f_exact, a_format, a_bits, a_kind, a_minus, a_coefficient, a_exponent, a_wide) (nI m, f_raised, f_trapped, y_more, y_made, a_format, a_bits, y_kind, y_exponent, y_coefficient, y_minus, y_row) := ⟨rfl, R0⟩
  by_cases hop : ∃ op : Nat, op < 6 ∧ v1 = nI op
  · obtain ⟨op, hop, rfl⟩ := hop
    have hX0 : ¬ nI op < 0 := nI_pos (by omega)
    have hX6 : ¬ (6 : Int32) ≤ nI op := nI_ge (b := 6) hop (by decide)
    by_cases hab : (∃ a : Nat, a < 8 ∧ v3 = nI a) ∧ (∃ b : Nat, b < 8 ∧ v4 = nI b)
    · obtain ⟨⟨a, hA, rfl⟩, ⟨b, hB, rfl⟩⟩ := hab
      obtain ⟨fa, hfa, efa⟩ := hfo a hA
      obtain ⟨fb, hfb, efb⟩ := hfo b hB
      by_cases bab : fm_b fa = fm_b fb
      · by_cases hdd : ∃ d : Nat, d < 8 ∧ v2 = nI d
        · obtain ⟨d, hD, rfl⟩ := hdd
          obtain ⟨fd, hfd, efd⟩ := hfo d hD
          have hin : vp_in (nI d) 8 := vp_in_nI hD (by decide)
          have hcd : (nI d).toNatClampNeg = d := nI_clamp (by omega)
          by_cases bad : fm_b fa = fm_b fd
          · have hY34 : ∀ (r : Int32) (u' : SX), ((op = 5 ∧ ¬ 2 ≤ fd) → r = -1 ∧ i_Rel (k + 5) u' (nI m, f_raised, f_trapped, y_more, y_made, a_format, a_bits, y_kind, y_exponent, y_coefficient, y_minus, y_row)) → (¬ (op = 5 ∧ ¬ 2 ≤ fd) → wY_arithmetic_51 (fun r' v' => r' = r ∧ i_Rel (k + 5) u' v') (nI op) (nI d) (nI a) (nI b) (nI fd) (nI m) f_raised f_trapped y_more y_made a_format a_bits y_kind y_exponent y_coefficient y_minus y_row) → wpY_arithmetic (fun r' v' => r' = r ∧ i_Rel (k + 5) u' v') (nI m, f_raised, f_trapped, y_more, y_made, a_format, a_bits, y_kind, y_exponent, y_coefficient, y_minus, y_row) (nI op) (nI d) (nI a) (nI b) := by
              intro r u' G0 G1
              unfold wpY_arithmetic
              dsimp only
              refine yw_in (n := 6) hop (by decide) ?_
              refine br_f (by decide) ?_
              refine yw_alike hA hB hfa hfb efa efb (fun _ => ?_) (fun h => absurd bab h)
              refine br_f (by decide) ?_
              refine yw_alike hA hD hfa hfd efa efd (fun _ => ?_) (fun h => absurd bad h)
              refine br_f (by decide) ⟨hin, nm_r (e' := nI fd) (by rw [hcd]; exact efd) ?_⟩
              refine pk_eq op 5 (fun h5 => pk_le 2 fd (fun h2 => G1 (by omega)) (fun h2 => ?_)) (fun h5 => G1 (by omega))
              obtain ⟨g1, g2⟩ := G0 ⟨h5, by omega⟩
              exact ⟨g1.symm, g2⟩
            by_cases b5 : op = 5 ∧ ¬ 2 ≤ fd
            · have hY := hY34 (-1) (f_raised, f_trapped, nI m, f_below, f_value, f_power, f_rest, f_wish, f_exact, a_format, a_bits, a_kind, a_minus, a_coefficient, a_exponent, a_wide) (fun _ => P0) (fun h => absurd b5 h)
              refine br_f hX0 (br_f hX6 ?_)
              refine xw_like hA hB hfa hfb efa efb (fun _ => ?_) (fun h => absurd bab h)
              refine br_f (by decide) ?_
              refine xw_like hA hD hfa hfd efa efd (fun _ => ?_) (fun h => absurd bad h)
              refine br_f (by decide) ?_
              refine br_f (by decide) (pk_eq op 5 (fun h5 => ⟨hin, ?_⟩) (fun h5 => absurd b5.1 h5))
              rw [hcd, efd]
              exact pk_le 2 fd (fun h2 => absurd h2 b5.2) (fun _ => hY)
            · obtain ⟨fl, pt, ok, HX, HY⟩ := ar_main (x := a_bits a) (y := a_bits b) (m := m) hop (by omega) hfd hfa hfb bad (bab.symm.trans bad) hm
              have h58 : wX_arithmetic_58 (fun r u' => wpY_arithmetic (fun r' v' => r' = r ∧ i_Rel (k + 5) u' v') (nI m, f_raised, f_trapped, y_more, y_made, a_format, a_bits, y_kind, y_exponent, y_coefficient, y_minus, y_row) (nI op) (nI d) (nI a) (nI b)) (nI op) (nI d) (nI a) (nI b) f_raised f_trapped (nI m) f_below f_value f_power f_rest f_wish f_exact a_format a_bits a_kind a_minus a_coefficient a_exponent a_wide := by
                refine HX _ _ _ _ _ _ _ _ _ _ _ _ _ _ _ _ d a b hD hA hB efd efa efb rfl rfl ?_
                intro u' hu
                refine hY34 fl u' (fun h => absurd h b5) (fun _ => ?_)
                refine HY _ _ _ _ _ _ _ _ _ _ _ _ d a b hD hA hB efd efa efb rfl rfl ?_
                intro v' hv
                exact ⟨rfl, rl_in hm hfo hu hv⟩
              refine br_f hX0 (br_f hX6 ?_)
              refine xw_like hA hB hfa hfb efa efb (fun _ => ?_) (fun h => absurd bab h)
              refine br_f (by decide) ?_
              refine xw_like hA hD hfa hfd efa efd (fun _ => ?_) (fun h => absurd bad h)
              refine br_f (by decide) ?_
              refine br_f (by decide) (pk_eq op 5 (fun h5 => ⟨hin, ?_⟩) (fun h5 => h58))
              rw [hcd, efd]
              exact pk_le 2 fd (fun h2 => h58) (fun h2 => absurd b5 (by omega))
          · refine br_f hX0 (br_f hX6 ?_)
            refine xw_like hA hB hfa hfb efa efb (fun _ => ?_) (fun h => absurd bab h)
            refine br_f (by decide) ?_
            refine xw_like hA hD hfa hfd efa efd (fun h => absurd h bad) (fun _ => ?_)
            refine br_t rfl (br_t rfl ?_)
            unfold wpY_arithmetic
            dsimp only
            refine yw_in (n := 6) hop (by decide) ?_
            refine br_f (by decide) ?_
            refine yw_alike hA hB hfa hfb efa efb (fun _ => ?_) (fun h => absurd bab h)
            refine br_f (by decide) ?_
            refine yw_alike hA hD hfa hfd efa efd (fun h => absurd h bad) (fun _ => ?_)
            exact br_t rfl P0
        · have hnn : ¬ ((∃ a' : Nat, a' < 8 ∧ nI a = nI a') ∧ (∃ b' : Nat, b' < 8 ∧ v2 = nI b')) := fun h => hdd h.2
          refine br_f hX0 (br_f hX6 ?_)
          refine xw_like hA hB hfa hfb efa efb (fun _ => ?_) (fun h => absurd bab h)
          refine br_f (by decide) ?_
          refine xw_likeN hnn ?_
          refine br_t rfl (br_t rfl ?_)
          unfold wpY_arithmetic
          dsimp only
          refine yw_in (n := 6) hop (by decide) ?_
          refine br_f (by decide) ?_
          refine yw_alike hA hB hfa hfb efa efb (fun _ => ?_) (fun h => absurd bab h)
          refine br_f (by decide) ?_
          refine yw_alikeN hnn ?_
          exact br_t rfl P0
      · refine br_f hX0 (br_f hX6 ?_)
        refine xw_like hA hB hfa hfb efa efb (fun h => absurd h bab) (fun _ => ?_)
        refine br_t rfl (br_t rfl ?_)
        unfold wpY_arithmetic
        dsimp only
        refine yw_in (n := 6) hop (by decide) ?_
        refine br_f (by decide) ?_
        refine yw_alike hA hB hfa hfb efa efb (fun h => absurd h bab) (fun _ => ?_)
        exact br_t rfl P0
    · refine br_f hX0 (br_f hX6 ?_)
      refine xw_likeN hab ?_
      refine br_t rfl (br_t rfl ?_)
      unfold wpY_arithmetic
      dsimp only
      refine yw_in (n := 6) hop (by decide) ?_
      refine br_f (by decide) ?_
      refine yw_alikeN hab ?_
      exact br_t rfl P0
  · have hY : wpY_arithmetic (fun r' v' => r' = -1 ∧ i_Rel (k + 5) (f_raised, f_trapped, nI m, f_below, f_value, f_power, f_rest, f_wish, f_exact, a_format, a_bits, a_kind, a_minus, a_coefficient, a_exponent, a_wide) v') (nI m, f_raised, f_trapped, y_more, y_made, a_format, a_bits, y_kind, y_exponent, y_coefficient, y_minus, y_row) v1 v2 v3 v4 := by
      unfold wpY_arithmetic
      dsimp only
      refine yw_inN (n := 6) (by decide) hop ?_
      exact br_t rfl P0
    rcases pk_ix v1 (n := 6) (by decide) with h0 | h8 | hj
    · exact br_t h0 (br_t rfl hY)
    · exact br_c (fun _ => br_t rfl hY) (fun _ => br_t h8 (br_t rfl hY))
    · exact absurd hj hop
end
section
/-! from; compare -/
theorem i_vc_from {k : Nat} {u : SX} {v : SY} (I : i_Rel k u v) (hk : k + 5 ≤ 2560) (v1 : Int32) (v2 : Int32) : wpX_from (fun r u' => wpY_from (fun r' v' => r' = r ∧ i_Rel (k + 5) u' v') v v1 v2) u v1 v2 := by
  refine rl_el (P := fun u v => wpX_from (fun r u' => wpY_from (fun r' v' => r' = r ∧ i_Rel (k + 5) u' v') v v1 v2) u v1 v2) ?_ I
  intro m f_raised f_trapped f_below f_value f_power f_rest f_wish f_exact a_format a_bits a_kind a_minus a_coefficient a_exponent a_wide y_more y_made y_kind y_exponent y_coefficient y_minus y_row hm hfo
  by_cases hr : ∃ a : Nat, a < 8 ∧ v1 = nI a
  · obtain ⟨d, hD, rfl⟩ := hr
    obtain ⟨f, hf, ef⟩ := hfo d hD
    have hin : vp_in (nI d) 8 := vp_in_nI hD (by decide)
    have hcd : (nI d).toNatClampNeg = d := nI_clamp (by omega)
    obtain ⟨z, hz, rfl⟩ := zz_Iof v2
    unfold zz_R at hz
    obtain ⟨s, hs⟩ : ∃ s : Nat, s = if 0 ≤ z then 0 else 1 := ⟨_, rfl⟩
    have hs2 : s < 2 := by
      rw [hs]
      split <;> omega
    have hb := fm_b2 f
    have V : sm_V (fm_b f) z.natAbs 0 := by
      unfold sm_V
      omega
    obtain ⟨_, q1, q2, q3, q4, q5⟩ := sm_Vb V
    obtain ⟨fl, pt, ok, RX, RY⟩ := bt_exactN (m := m) (s := s) (w := 0) hf hm hs2 (by omega) V
    have eL : (zz_I z).toInt64 = zz_L z := zz_IL hz
    have hY : ∀ u' : SX, xs_S u' (f_raised ||| fl) f_trapped (nI m) a_format (st_bi f_trapped a_bits d fl pt) → wpY_from (fun r' v' => r' = fl ∧ i_Rel (k + 5) u' v') (nI m, f_raised, f_trapped, y_more, y_made, a_format, a_bits, y_kind, y_exponent, y_coefficient, y_minus, y_row) (nI d) (zz_I z) := by
      intro u' hu
      unfold wpY_from
      dsimp only
      refine yw_in (n := 8) hD (by decide) ?_
      refine br_f (by decide) ⟨hin, nm_r (e' := nI f) (by rw [hcd]; exact ef) ?_⟩
      refine yw_clear ?_
      intro row1 hz1
      dsimp only
      refine yw_base hf ?_
      have h40 : wY_from_40 (fun r' v' => r' = fl ∧ i_Rel (k + 5) u' v') (nI d) (zz_I z) (nI f) (lN z.natAbs) (nI (fm_b f)) 0 (nI m) f_raised f_trapped 0 y_made a_format a_bits y_kind y_exponent y_coefficient y_minus row1 := by
        rw [wY_from_40]
        refine yw_clay (E := 0) hb q5 q1 (sm_N_lt V).2 (sm_799 hb (sm_N_lt V).1) hz1 ?_
        intro row2 hr2 _
        dsimp only
        have h55 : wY_from_55 (fun r' v' => r' = fl ∧ i_Rel (k + 5) u' v') (nI d) (nI s) (nI f) (nI m) f_raised f_trapped 0 y_made a_format a_bits y_kind y_exponent y_coefficient y_minus row2 := by
          refine RY _ _ _ _ _ _ _ _ _ _ _ hr2 ?_
          intro w' h1 h2
          refine yw_finish h1 hD hf ef ok h2 ?_
          intro v' hv
          exact ⟨rfl, rl_in hm hfo hu hv⟩
        refine zz_le 0 z (fun h => ?_) (fun h => ?_)
        · rw [hs, if_pos h] at h55
          exact h55
        · rw [hs, if_neg (by omega)] at h55
          exact h55
      rw [eL]
      refine zz_le 0 z (fun h => ?_) (fun h => ?_)
      · have e : zz_L z = lN z.natAbs := by
          rw [zz_lN]
          congr 1
          omega
        rw [e]
        exact h40
      · have e : -zz_L z = lN z.natAbs := by
          rw [zz_lN, zz_Lneg]
          congr 1
          omega
        rw [e]
        exact h40
    unfold wpX_from
    dsimp only
    refine xw_isReg hD ?_
    refine br_f (by decide) ?_
    have h38 : wX_from_38 (fun r u' => wpY_from (fun r' v' => r' = r ∧ i_Rel (k + 5) u' v') (nI m, f_raised, f_trapped, y_more, y_made, a_format, a_bits, y_kind, y_exponent, y_coefficient, y_minus, y_row) (nI d) (zz_I z)) (nI d) (lN z.natAbs) f_raised f_trapped (nI m) (nI s) f_value f_power f_rest f_wish f_exact a_format a_bits a_kind a_minus a_coefficient a_exponent a_wide := RX _ _ _ _ _ _ _ _ _ _ _ d hD ef (fun u' h => hY u' h)
    have h19 : wX_from_19 (fun r u' => wpY_from (fun r' v' => r' = r ∧ i_Rel (k + 5) u' v') (nI m, f_raised, f_trapped, y_more, y_made, a_format, a_bits, y_kind, y_exponent, y_coefficient, y_minus, y_row) (nI d) (zz_I z)) (nI d) (zz_I z) (nI s) f_raised f_trapped (nI m) f_below f_value f_power f_rest f_wish f_exact a_format a_bits a_kind a_minus a_coefficient a_exponent a_wide := by
      refine And.intro (zz_nb hs2) ⟨zz_fb hs2, ?_⟩
      rw [eL]
      refine pk_eq s 0 (fun h => ?_) (fun h => ?_)
      · have e : zz_L z = lN z.natAbs := by
          rw [zz_lN]
          congr 1
          split at hs <;> omega
        rw [e]
        exact h38
      · have e : -zz_L z = lN z.natAbs := by
          rw [zz_lN, zz_Lneg]
          congr 1
          split at hs <;> omega
        rw [e]
        exact h38
    refine zz_le 0 z (fun h => ?_) (fun h => ?_)
    · rw [hs, if_pos h] at h19
      exact h19
    · rw [hs, if_neg (by omega)] at h19
      exact h19
  · unfold wpX_from
    dsimp only
    refine xw_isRegN hr (br_t rfl ?_)
    unfold wpY_from
    dsimp only
    refine yw_inN (n := 8) (by decide) hr ?_
    exact br_t rfl ⟨rfl, rl_in hm hfo ⟨rfl, rfl, rfl, rfl, rfl⟩ ⟨rfl, rfl, rfl, rfl, rfl⟩⟩
end
section
/-! compare -/
def cm_x (K M : Nat) : Int := if K = 2 then (if M = 0 then 1 else -1) else 0
def cm_n (K C : Nat) : Int := if K = 2 then 2 else if C = 0 then 0 else 1
def cm_y (K M C : Nat) : Int := if M = 0 then cm_n K C else -cm_n K C
def cm_c (x y : Int) : Int32 := if y ≤ x then (if x ≤ y then 0 else 1) else -1
theorem cm_xr (K M : Nat) : -1 ≤ cm_x K M ∧ cm_x K M ≤ 1 := by
  unfold cm_x
  split
  · split <;> omega
  · omega
theorem cm_yr (K M C : Nat) : -2 ≤ cm_y K M C ∧ cm_y K M C ≤ 2 := by
  unfold cm_y cm_n
  split
  · split
    · omega
    · split <;> omega
  · split
    · omega
    · split <;> omega
section
variable {f_raised : Int32} {f_trapped : Int32} {f_mode : Int32} {f_below : Int32} {f_value : Int64} {f_power : Int32} {f_rest : Int32} {f_wish : Int32} {f_exact : Int32} {a_format : Nat → Int32} {a_bits : Nat → Int32} {a_kind : Nat → Int32} {a_minus : Nat → Int32} {a_coefficient : Nat → Int64} {a_exponent : Nat → Int32} {a_wide : Nat → Int32} {post : Int32 → SX → Prop}
theorem xc_101 {K0 M0 C0 K1 M1 C1 : Nat} {E0 E1 : Int} (hK0 : K0 < 4) (hK1 : K1 < 4) (hM0 : M0 < 2) (hM1 : M1 < 2) (S0 : op_Sl a_kind a_minus a_coefficient a_exponent 0 K0 M0 C0 E0) (S1 : op_Sl a_kind a_minus a_coefficient a_exponent 1 K1 M1 C1 E1) (H : post (cm_c (cm_x K0 M0) (cm_x K1 M1)) (f_raised, f_trapped, f_mode, f_below, f_value, f_power, f_rest, f_wish, f_exact, a_format, a_bits, a_kind, a_minus, a_coefficient, a_exponent, a_wide)) : wX_compare_101 post f_raised f_trapped f_mode f_below f_value f_power f_rest f_wish f_exact a_format a_bits a_kind a_minus a_coefficient a_exponent a_wide := by
  have r0 := cm_xr K0 M0
  have r1 := cm_xr K1 M1
  have h159 : wX_compare_159 post (zz_I (cm_x K0 M0)) (zz_I (cm_x K1 M1)) f_raised f_trapped f_mode f_below f_value f_power f_rest f_wish f_exact a_format a_bits a_kind a_minus a_coefficient a_exponent a_wide := by
    unfold cm_c at H
    refine zz_leU (fun h => zz_leU (fun h2 => ?_) (fun h2 => ?_)) (fun h => ?_)
    · rw [if_pos h, if_pos h2] at H
      exact H
    · rw [if_pos h, if_neg (by omega)] at H
      exact H
    · rw [if_neg (by omega)] at H
      exact H
  have h129 : wX_compare_129 post (zz_I (cm_x K0 M0)) f_raised f_trapped f_mode f_below f_value f_power f_rest f_wish f_exact a_format a_bits a_kind a_minus a_coefficient a_exponent a_wide := by
    rw [wX_compare_129, S1.1, S1.2.1]
    unfold cm_x at h159
    unfold cm_x
    refine pk_eq K1 2 (fun h => pk_eq M1 0 (fun h2 => ?_) (fun h2 => ?_)) (fun h => ?_)
    · rw [if_pos h, if_pos h2] at h159
      exact h159
    · rw [if_pos h, if_neg h2] at h159
      exact h159
    · rw [if_neg h] at h159
      exact h159
  rw [wX_compare_101, S0.1, S0.2.1]
  unfold cm_x at h129
  refine pk_eq K0 2 (fun h => pk_eq M0 0 (fun h2 => ?_) (fun h2 => ?_)) (fun h => ?_)
  · rw [if_pos h, if_pos h2] at h129
    exact h129
  · rw [if_pos h, if_neg h2] at h129
    exact h129
  · rw [if_neg h] at h129
    exact h129
end
theorem yc_order {f_attribute : Int32} {f_raised : Int32} {f_trapped : Int32} {f_more : Int32} {f_made : Int32} {a_format : Nat → Int32} {a_pattern : Nat → Int32} {a_kind : Nat → Int32} {a_exponent : Nat → Int32} {a_coefficient : Nat → Int64} {a_minus : Nat → Int32} {a_row : Nat → Int32} {post : Int32 → Prop} {k K M C : Nat} {E : Int} (hk : k < 3) (hK : K < 4) (hM : M < 2) (hC : C < 9223372036854775808) (S : op_Sl a_kind a_minus a_coefficient a_exponent k K M C E) (H : post (zz_I (cm_y K M C))) : wpY_order post (f_attribute, f_raised, f_trapped, f_more, f_made, a_format, a_pattern, a_kind, a_exponent, a_coefficient, a_minus, a_row) (nI k) := by
  have hin : vp_in (nI k) 3 := vp_in_nI hk (by decide)
  have hck : (nI k).toNatClampNeg = k := nI_clamp (by omega)
  have h30 : ∀ n : Int, n = cm_n K C → wY_order_30 post (nI k) (zz_I n) f_attribute f_raised f_trapped f_more f_made a_format a_pattern a_kind a_exponent a_coefficient a_minus a_row := by
    intro n hn
    refine And.intro hin ?_
    rw [hck, S.2.1]
    unfold cm_y at H
    refine pk_eq M 0 (fun h => ?_) (fun h => ?_)
    · rw [if_pos h, ← hn] at H
      exact H
    · rw [if_neg h, ← hn] at H
      rw [zz_Ineg]
      exact H
  unfold cm_n at h30
  refine And.intro hin ?_
  rw [hck, S.1, S.2.2.1]
  refine pk_eq K 2 (fun h => ?_) (fun h => ⟨hin, zz_leq C 0 (fun h2 => ?_) (fun h2 => ?_)⟩)
  · exact h30 2 (by rw [if_pos h])
  · exact h30 0 (by rw [if_neg h, if_pos h2])
  · exact h30 1 (by rw [if_neg h, if_neg h2])
theorem cm_inf {K0 M0 C0 K1 M1 C1 : Nat} (h : K0 = 2 ∨ K1 = 2) (hM0 : M0 < 2) (hM1 : M1 < 2) : (cm_y K0 M0 C0 = cm_y K1 M1 C1 → ¬ cm_y K0 M0 C0 = 1 ∧ ¬ cm_y K0 M0 C0 = -1 ∧ cm_c (cm_x K0 M0) (cm_x K1 M1) = 0) ∧ (cm_y K1 M1 C1 < cm_y K0 M0 C0 → cm_c (cm_x K0 M0) (cm_x K1 M1) = 1) ∧ (cm_y K0 M0 C0 < cm_y K1 M1 C1 → cm_c (cm_x K0 M0) (cm_x K1 M1) = -1) := by
  have key : (cm_y K0 M0 C0 = cm_y K1 M1 C1 → ¬ cm_y K0 M0 C0 = 1 ∧ ¬ cm_y K0 M0 C0 = -1 ∧ cm_x K0 M0 = cm_x K1 M1) ∧ (cm_y K1 M1 C1 < cm_y K0 M0 C0 → cm_x K1 M1 < cm_x K0 M0) ∧ (cm_y K0 M0 C0 < cm_y K1 M1 C1 → cm_x K0 M0 < cm_x K1 M1) := by
    unfold cm_y cm_n cm_x
    by_cases k0 : K0 = 2 <;> by_cases k1 : K1 = 2 <;> by_cases m0 : M0 = 0 <;> by_cases m1 : M1 = 0 <;> by_cases c0 : C0 = 0 <;> by_cases c1 : C1 = 0 <;> simp [k0, k1, m0, m1, c0, c1] <;> omega
  obtain ⟨a1, a2, a3⟩ := key
  unfold cm_c
  refine ⟨fun h => ?_, fun h => ?_, fun h => ?_⟩
  · obtain ⟨b1, b2, b3⟩ := a1 h
    exact ⟨b1, b2, by rw [if_pos (by omega), if_pos (by omega)]⟩
  · have := a2 h
    rw [if_pos (by omega), if_neg (by omega)]
  · have := a3 h
    rw [if_neg (by omega)]
/-- the answer for finite numbers -/
def cm_f (A s : Nat) : Int32 := if A = 0 then 0 else if s = 0 then 1 else -1
theorem cm_fin {m M0 C0 M1 C1 N0 N1 : Nat} (hM0 : M0 < 2) (hM1 : M1 < 2) (n0 : N0 = 0 ↔ C0 = 0) (n1 : N1 = 0 ↔ C1 = 0) : (cm_y 3 M0 C0 = cm_y 3 M1 C1 → ((cm_y 3 M0 C0 = 1 ∨ cm_y 3 M0 C0 = -1) → (N0 = N1 → cm_f (sm_A M0 (1 - M1) N0 N1) (sm_s m M0 (1 - M1) N0 N1) = zz_I (cm_y 3 M0 C0) * 0) ∧ (N1 < N0 → cm_f (sm_A M0 (1 - M1) N0 N1) (sm_s m M0 (1 - M1) N0 N1) = zz_I (cm_y 3 M0 C0) * 1) ∧ (N0 < N1 → cm_f (sm_A M0 (1 - M1) N0 N1) (sm_s m M0 (1 - M1) N0 N1) = zz_I (cm_y 3 M0 C0) * (-1))) ∧ (¬ cm_y 3 M0 C0 = 1 → ¬ cm_y 3 M0 C0 = -1 → cm_f (sm_A M0 (1 - M1) N0 N1) (sm_s m M0 (1 - M1) N0 N1) = 0)) ∧ (cm_y 3 M1 C1 < cm_y 3 M0 C0 → cm_f (sm_A M0 (1 - M1) N0 N1) (sm_s m M0 (1 - M1) N0 N1) = 1) ∧ (cm_y 3 M0 C0 < cm_y 3 M1 C1 → cm_f (sm_A M0 (1 - M1) N0 N1) (sm_s m M0 (1 - M1) N0 N1) = -1) := by
  have q0 : cm_y 3 M0 C0 = if M0 = 0 then (if N0 = 0 then 0 else 1) else (if N0 = 0 then 0 else -1) := by
    unfold cm_y cm_n
    by_cases c0 : C0 = 0
    · rw [if_pos (n0.mpr c0), if_pos (n0.mpr c0), if_pos c0, if_neg (show ¬ (3 : Nat) = 2 by decide)]
      split <;> rfl
    · rw [if_neg (fun h => c0 (n0.mp h)), if_neg (fun h => c0 (n0.mp h)), if_neg c0, if_neg (show ¬ (3 : Nat) = 2 by decide)]
  have q1 : cm_y 3 M1 C1 = if M1 = 0 then (if N1 = 0 then 0 else 1) else (if N1 = 0 then 0 else -1) := by
    unfold cm_y cm_n
    by_cases c0 : C1 = 0
    · rw [if_pos (n1.mpr c0), if_pos (n1.mpr c0), if_pos c0, if_neg (show ¬ (3 : Nat) = 2 by decide)]
      split <;> rfl
    · rw [if_neg (fun h => c0 (n1.mp h)), if_neg (fun h => c0 (n1.mp h)), if_neg c0, if_neg (show ¬ (3 : Nat) = 2 by decide)]
  have za : zz_I 1 * 0 = (0 : Int32) := by decide
  have zb : zz_I 1 * 1 = (1 : Int32) := by decide
  have zc : zz_I 1 * (-1) = (-1 : Int32) := by decide
  have zd : zz_I (-1) * 0 = (0 : Int32) := by decide
  have ze : zz_I (-1) * 1 = (-1 : Int32) := by decide
  have zf : zz_I (-1) * (-1) = (1 : Int32) := by decide
  rw [q0, q1]
  have hA0 : ∀ s : Nat, cm_f 0 s = 0 := fun s => if_pos rfl
  have hA1 : ∀ A : Nat, 0 < A → cm_f A 0 = 1 := fun A h => by
    unfold cm_f
    rw [if_neg (by omega), if_pos rfl]
  have hA2 : ∀ A : Nat, 0 < A → cm_f A 1 = -1 := fun A h => by
    unfold cm_f
    rw [if_neg (by omega), if_neg (by decide)]
  rcases (show M0 = 0 ∨ M0 = 1 by omega) with rfl | rfl <;> rcases (show M1 = 0 ∨ M1 = 1 by omega) with rfl | rfl
  · -- both plus: the second becomes minus
    have eA : sm_A 0 (1 - 0) N0 N1 = (N0 - N1) + (N1 - N0) := if_neg (by decide)
    have es : sm_s m 0 (1 - 0) N0 N1 = if N0 = N1 then (if m = 3 then 1 else 0) else if N0 < N1 then 1 else 0 := if_neg (by decide)
    rw [eA, es, if_pos rfl, if_pos rfl]
    refine ⟨fun h => ⟨fun h1 => ⟨fun e => ?_, fun e => ?_, fun e => ?_⟩, fun h1 h2 => ?_⟩, fun h => ?_, fun h => ?_⟩
    · have hz : ¬ N0 = 0 := by
        intro hz
        rw [if_pos hz] at h1
        omega
      rw [if_neg hz, za, show N0 - N1 + (N1 - N0) = 0 by omega, hA0]
    · rw [if_neg (show ¬ N0 = 0 by omega), zb, if_neg (show ¬ N0 = N1 by omega), if_neg (show ¬ N0 < N1 by omega), hA1 _ (by omega)]
    · have hz : ¬ N0 = 0 := by
        intro hz
        rw [if_pos hz] at h1
        omega
      rw [if_neg hz, zc, if_neg (show ¬ N0 = N1 by omega), if_pos e, hA2 _ (by omega)]
    · have hz : N0 = 0 := by
        by_cases hz : N0 = 0
        · exact hz
        · rw [if_neg hz] at h1
          exact absurd rfl h1
      have hz1 : N1 = 0 := by
        by_cases hz1 : N1 = 0
        · exact hz1
        · rw [if_pos hz, if_neg hz1] at h
          omega
      rw [hz, hz1]
      exact hA0 _
    · have hz : N1 = 0 ∧ ¬ N0 = 0 := by
        by_cases a : N0 = 0 <;> by_cases b : N1 = 0 <;> simp [a, b] at h ⊢
      rw [if_neg (show ¬ N0 = N1 by omega), if_neg (show ¬ N0 < N1 by omega), hA1 _ (by omega)]
    · have hz : N0 = 0 ∧ ¬ N1 = 0 := by
        by_cases a : N0 = 0 <;> by_cases b : N1 = 0 <;> simp [a, b] at h ⊢
      rw [if_neg (show ¬ N0 = N1 by omega), if_pos (show N0 < N1 by omega), hA2 _ (by omega)]
  · -- plus and minus
    have eA : sm_A 0 (1 - 1) N0 N1 = N0 + N1 := if_pos rfl
    have es : sm_s m 0 (1 - 1) N0 N1 = 0 := if_pos rfl
    rw [eA, es, if_pos rfl, if_neg (show ¬ (1 : Nat) = 0 by decide)]
    refine ⟨fun h => ?_, fun h => ?_, fun h => ?_⟩
    · have hz : N0 = 0 ∧ N1 = 0 := by
        by_cases a : N0 = 0 <;> by_cases b : N1 = 0 <;> simp [a, b] at h ⊢
      rw [if_pos hz.1]
      refine ⟨fun h1 => absurd h1 (by omega), fun _ _ => ?_⟩
      rw [hz.1, hz.2]
      exact hA0 _
    · have hz : ¬ N0 + N1 = 0 := by
        intro hz
        rw [if_pos (show N0 = 0 by omega), if_pos (show N1 = 0 by omega)] at h
        omega
      exact hA1 _ (by omega)
    · exfalso
      by_cases a : N0 = 0 <;> by_cases b : N1 = 0 <;> simp [a, b] at h
  · -- minus and plus
    have eA : sm_A 1 (1 - 0) N0 N1 = N0 + N1 := if_pos rfl
    have es : sm_s m 1 (1 - 0) N0 N1 = 1 := if_pos rfl
    rw [eA, es, if_pos rfl, if_neg (show ¬ (1 : Nat) = 0 by decide)]
    refine ⟨fun h => ?_, fun h => ?_, fun h => ?_⟩
    · have hz : N0 = 0 ∧ N1 = 0 := by
        by_cases a : N0 = 0 <;> by_cases b : N1 = 0 <;> simp [a, b] at h ⊢
      rw [if_pos hz.1]
      refine ⟨fun h1 => absurd h1 (by omega), fun _ _ => ?_⟩
      rw [hz.1, hz.2]
      exact hA0 _
    · exfalso
      by_cases a : N0 = 0 <;> by_cases b : N1 = 0 <;> simp [a, b] at h
    · have hz : ¬ N0 + N1 = 0 := by
        intro hz
        rw [if_pos (show N0 = 0 by omega), if_pos (show N1 = 0 by omega)] at h
        omega
      exact hA2 _ (by omega)
  · -- both minus: the second becomes plus
    have eA : sm_A 1 (1 - 1) N0 N1 = (N0 - N1) + (N1 - N0) := if_neg (by decide)
    have es : sm_s m 1 (1 - 1) N0 N1 = if N0 = N1 then (if m = 3 then 1 else 0) else if N0 < N1 then 0 else 1 := if_neg (by decide)
    rw [eA, es, if_neg (show ¬ (1 : Nat) = 0 by decide), if_neg (show ¬ (1 : Nat) = 0 by decide)]
    refine ⟨fun h => ⟨fun h1 => ⟨fun e => ?_, fun e => ?_, fun e => ?_⟩, fun h1 h2 => ?_⟩, fun h => ?_, fun h => ?_⟩
    · have hz : ¬ N0 = 0 := by
        intro hz
        rw [if_pos hz] at h1
        omega
      rw [if_neg hz, zd, show N0 - N1 + (N1 - N0) = 0 by omega, hA0]
    · rw [if_neg (show ¬ N0 = 0 by omega), ze, if_neg (show ¬ N0 = N1 by omega), if_neg (show ¬ N0 < N1 by omega), hA2 _ (by omega)]
    · have hz : ¬ N0 = 0 := by
        intro hz
        rw [if_pos hz] at h1
        omega
      rw [if_neg hz, zf, if_neg (show ¬ N0 = N1 by omega), if_pos e, hA1 _ (by omega)]
    · have hz : N0 = 0 := by
        by_cases hz : N0 = 0
        · exact hz
        · rw [if_neg hz] at h2
          exact absurd rfl h2
      have hz1 : N1 = 0 := by
        by_cases hz1 : N1 = 0
        · exact hz1
        · rw [if_pos hz, if_neg hz1] at h
          omega
      rw [hz, hz1]
      exact hA0 _
    · have hz : N0 = 0 ∧ ¬ N1 = 0 := by
        by_cases a : N0 = 0 <;> by_cases b : N1 = 0 <;> simp [a, b] at h ⊢
      rw [if_neg (show ¬ N0 = N1 by omega), if_pos (show N0 < N1 by omega), hA1 _ (by omega)]
    · have hz : N1 = 0 ∧ ¬ N0 = 0 := by
        by_cases a : N0 = 0 <;> by_cases b : N1 = 0 <;> simp [a, b] at h ⊢
      rw [if_neg (show ¬ N0 = N1 by omega), if_neg (show ¬ N0 < N1 by omega), hA2 _ (by omega)]
end
section
/-! compare, its whole -/
def cx_B (post : Int32 → SX → Prop) (p2 : Int32) (a : Nat) (f_raised : Int32) (f_trapped : Int32) (f_mode : Int32) (f_below : Int32) (f_value : Int64) (f_power : Int32) (f_rest : Int32) (f_wish : Int32) (f_exact : Int32) (a_format : Nat → Int32) (a_bits : Nat → Int32) (a_kind : Nat → Int32) (a_minus : Nat → Int32) (a_coefficient : Nat → Int64) (a_exponent : Nat → Int32) (a_wide : Nat → Int32) : Prop :=
  (a_kind 0 < 2 → wX_compare_47 post p2 f_raised f_trapped f_mode f_below f_value f_power f_rest f_wish f_exact a_format a_bits a_kind a_minus a_coefficient a_exponent a_wide) ∧
  (¬ a_kind 0 < 2 → ((2 ≤ a_kind 1 →
      ((a_kind 0 = 2 → wX_compare_101 post f_raised f_trapped f_mode f_below f_value f_power f_rest f_wish f_exact a_format a_bits a_kind a_minus a_coefficient a_exponent a_wide) ∧
       (¬ a_kind 0 = 2 → ((a_kind 1 = 2 → wX_compare_101 post f_raised f_trapped f_mode f_below f_value f_power f_rest f_wish f_exact a_format a_bits a_kind a_minus a_coefficient a_exponent a_wide) ∧
         (¬ a_kind 1 = 2 → ((a_minus 1 = 0 → wX_compare_204 post (nI a) 1 1 f_raised f_trapped f_mode f_below f_value f_power f_rest f_wish f_exact a_format a_bits a_kind a_minus a_coefficient a_exponent a_wide) ∧ (¬ a_minus 1 = 0 → wX_compare_204 post (nI a) 0 1 f_raised f_trapped f_mode f_below f_value f_power f_rest f_wish f_exact a_format a_bits a_kind a_minus a_coefficient a_exponent a_wide))))))) ∧
    (¬ 2 ≤ a_kind 1 → wX_compare_47 post p2 f_raised f_trapped f_mode f_below f_value f_power f_rest f_wish f_exact a_format a_bits a_kind a_minus a_coefficient a_exponent a_wide)))
def cy_B (post : Int32 → SY → Prop) (p2 : Int32) (a : Nat) (f_attribute : Int32) (f_raised : Int32) (f_trapped : Int32) (f_more : Int32) (f_made : Int32) (a_format : Nat → Int32) (a_pattern : Nat → Int32) (a_kind : Nat → Int32) (a_exponent : Nat → Int32) (a_coefficient : Nat → Int64) (a_minus : Nat → Int32) (a_row : Nat → Int32) : Prop :=
  wpY_nans (fun r_41 =>
    ((r_41 < 0 → wpY_order (fun r_55 => wpY_order (fun r_68 =>
        ((r_55 = r_68 → ((r_55 = 1 → wY_compare_104 post (nI a) r_55 f_attribute f_raised f_trapped f_more f_made a_format a_pattern a_kind a_exponent a_coefficient a_minus a_row) ∧
            (¬ r_55 = 1 → ((r_55 = (-1) → wY_compare_104 post (nI a) r_55 f_attribute f_raised f_trapped f_more f_made a_format a_pattern a_kind a_exponent a_coefficient a_minus a_row) ∧ (¬ r_55 = (-1) → post 0 (f_attribute, f_raised, f_trapped, f_more, f_made, a_format, a_pattern, a_kind, a_exponent, a_coefficient, a_minus, a_row)))))) ∧
         (¬ r_55 = r_68 → ((r_68 ≤ r_55 → post 1 (f_attribute, f_raised, f_trapped, f_more, f_made, a_format, a_pattern, a_kind, a_exponent, a_coefficient, a_minus, a_row)) ∧ (¬ r_68 ≤ r_55 → post (-1) (f_attribute, f_raised, f_trapped, f_more, f_made, a_format, a_pattern, a_kind, a_exponent, a_coefficient, a_minus, a_row)))))) (f_attribute, f_raised, f_trapped, f_more, f_made, a_format, a_pattern, a_kind, a_exponent, a_coefficient, a_minus, a_row) 1) (f_attribute, f_raised, f_trapped, f_more, f_made, a_format, a_pattern, a_kind, a_exponent, a_coefficient, a_minus, a_row) 0) ∧
     (¬ r_41 < 0 → ((0 < r_41 → wY_compare_44 post f_attribute f_raised f_trapped f_more f_made a_format a_pattern a_kind a_exponent a_coefficient a_minus a_row) ∧
        (¬ 0 < r_41 → ((p2 = 0 → post 2 (f_attribute, f_raised, f_trapped, f_more, f_made, a_format, a_pattern, a_kind, a_exponent, a_coefficient, a_minus, a_row)) ∧ (¬ p2 = 0 → wY_compare_44 post f_attribute f_raised f_trapped f_more f_made a_format a_pattern a_kind a_exponent a_coefficient a_minus a_row))))))) (f_attribute, f_raised, f_trapped, f_more, f_made, a_format, a_pattern, a_kind, a_exponent, a_coefficient, a_minus, a_row) 2
theorem i_vc_compare {k : Nat} {u : SX} {v : SY} (I : i_Rel k u v) (hk : k + 5 ≤ 2560) (v1 : Int32) (v2 : Int32) (v3 : Int32) : wpX_compare (fun r u' => wpY_compare (fun r' v' => r' = r ∧ i_Rel (k + 5) u' v') v v1 v2 (lw_bz v3)) u v1 v2 (lw_bz v3) := by
  generalize lw_bz v3 = p2
  refine rl_el (P := fun u v => wpX_compare (fun r u' => wpY_compare (fun r' v' => r' = r ∧ i_Rel (k + 5) u' v') v v1 v2 p2) u v1 v2 p2) ?_ I
  intro m f_raised f_trapped f_below f_value f_power f_rest f_wish f_exact a_format a_bits a_kind a_minus a_coefficient a_exponent a_wide y_more y_made y_kind y_exponent y_coefficient y_minus y_row hm hfo
  by_cases hab : (∃ a : Nat, a < 8 ∧ v1 = nI a) ∧ (∃ b : Nat, b < 8 ∧ v2 = nI b)
  · obtain ⟨⟨a, hA, rfl⟩, ⟨b, hB, rfl⟩⟩ := hab
    obtain ⟨fa, hfa, efa⟩ := hfo a hA
    obtain ⟨fb, hfb, efb⟩ := hfo b hB
    by_cases bab : fm_b fa = fm_b fb
    · have V0 := op_Vof hfa rfl (a_bits a)
      have V1 := op_Vof hfb bab.symm (a_bits b)
      obtain ⟨hK0, hM0, _⟩ := id V0
      obtain ⟨hK1, hM1, _⟩ := id V1
      obtain ⟨hb, q1, q2, q3, q4, q5⟩ := sm_Vb (op_Vs V0)
      obtain ⟨_, t1, t2, t3, t4, t5⟩ := sm_Vb (op_Vs V1)
      have c1 : (1 : Int32).toNatClampNeg = 1 := by decide
      -- the answer p with raised rs'
      have both : ∀ (r rs' : Int32), (∀ (ak am : Nat → Int32) (ac : Nat → Int64) (ae : Nat → Int32) (post : Int32 → SX → Prop), op_Sl ak am ac ae 0 (op_K fa (a_bits a)) (op_M fa (a_bits a)) (op_C fa (a_bits a)) (op_E fa (a_bits a)) → op_Sl ak am ac ae 1 (op_K fb (a_bits b)) (op_M fb (a_bits b)) (op_C fb (a_bits b)) (op_E fb (a_bits b)) → (∀ u' : SX, xs_S u' rs' f_trapped (nI m) a_format a_bits → post r u') → cx_B post p2 a f_raised f_trapped (nI m) f_below f_value f_power f_rest f_wish f_exact a_format a_bits ak am ac ae a_wide) → (∀ (ak am : Nat → Int32) (ac : Nat → Int64) (ae : Nat → Int32) (post : Int32 → SY → Prop), op_Sl ak am ac ae 0 (op_K fa (a_bits a)) (op_M fa (a_bits a)) (op_C fa (a_bits a)) (op_E fa (a_bits a)) → op_Sl ak am ac ae 1 (op_K fb (a_bits b)) (op_M fb (a_bits b)) (op_C fb (a_bits b)) (op_E fb (a_bits b)) → (∀ v' : SY, ys_S v' rs' f_trapped (nI m) a_format a_bits → post r v') → cy_B post p2 a (nI m) f_raised f_trapped y_more y_made a_format a_bits ak ae ac am y_row) → wpX_compare (fun r u' => wpY_compare (fun r' v' => r' = r ∧ i_Rel (k + 5) u' v') (nI m, f_raised, f_trapped, y_more, y_made, a_format, a_bits, y_kind, y_exponent, y_coefficient, y_minus, y_row) (nI a) (nI b) p2) (f_raised, f_trapped, nI m, f_below, f_value, f_power, f_rest, f_wish, f_exact, a_format, a_bits, a_kind, a_minus, a_coefficient, a_exponent, a_wide) (nI a) (nI b) p2 := by
        intro r rs' GX GY
        unfold wpX_compare
        dsimp only
        refine xw_like hA hB hfa hfb efa efb (fun _ => ?_) (fun h => absurd bab h)
        refine br_f (by decide) ?_
        refine xw_open (k := 0) hA (by decide) hfa efa ?_
        intro ak am ac ae S0 _
        dsimp only
        refine xw_open (k := 1) hB (by decide) hfb efb ?_
        intro bk bm bc be S1 oth
        dsimp only
        obtain ⟨o1, o2, o3, o4⟩ := oth 0 (by decide)
        refine GX bk bm bc be _ ⟨o1.trans S0.1, o2.trans S0.2.1, o3.trans S0.2.2.1, o4.trans S0.2.2.2⟩ S1 ?_
        intro u' hu
        unfold wpY_compare
        dsimp only
        refine yw_alike hA hB hfa hfb efa efb (fun _ => ?_) (fun h => absurd bab h)
        refine br_f (by decide) ?_
        refine yw_open (k := 0) hA (by decide) hfa efa ?_
        intro ck cm cc ce T0 _
        dsimp only
        refine yw_open (k := 1) hB (by decide) hfb efb ?_
        intro dk dm dc de T1 oth2
        dsimp only
        obtain ⟨w1, w2, w3, w4⟩ := oth2 0 (by decide)
        refine GY dk dm dc de _ ⟨w1.trans T0.1, w2.trans T0.2.1, w3.trans T0.2.2.1, w4.trans T0.2.2.2⟩ T1 ?_
        intro v' hv
        exact ⟨rfl, rl_in hm hfo hu hv⟩
      generalize op_K fa (a_bits a) = K0 at *
      generalize op_K fb (a_bits b) = K1 at *
      generalize op_M fa (a_bits a) = M0 at *
      generalize op_M fb (a_bits b) = M1 at *
      generalize op_C fa (a_bits a) = C0 at *
      generalize op_C fb (a_bits b) = C1 at *
      generalize op_E fa (a_bits a) = E0 at *
      generalize op_E fb (a_bits b) = E1 at *
      by_cases hn : ∀ j, j < 2 → ¬ (fun j => if j = 0 then K0 else K1) j < 2
      · have n0 : ¬ K0 < 2 := hn 0 (by decide)
        have n1 : ¬ K1 < 2 := hn 1 (by decide)
        by_cases inf : K0 = 2 ∨ K1 = 2
        · obtain ⟨j1, j2, j3⟩ := cm_inf (C0 := C0) (C1 := C1) inf hM0 hM1
          refine both (cm_c (cm_x K0 M0) (cm_x K1 M1)) f_raised ?_ ?_
          · intro ak am ac ae post S0 S1 HP
            have h101 : wX_compare_101 post f_raised f_trapped (nI m) f_below f_value f_power f_rest f_wish f_exact a_format a_bits ak am ac ae a_wide := xc_101 hK0 hK1 hM0 hM1 S0 S1 (HP _ ⟨rfl, rfl, rfl, rfl, rfl⟩)
            unfold cx_B
            rw [S0.1, S1.1]
            refine pk_lt K0 2 (fun h => absurd h n0) (fun _ => pk_le 2 K1 (fun _ => pk_eq K0 2 (fun _ => h101) (fun h => pk_eq K1 2 (fun _ => h101) (fun h2 => absurd inf (by omega)))) (fun h => absurd h (by omega)))
          · intro ak am ac ae post S0 S1 HP
            have p0 := fun r (e : cm_c (cm_x K0 M0) (cm_x K1 M1) = r) => (e ▸ HP (nI m, f_raised, f_trapped, y_more, y_made, a_format, a_bits, ak, ae, ac, am, y_row) ⟨rfl, rfl, rfl, rfl, rfl⟩ : post r (nI m, f_raised, f_trapped, y_more, y_made, a_format, a_bits, ak, ae, ac, am, y_row))
            have y0 := cm_yr K0 M0 C0
            have y1 := cm_yr K1 M1 C1
            unfold cy_B
            refine yw_nans (many := 2) (by decide) (ar_kk hK0 hK1 ak S0.1 S1.1) (fun _ => ?_) (fun lo _ _ hh => absurd hn hh)
            refine br_t (by decide) ?_
            refine yc_order (k := 0) (by decide) hK0 hM0 q5 S0 ?_
            refine yc_order (k := 1) (by decide) hK1 hM1 t5 S1 ?_
            refine zz_eqU (fun h => zz_eq (cm_y K0 M0 C0) 1 (fun h2 => absurd h2 (j1 h).1) (fun _ => zz_eq (cm_y K0 M0 C0) (-1) (fun h2 => absurd h2 (j1 h).2.1) (fun _ => p0 0 (j1 h).2.2))) (fun h => zz_leU (fun h2 => p0 1 (j2 (by omega))) (fun h2 => p0 (-1) (j3 h2)))
        · have e0 : K0 = 3 := by omega
          have e1 : K1 = 3 := by omega
          subst e0 e1
          obtain ⟨v, r, s, pw, F, hs, WX⟩ := xs_sum (m := m) (K0 := 3) (K1 := 3) (M0 := M0) (M1 := 1 - M1) (op_Vs V0) (op_Vs V1) hm hM0 (by omega)
          have hs2 : s < 2 := by
            rw [hs]
            exact sm_s_lt hM0 (by omega)
          obtain ⟨f1, f2, f3, f4, f5, f6, f7, f8⟩ := F
          have hvr : (v = 0 ∧ r = 0) ↔ sm_A M0 (1 - M1) (sm_N (fm_b fa) C0 E0) (sm_N (fm_b fa) C1 E1) = 0 := by
            constructor
            · intro h
              have e := Nat.div_add_mod (sm_A M0 (1 - M1) (sm_N (fm_b fa) C0 E0) (sm_N (fm_b fa) C1 E1)) (fm_b fa ^ (pw + fm_P (fm_b fa)).toNat)
              rw [← f5, h.1, f6.mp h.2] at e
              omega
            · intro h
              rw [h, Nat.zero_div] at f5
              rw [h, Nat.zero_mod] at f6
              exact ⟨f5, f6.mpr rfl⟩
          have hbd' : xr_bd (fm_b fa) < 9223372036854775808 := by rcases hb with h | h <;> rw [h] <;> decide
          have z0 : sm_N (fm_b fa) C0 E0 = 0 ↔ C0 = 0 := by
            unfold sm_N
            constructor
            · intro h
              rcases Nat.mul_eq_zero.mp h with h2 | h2
              · exact h2
              · have : 0 < fm_b fa ^ (E0 + fm_P (fm_b fa)).toNat := Nat.pow_pos (by omega)
                omega
            · intro h
              rw [h, Nat.zero_mul]
          have z1 : sm_N (fm_b fa) C1 E1 = 0 ↔ C1 = 0 := by
            unfold sm_N
            constructor
            · intro h
              rcases Nat.mul_eq_zero.mp h with h2 | h2
              · exact h2
              · have : 0 < fm_b fa ^ (E1 + fm_P (fm_b fa)).toNat := Nat.pow_pos (by omega)
                omega
            · intro h
              rw [h, Nat.zero_mul]
          obtain ⟨j1, j2, j3⟩ := cm_fin (m := m) hM0 hM1 z0 z1
          rw [← hs] at j1 j2 j3
          refine both (cm_f (sm_A M0 (1 - M1) (sm_N (fm_b fa) C0 E0) (sm_N (fm_b fa) C1 E1)) s) f_raised ?_ ?_
          · intro ak am ac ae post S0 S1 HP
            unfold cx_B
            rw [S0.1, S1.1, S1.2.1]
            have go : ∀ t : Nat, t < 2 → t = 1 - M1 → wX_compare_204 post (nI a) (nI t) 1 f_raised f_trapped (nI m) f_below f_value f_power f_rest f_wish f_exact a_format a_bits ak am ac ae a_wide := by
              intro t ht et
              refine And.intro (vp_in_nI (n := 1) (by decide) (by decide)) (nm_e ⟨vp_in_nI hA (by decide), ?_⟩)
              rw [c1, zz_vb ht, nI_clamp (show a < 2 ^ 31 by omega), efa]
              refine xw_baseOf hfa ?_
              refine WX _ _ _ _ _ _ _ _ _ _ _ _ _ _ _ _ 0 1 (by decide) (by decide) ⟨S0.1, ?_, S0.2.2.1, S0.2.2.2⟩ ⟨S1.1, ?_, S1.2.2.1, S1.2.2.2⟩ ?_
              · rw [pk_un (by decide)]
                exact S0.2.1
              · rw [pk_us, et]
              · unfold cm_f at HP
                have h244 : ¬ (v = 0 ∧ r = 0) → wX_compare_244 post f_raised f_trapped (nI m) (nI s) (lN v) (zz_I pw) (nI r) (zz_I (if E1 ≤ E0 then E1 else E0)) f_exact a_format a_bits ak (upd am 1 (nI t)) ac ae a_wide := by
                  intro h
                  rw [if_neg (fun hh => h (hvr.mpr hh))] at HP
                  refine pk_eq s 0 (fun h2 => ?_) (fun h2 => ?_)
                  · rw [if_pos h2] at HP
                    exact HP _ ⟨rfl, rfl, rfl, rfl, rfl⟩
                  · rw [if_neg h2] at HP
                    exact HP _ ⟨rfl, rfl, rfl, rfl, rfl⟩
                refine zz_leq v 0 (fun h => pk_eq r 0 (fun h2 => ?_) (fun h2 => h244 (fun hh => h2 hh.2))) (fun h => h244 (fun hh => h hh.1))
                rw [if_pos (hvr.mp ⟨h, h2⟩)] at HP
                exact HP _ ⟨rfl, rfl, rfl, rfl, rfl⟩
            refine pk_lt 3 2 (fun h => absurd h (by decide)) (fun _ => pk_le 2 3 (fun _ => br_f (by decide) (br_f (by decide) (pk_eq M1 0 (fun h => go 1 (by decide) (by omega)) (fun h => go 0 (by decide) (by omega))))) (fun h => absurd h (by decide)))
          · intro ak am ac ae post S0 S1 HP
            have p0 := fun row mo r (e : cm_f (sm_A M0 (1 - M1) (sm_N (fm_b fa) C0 E0) (sm_N (fm_b fa) C1 E1)) s = r) => (e ▸ HP (nI m, f_raised, f_trapped, mo, y_made, a_format, a_bits, ak, ae, ac, am, row) ⟨rfl, rfl, rfl, rfl, rfl⟩ : post r (nI m, f_raised, f_trapped, mo, y_made, a_format, a_bits, ak, ae, ac, am, row))
            have y0 := cm_yr 3 M0 C0
            have y1 := cm_yr 3 M1 C1
            have h104 : cm_y 3 M0 C0 = cm_y 3 M1 C1 → (cm_y 3 M0 C0 = 1 ∨ cm_y 3 M0 C0 = -1) → wY_compare_104 post (nI a) (zz_I (cm_y 3 M0 C0)) (nI m) f_raised f_trapped y_more y_made a_format a_bits ak ae ac am y_row := by
              intro h hh
              obtain ⟨g1, g2, g3⟩ := (j1 h).1 hh
              refine And.intro (vp_in_nI hA (by decide)) ?_
              rw [nI_clamp (show a < 2 ^ 31 by omega), efa]
              refine yw_base hfa ?_
              refine yw_clear ?_
              intro row1 hz1
              dsimp only
              rw [S0.2.2.1, S0.2.2.2]
              refine yw_clay hb q5 q1 (sm_N_lt (op_Vs V0)).2 (sm_799 hb (sm_N_lt (op_Vs V0)).1) hz1 ?_
              intro row2 hr2 hz2
              dsimp only
              rw [S1.2.2.1, S1.2.2.2]
              refine yw_clay2 hb t5 t1 (sm_N_lt (op_Vs V1)).2 (sm_799 hb (sm_N_lt (op_Vs V1)).1) hr2 hz2 ?_
              intro row3 hr3 hr3'
              change yr_R (fm_b fa) row3 0 (sm_N (fm_b fa) C0 E0) at hr3
              change yr_R (fm_b fa) row3 800 (sm_N (fm_b fa) C1 E1) at hr3'
              dsimp only
              exact yw_compareRows hb hr3 hr3' (sm_799 hb (sm_N_lt (op_Vs V0)).1) (sm_799 hb (sm_N_lt (op_Vs V1)).1) (fun e => p0 _ _ _ (g1 e)) (fun e => p0 _ _ _ (g2 e)) (fun e => p0 _ _ _ (g3 e))
            unfold cy_B
            refine yw_nans (many := 2) (by decide) (ar_kk hK0 hK1 ak S0.1 S1.1) (fun _ => ?_) (fun lo _ _ hh => absurd hn hh)
            refine br_t (by decide) ?_
            refine yc_order (k := 0) (by decide) hK0 hM0 q5 S0 ?_
            refine yc_order (k := 1) (by decide) hK1 hM1 t5 S1 ?_
            refine zz_eqU (fun h => zz_eq (cm_y 3 M0 C0) 1 (fun h2 => h104 h (Or.inl h2)) (fun h2 => zz_eq (cm_y 3 M0 C0) (-1) (fun h3 => h104 h (Or.inr h3)) (fun h3 => p0 _ _ 0 ((j1 h).2 h2 h3)))) (fun h => zz_leU (fun h2 => p0 _ _ 1 (j2 (by omega))) (fun h2 => p0 _ _ (-1) (j3 h2)))
      · obtain ⟨lo, hlo, elo⟩ : ∃ lo : Nat, lo < 2 ∧ (lo = 0 ↔ ∀ j, j < 2 → ¬ (fun j => if j = 0 then K0 else K1) j = 0) := by
          by_cases h : ∀ j, j < 2 → ¬ (fun j => if j = 0 then K0 else K1) j = 0
          · exact ⟨0, by decide, fun _ => h, fun _ => rfl⟩
          · exact ⟨1, by decide, fun h1 => absurd h1 (by decide), fun h1 => absurd h1 h⟩
        have elo2 : lo = 0 ↔ ¬ K0 = 0 ∧ ¬ K1 = 0 := by
          rw [elo]
          constructor
          · intro h
            exact ⟨h 0 (by decide), h 1 (by decide)⟩
          · intro h j hj
            rcases (show j = 0 ∨ j = 1 by omega) with rfl | rfl
            · exact h.1
            · exact h.2
        have hn2 : K0 < 2 ∨ K1 < 2 := by
          by_cases h0 : K0 < 2
          · exact Or.inl h0
          · right
            by_cases h1 : K1 < 2
            · exact h1
            · exfalso
              refine hn (fun j hj => ?_)
              rcases (show j = 0 ∨ j = 1 by omega) with rfl | rfl
              · exact h0
              · exact h1
        have h47 : ∀ (rs' : Int32), (¬ (p2 = 0 ∧ lo = 0) → rs' = f_raised ||| 1) → ((p2 = 0 ∧ lo = 0) → rs' = f_raised) → ∀ (ak am : Nat → Int32) (ac : Nat → Int64) (ae : Nat → Int32) (post : Int32 → SX → Prop), op_Sl ak am ac ae 0 K0 M0 C0 E0 → op_Sl ak am ac ae 1 K1 M1 C1 E1 → (∀ u' : SX, xs_S u' rs' f_trapped (nI m) a_format a_bits → post 2 u') → wX_compare_47 post p2 f_raised f_trapped (nI m) f_below f_value f_power f_rest f_wish f_exact a_format a_bits ak am ac ae a_wide := by
          intro rs' e1 e2 ak am ac ae post S0 S1 HP
          have h69 : ¬ (p2 = 0 ∧ lo = 0) → wX_compare_69 post f_raised f_trapped (nI m) f_below f_value f_power f_rest f_wish f_exact a_format a_bits ak am ac ae a_wide := by
            intro h
            refine nm_e ?_
            rw [e1 h] at HP
            exact HP _ ⟨rfl, rfl, rfl, rfl, rfl⟩
          rw [wX_compare_47, S0.1, S1.1]
          refine br_c (fun hp => pk_eq K0 0 (fun h => h69 (fun hh => (elo2.mp hh.2).1 h)) (fun h => pk_eq K1 0 (fun h2 => h69 (fun hh => (elo2.mp hh.2).2 h2)) (fun h2 => ?_))) (fun hp => h69 (fun hh => hp hh.1))
          rw [e2 ⟨hp, elo2.mpr ⟨h, h2⟩⟩] at HP
          exact HP _ ⟨rfl, rfl, rfl, rfl, rfl⟩
        have hYY : ∀ (rs' : Int32), (¬ (p2 = 0 ∧ lo = 0) → rs' = f_raised ||| 1) → ((p2 = 0 ∧ lo = 0) → rs' = f_raised) → wpX_compare (fun r u' => wpY_compare (fun r' v' => r' = r ∧ i_Rel (k + 5) u' v') (nI m, f_raised, f_trapped, y_more, y_made, a_format, a_bits, y_kind, y_exponent, y_coefficient, y_minus, y_row) (nI a) (nI b) p2) (f_raised, f_trapped, nI m, f_below, f_value, f_power, f_rest, f_wish, f_exact, a_format, a_bits, a_kind, a_minus, a_coefficient, a_exponent, a_wide) (nI a) (nI b) p2 := by
          intro rs' e1 e2
          refine both 2 rs' ?_ ?_
          · intro ak am ac ae post S0 S1 HP
            have hh := h47 rs' e1 e2 ak am ac ae post S0 S1 HP
            unfold cx_B
            rw [S0.1, S1.1]
            exact pk_lt K0 2 (fun _ => hh) (fun h => pk_le 2 K1 (fun h2 => absurd hn2 (by omega)) (fun _ => hh))
          · intro ak am ac ae post S0 S1 HP
            have h44 : ¬ (p2 = 0 ∧ lo = 0) → wY_compare_44 post (nI m) f_raised f_trapped y_more y_made a_format a_bits ak ae ac am y_row := by
              intro h
              refine nm_e ?_
              rw [e1 h] at HP
              exact HP _ ⟨rfl, rfl, rfl, rfl, rfl⟩
            unfold cy_B
            refine yw_nans (many := 2) (by decide) (ar_kk hK0 hK1 ak S0.1 S1.1) (fun h => absurd h hn) (fun lo' h1 h2 _ => ?_)
            have el : lo' = lo := by
              have := h2.trans elo.symm
              omega
            rw [el]
            refine br_f (nI_pos (by omega)) (pk_lt 0 lo (fun h => h44 (fun hh => by omega)) (fun h => br_c (fun hp => ?_) (fun hp => h44 (fun hh => hp hh.1))))
            rw [e2 ⟨hp, by omega⟩] at HP
            exact HP _ ⟨rfl, rfl, rfl, rfl, rfl⟩
        by_cases hp : p2 = 0 ∧ lo = 0
        · exact hYY f_raised (fun h => absurd hp h) (fun _ => rfl)
        · exact hYY (f_raised ||| 1) (fun _ => rfl) (fun h => absurd h hp)
    · unfold wpX_compare
      dsimp only
      refine xw_like hA hB hfa hfb efa efb (fun h => absurd h bab) (fun _ => ?_)
      refine br_t rfl ?_
      unfold wpY_compare
      dsimp only
      refine yw_alike hA hB hfa hfb efa efb (fun h => absurd h bab) (fun _ => ?_)
      exact br_t rfl ⟨rfl, rl_in hm hfo ⟨rfl, rfl, rfl, rfl, rfl⟩ ⟨rfl, rfl, rfl, rfl, rfl⟩⟩
  · unfold wpX_compare
    dsimp only
    refine xw_likeN hab ?_
    refine br_t rfl ?_
    unfold wpY_compare
    dsimp only
    refine yw_alikeN hab ?_
    exact br_t rfl ⟨rfl, rl_in hm hfo ⟨rfl, rfl, rfl, rfl, rfl⟩ ⟨rfl, rfl, rfl, rfl, rfl⟩⟩
end
section
/-! integer -/
def ig_L (s : Nat) : Nat := if s = 0 then 2147483647 else 2147483648
def ig_m (s : Nat) : Int32 := if s = 0 then 2147483647 else -2147483648
def ig_v (s R : Nat) : Int32 := if s = 0 then zz_I (R : Int) else zz_I (-(R : Int))
/-- raised behind the call -/
def ig_rs (rs p2 : Int32) (s R pt : Nat) : Int32 := if ig_L s < R then rs ||| 1 else if p2 = 0 then rs else if pt = 0 then rs else rs ||| 16
def ig_r (s R : Nat) : Int32 := if ig_L s < R then ig_m s else ig_v s R
section
variable {f_raised : Int32} {f_trapped : Int32} {f_mode : Int32} {f_below : Int32} {f_value : Int64} {f_power : Int32} {f_rest : Int32} {f_wish : Int32} {f_exact : Int32} {a_format : Nat → Int32} {a_bits : Nat → Int32} {a_kind : Nat → Int32} {a_minus : Nat → Int32} {a_coefficient : Nat → Int64} {a_exponent : Nat → Int32} {a_wide : Nat → Int32} {post : Int32 → SX → Prop}
theorem xi_116 {s c pt z : Nat} {p2 : Int32} (hs : s < 2) (hc : c < 9223372036854775808) (hz : z < 2) (hzp : z = 0 ↔ ¬ pt = 0) (H : ∀ u' : SX, xs_S u' (ig_rs f_raised p2 s c pt) f_trapped f_mode a_format a_bits → post (ig_r s c) u') : wX_integer_116 post p2 (lN c) (nI z) f_raised f_trapped f_mode (nI s) f_value f_power f_rest f_wish f_exact a_format a_bits a_kind a_minus a_coefficient a_exponent a_wide := by
  unfold ig_rs ig_r at H
  have h136 : wX_integer_136 post p2 (lN c) (nI z) (lN (ig_L s)) (lN c) f_raised f_trapped f_mode (nI s) f_value f_power f_rest f_wish f_exact a_format a_bits a_kind a_minus a_coefficient a_exponent a_wide := by
    have hL : ig_L s < 9223372036854775808 := by
      unfold ig_L
      split <;> omega
    refine zz_lleU (fun h => ?_) (fun h => nm_e (pk_eq s 0 (fun h0 => ?_) (fun h0 => ?_)))
    · have h185 : ∀ rs : Int32, rs = (if p2 = 0 then f_raised else if pt = 0 then f_raised else f_raised ||| 16) → wX_integer_185 post (lN c) rs f_trapped f_mode (nI s) f_value f_power f_rest f_wish f_exact a_format a_bits a_kind a_minus a_coefficient a_exponent a_wide := by
        intro rs hrs
        have hg : ¬ ig_L s < c := by omega
        rw [if_neg hg, if_neg hg, ← hrs] at H
        unfold ig_v at H
        refine pk_eq s 0 (fun h0 => ?_) (fun h0 => ?_)
        · rw [if_pos h0] at H
          rw [zz_lN, zz_LI]
          exact H _ ⟨rfl, rfl, rfl, rfl, rfl⟩
        · rw [if_neg h0] at H
          rw [zz_lN, zz_Lneg, zz_LI]
          exact H _ ⟨rfl, rfl, rfl, rfl, rfl⟩
      refine br_c (fun hp => h185 _ (by rw [if_pos hp])) (fun hp => pk_eq z 0 (fun h0 => nm_e (h185 _ ?_)) (fun h0 => h185 _ ?_))
      · rw [if_neg hp, if_neg (hzp.mp h0)]
      · rw [if_neg hp]
        by_cases hpt : pt = 0
        · rw [if_pos hpt]
        · exact absurd (hzp.mpr hpt) h0
    · rw [if_pos h, if_pos h] at H
      unfold ig_m at H
      rw [if_pos h0] at H
      exact H _ ⟨rfl, rfl, rfl, rfl, rfl⟩
    · rw [if_pos h, if_pos h] at H
      unfold ig_m at H
      rw [if_neg h0] at H
      exact H _ ⟨rfl, rfl, rfl, rfl, rfl⟩
  unfold ig_L at h136
  refine pk_eq s 0 (fun h0 => ?_) (fun h0 => ?_)
  · rw [if_pos h0] at h136
    exact h136
  · rw [if_neg h0] at h136
    exact h136
end
section
variable {f_attribute : Int32} {f_raised : Int32} {f_trapped : Int32} {f_more : Int32} {f_made : Int32} {a_format : Nat → Int32} {a_pattern : Nat → Int32} {a_kind : Nat → Int32} {a_exponent : Nat → Int32} {a_coefficient : Nat → Int64} {a_minus : Nat → Int32} {a_row : Nat → Int32} {post : Int32 → SY → Prop}
/-- with what is behind: pt -/
theorem yi_152 {s c pt b : Nat} {p2 : Int32} (hs : s < 2) (hc : c < 9223372036854775808) (hpt : pt < 4) (m0 : a_minus 0 = nI s) (hrest : c ≤ ig_L s → ∀ P : Int32 → Prop, P (nI pt) → wpY_rest P (f_attribute, f_raised, f_trapped, f_more, f_made, a_format, a_pattern, a_kind, a_exponent, a_coefficient, a_minus, a_row) (nI b) 0) (H : ∀ u' : SY, ys_S u' (ig_rs f_raised p2 s c pt) f_trapped f_attribute a_format a_pattern → post (ig_r s c) u') : wY_integer_152 post p2 (nI b) (lN c) f_attribute f_raised f_trapped f_more f_made a_format a_pattern a_kind a_exponent a_coefficient a_minus a_row := by
  unfold ig_rs ig_r at H
  have emin : (-2147483648 : Int64) = zz_L (-2147483648) := by decide
  have emax : (2147483647 : Int64) = zz_L 2147483647 := by decide
  have e0 : (0 : Int64) = zz_L 0 := by decide
  have h168 : ∀ z : Int, z = (if s = 0 then (c : Int) else -(c : Int)) → wY_integer_168 post p2 (nI b) (zz_L z) f_attribute f_raised f_trapped f_more f_made a_format a_pattern a_kind a_exponent a_coefficient a_minus a_row := by
    intro z hz
    have hzr : zz_RL z := by
      unfold zz_RL
      rw [hz]
      split <;> omega
    have h186 : ig_L s < c → wY_integer_186 post (zz_L z) f_attribute f_raised f_trapped f_more f_made a_format a_pattern a_kind a_exponent a_coefficient a_minus a_row := by
      intro h
      rw [if_pos h, if_pos h] at H
      unfold ig_m at H
      unfold ig_L at h
      refine nm_e ?_
      by_cases h0 : s = 0
      · rw [if_pos h0] at H hz h
        refine br_t ?_ (H _ ⟨rfl, rfl, rfl, rfl, rfl⟩)
        rw [e0, zz_Lle (by unfold zz_RL; omega) hzr]
        omega
      · rw [if_neg h0] at H hz h
        refine br_f ?_ (H _ ⟨rfl, rfl, rfl, rfl, rfl⟩)
        rw [e0, zz_Lle (by unfold zz_RL; omega) hzr]
        omega
    rw [wY_integer_168, emin, emax, zz_LI]
    have hlo : zz_L z < zz_L (-2147483648) ↔ z < -2147483648 := zz_Llt hzr (by unfold zz_RL; omega)
    have hhi : zz_L z ≤ zz_L 2147483647 ↔ z ≤ 2147483647 := zz_Lle hzr (by unfold zz_RL; omega)
    rw [hlo, hhi]
    have hLL : ig_L s < c ↔ (z < -2147483648 ∨ 2147483647 < z) := by
      unfold ig_L
      rw [hz]
      by_cases h0 : s = 0
      · rw [if_pos h0, if_pos h0]
        omega
      · rw [if_neg h0, if_neg h0]
        omega
    refine br_c (fun h => h186 (hLL.mpr (Or.inl h))) (fun h => br_c (fun h2 => ?_) (fun h2 => h186 (hLL.mpr (Or.inr (by omega)))))
    have hle : ¬ ig_L s < c := fun hh => by
      have := hLL.mp hh
      omega
    rw [if_neg hle, if_neg hle] at H
    have ev : ig_v s c = zz_I z := by
      unfold ig_v
      rw [hz]
      by_cases h0 : s = 0
      · rw [if_pos h0, if_pos h0]
      · rw [if_neg h0, if_neg h0]
    rw [ev] at H
    refine br_c (fun hp => ?_) (fun hp => ?_)
    · rw [if_pos hp] at H
      exact H _ ⟨rfl, rfl, rfl, rfl, rfl⟩
    · rw [if_neg hp] at H
      refine hrest (by omega) _ ?_
      refine pk_le pt 0 (fun h3 => ?_) (fun h3 => nm_e ?_)
      · rw [if_pos (by omega)] at H
        exact H _ ⟨rfl, rfl, rfl, rfl, rfl⟩
      · rw [if_neg (by omega)] at H
        exact H _ ⟨rfl, rfl, rfl, rfl, rfl⟩
  rw [wY_integer_152, m0]
  refine pk_eq s 0 (fun h0 => ?_) (fun h0 => nm_r (e' := zz_L (-(c : Int))) (by rw [zz_lN, zz_Lneg]) ?_)
  · rw [zz_lN]
    exact h168 _ (by rw [if_pos h0])
  · exact h168 _ (by rw [if_neg h0])
end
theorem i_vc_integer {k : Nat} {u : SX} {v : SY} (I : i_Rel k u v) (hk : k + 5 ≤ 2560) (v1 : Int32) (v2 : Int32) (v3 : Int32) : wpX_integer (fun r u' => wpY_integer (fun r' v' => r' = r ∧ i_Rel (k + 5) u' v') v v1 v2 (lw_bz v3)) u v1 v2 (lw_bz v3) := by
  generalize lw_bz v3 = p2
  refine rl_el (P := fun u v => wpX_integer (fun r u' => wpY_integer (fun r' v' => r' = r ∧ i_Rel (k + 5) u' v') v v1 v2 p2) u v1 v2 p2) ?_ I
  intro m f_raised f_trapped f_below f_value f_power f_rest f_wish f_exact a_format a_bits a_kind a_minus a_coefficient a_exponent a_wide y_more y_made y_kind y_exponent y_coefficient y_minus y_row hm hfo
  have R0 : i_Rel (k + 5) (f_raised, f_trapped, nI m, f_below, f_value, f_power, f_rest, f_wish, f_exact, a_format, a_bits, a_kind, a_minus, a_coefficient, a_exponent, a_wide) (nI m, f_raised, f_trapped, y_more, y_made, a_format, a_bits, y_kind, y_exponent, y_coefficient, y_minus, y_row) := rl_in hm hfo ⟨rfl, rfl, rfl, rfl, rfl⟩ ⟨rfl, rfl, rfl, rfl, rfl⟩
  by_cases hr : ∃ a : Nat, a < 8 ∧ v1 = nI a
  · obtain ⟨d, hD, rfl⟩ := hr
    obtain ⟨f, hf, ef⟩ := hfo d hD
    have hin : vp_in (nI d) 8 := vp_in_nI hD (by decide)
    have hcd : (nI d).toNatClampNeg = d := nI_clamp (by omega)
    by_cases hat : ∃ t : Nat, t < 5 ∧ v2 = nI t
    · obtain ⟨t, ht, rfl⟩ := hat
      have V0 := op_Vof hf rfl (a_bits d)
      obtain ⟨hK0, hM0, v0⟩ := id V0
      obtain ⟨hb, q1, q2, q3, q4, q5⟩ := sm_Vb (op_Vs V0)
      obtain ⟨b0, b2, b10, bb⟩ := yr_b hb
      have startX : ∀ (post : Int32 → SX → Prop), (∀ (ak am : Nat → Int32) (ac : Nat → Int64) (ae : Nat → Int32), op_Sl ak am ac ae 0 (op_K f (a_bits d)) (op_M f (a_bits d)) (op_C f (a_bits d)) (op_E f (a_bits d)) → ((2 ≤ ak 0 → wX_integer_44 post (nI d) (nI t) p2 f_raised f_trapped (nI m) f_below f_value f_power f_rest f_wish f_exact a_format a_bits ak am ac ae a_wide) ∧ (¬ 2 ≤ ak 0 → ∀ f_raised_71 : Int32, f_raised_71 = f_raised ||| 1 → wX_integer_44 post (nI d) (nI t) p2 f_raised_71 f_trapped (nI m) f_below f_value f_power f_rest f_wish f_exact a_format a_bits ak am ac ae a_wide))) → wpX_integer post (f_raised, f_trapped, nI m, f_below, f_value, f_power, f_rest, f_wish, f_exact, a_format, a_bits, a_kind, a_minus, a_coefficient, a_exponent, a_wide) (nI d) (nI t) p2 := by
        intro post G
        unfold wpX_integer
        dsimp only
        refine xw_isReg hD ?_
        refine br_f (by decide) (br_f (nI_pos (by omega)) (pk_le t 4 (fun _ => ?_) (fun h => absurd h (by omega))))
        refine xw_open (k := 0) hD (by decide) hf ef ?_
        intro ak am ac ae S0 _
        dsimp only
        exact G ak am ac ae S0
      have startY : ∀ (post : Int32 → SY → Prop), (op_K f (a_bits d) < 2 → ∀ (ak am : Nat → Int32) (ac : Nat → Int64) (ae : Nat → Int32), post 0 (nI m, f_raised ||| 1, f_trapped, y_more, y_made, a_format, a_bits, ak, ae, ac, am, y_row)) → (¬ op_K f (a_bits d) < 2 → ∀ (ak am : Nat → Int32) (ac : Nat → Int64) (ae : Nat → Int32) (row : Nat → Int32), op_Sl ak am ac ae 0 (op_K f (a_bits d)) (op_M f (a_bits d)) (op_C f (a_bits d)) (op_E f (a_bits d)) → yr_R (fm_b f) row 0 (sm_N (fm_b f) (op_C f (a_bits d)) (op_E f (a_bits d))) → ((op_K f (a_bits d) = 2 → wY_integer_120 post (nI t) p2 (nI (fm_b f)) (nI m) f_raised f_trapped 0 y_made a_format a_bits ak ae ac am row) ∧ (¬ op_K f (a_bits d) = 2 → wpY_highest (fun r_84 => (((40 < r_84 → (wY_integer_120 post (nI t) p2 (nI (fm_b f)) (nI m) f_raised f_trapped 0 y_made a_format a_bits ak ae ac am row)) ∧ (¬ 40 < r_84 → (((nI (fm_b f) = 10 → (wpY_highest (fun r_99 => (((r_99 ≤ 11 → (wY_integer_124 post (nI t) p2 (nI (fm_b f)) (nI m) f_raised f_trapped 0 y_made a_format a_bits ak ae ac am row)) ∧ (¬ r_99 ≤ 11 → (wY_integer_120 post (nI t) p2 (nI (fm_b f)) (nI m) f_raised f_trapped 0 y_made a_format a_bits ak ae ac am row))))) (nI m, f_raised, f_trapped, 0, y_made, a_format, a_bits, ak, ae, ac, am, row) (nI (fm_b f)))) ∧ (¬ nI (fm_b f) = 10 → (wY_integer_124 post (nI t) p2 (nI (fm_b f)) (nI m) f_raised f_trapped 0 y_made a_format a_bits ak ae ac am row))))))) ) (nI m, f_raised, f_trapped, 0, y_made, a_format, a_bits, ak, ae, ac, am, row) (nI (fm_b f))))) → wpY_integer post (nI m, f_raised, f_trapped, y_more, y_made, a_format, a_bits, y_kind, y_exponent, y_coefficient, y_minus, y_row) (nI d) (nI t) p2 := by
        intro post G0 G1
        unfold wpY_integer
        dsimp only
        refine yw_in (n := 8) hD (by decide) ?_
        refine br_f (by decide) ?_
        refine yw_in (n := 5) ht (by decide) ?_
        refine br_f (by decide) ?_
        refine yw_open (k := 0) hD (by decide) hf ef ?_
        intro ak am ac ae S0 _
        dsimp only
        refine ⟨hin, ?_⟩
        rw [hcd, ef]
        refine yw_base hf ?_
        rw [S0.1]
        refine pk_le 2 (op_K f (a_bits d)) (fun h => ?_) (fun h => nm_e (G0 (by omega) ak am ac ae))
        refine yw_clear ?_
        intro row1 hz1
        dsimp only
        rw [S0.2.2.1, S0.2.2.2]
        refine yw_clay hb q5 q1 (sm_N_lt (op_Vs V0)).2 (sm_799 hb (sm_N_lt (op_Vs V0)).1) hz1 ?_
        intro row2 hr2 _
        dsimp only
        have g := G1 (by omega) ak am ac ae row2 S0 hr2
        rw [S0.1]
        exact pk_eq (op_K f (a_bits d)) 2 (fun h => g.1 h) (fun h => g.2 h)
      by_cases nan : op_K f (a_bits d) < 2
      · refine startX _ ?_
        intro ak am ac ae S0
        rw [S0.1]
        refine pk_le 2 (op_K f (a_bits d)) (fun h => absurd h (by omega)) (fun _ => nm_e ?_)
        rw [wX_integer_44, S0.1]
        refine pk_le 2 (op_K f (a_bits d)) (fun h => absurd h (by omega)) (fun _ => ?_)
        refine startY _ (fun _ => ?_) (fun h => absurd nan h)
        intro bk bm bc be
        exact ⟨rfl, rl_in hm hfo ⟨rfl, rfl, rfl, rfl, rfl⟩ ⟨rfl, rfl, rfl, rfl, rfl⟩⟩
      -- the number and its part behind
      · have fin : ∀ (R pt : Nat), (∀ (ak am : Nat → Int32) (ac : Nat → Int64) (ae : Nat → Int32) (post : Int32 → SX → Prop), op_Sl ak am ac ae 0 (op_K f (a_bits d)) (op_M f (a_bits d)) (op_C f (a_bits d)) (op_E f (a_bits d)) → (∀ u' : SX, xs_S u' (ig_rs f_raised p2 (op_M f (a_bits d)) R pt) f_trapped (nI m) a_format a_bits → post (ig_r (op_M f (a_bits d)) R) u') → wX_integer_44 post (nI d) (nI t) p2 f_raised f_trapped (nI m) f_below f_value f_power f_rest f_wish f_exact a_format a_bits ak am ac ae a_wide) → (∀ (post : Int32 → SY → Prop), (∀ v' : SY, ys_S v' (ig_rs f_raised p2 (op_M f (a_bits d)) R pt) f_trapped (nI m) a_format a_bits → post (ig_r (op_M f (a_bits d)) R) v') → wpY_integer post (nI m, f_raised, f_trapped, y_more, y_made, a_format, a_bits, y_kind, y_exponent, y_coefficient, y_minus, y_row) (nI d) (nI t) p2) → wpX_integer (fun r u' => wpY_integer (fun r' v' => r' = r ∧ i_Rel (k + 5) u' v') (nI m, f_raised, f_trapped, y_more, y_made, a_format, a_bits, y_kind, y_exponent, y_coefficient, y_minus, y_row) (nI d) (nI t) p2) (f_raised, f_trapped, nI m, f_below, f_value, f_power, f_rest, f_wish, f_exact, a_format, a_bits, a_kind, a_minus, a_coefficient, a_exponent, a_wide) (nI d) (nI t) p2 := by
          intro R pt GX GY
          refine startX _ ?_
          intro ak am ac ae S0
          rw [S0.1]
          refine pk_le 2 (op_K f (a_bits d)) (fun _ => ?_) (fun h => absurd h (by omega))
          refine GX ak am ac ae _ S0 ?_
          intro u' hu
          refine GY _ ?_
          intro v' hv
          exact ⟨rfl, rl_in hm hfo hu hv⟩
        generalize op_K f (a_bits d) = K at *
        generalize op_M f (a_bits d) = M at *
        generalize op_C f (a_bits d) = C at *
        generalize op_E f (a_bits d) = E at *
        have hLb : ig_L M ≤ 2147483648 := by
          unfold ig_L
          split <;> omega
        by_cases inf : K = 2
        · refine fin 4294967296 0 ?_ ?_
          · intro ak am ac ae post S0 HP
            rw [wX_integer_44, S0.1]
            refine pk_le 2 K (fun _ => ?_) (fun h => absurd h (by omega))
            refine xw_take (k := 0) (by decide) hM0 S0 ?_
            dsimp only
            rw [S0.1]
            refine pk_eq K 2 (fun _ => ?_) (fun h => absurd inf h)
            refine br_t (by rw [S0.1, inf]; rfl) ?_
            exact xi_116 (c := 4294967296) (pt := 0) (z := 1) hM0 (by decide) (by decide) (by decide) HP
          · intro post HP
            refine startY post (fun h => absurd h nan) (fun _ => ?_)
            intro ak am ac ae row S0 hrow
            refine ⟨fun _ => ?_, fun h => absurd inf h⟩
            refine br_f (by decide) ?_
            have eb : ig_L M < 4294967296 := by omega
            have eb2 : ig_L M < 100000000000 := by omega
            refine yi_152 (c := 100000000000) (pt := 0) hM0 (by decide) (by decide) S0.2.1 (fun h => absurd h (by omega)) ?_
            unfold ig_rs ig_r at HP ⊢
            rw [if_pos eb, if_pos eb] at HP
            rw [if_pos eb2, if_pos eb2]
            exact HP
        · have hUq : (0 : Int) ≤ 0 + fm_P (fm_b f) := by omega
          have hP450 : fm_P (fm_b f) ≤ 450 := by rcases hb with h | h <;> rw [h] <;> decide
          have hPge : 230 ≤ fm_P (fm_b f) := by rcases hb with h | h <;> rw [h] <;> decide
          have eMq : rn_M 1 (fm_b f) (fm_P (fm_b f)) 0 = fm_b f ^ (0 + (fm_P (fm_b f) : Int)).toNat := rn_M1 (fm_b f) 0
          have eMp : rn_M 1 (fm_b f) (fm_P (fm_b f)) E = fm_b f ^ (E + fm_P (fm_b f)).toNat := rn_M1 (fm_b f) E
          have hrep : C = sm_N (fm_b f) C E / rn_M 1 (fm_b f) (fm_P (fm_b f)) E := by
            rw [eMp]
            unfold sm_N
            rw [Nat.mul_div_cancel _ (Nat.pow_pos b0)]
          have hmod : sm_N (fm_b f) C E % rn_M 1 (fm_b f) (fm_P (fm_b f)) E = 0 := by
            rw [eMp]
            unfold sm_N
            rw [Nat.mul_mod_left]
          have hY := yr_Yx (b := fm_b f) (A := sm_N (fm_b f) C E) (by omega)
          have hrge : sm_N (fm_b f) C E / rn_M 1 (fm_b f) (fm_P (fm_b f)) 0 ≤ rn_r t M (sm_N (fm_b f) C E) (rn_M 1 (fm_b f) (fm_P (fm_b f)) 0) := Nat.le_add_right _ _
          have hptl := rn_pt_le (sm_N (fm_b f) C E) (rn_M 1 (fm_b f) (fm_P (fm_b f)) 0)
          have hcb : C < xr_bd (fm_b f) := by
            rcases hb with h | h
            · rw [h]
              have : xr_bd 2 = 4611686018427387904 := rfl
              omega
            · rw [h]
              have : xr_bd 10 = 5000000000000000000 := rfl
              omega
          refine fin (rn_r t M (sm_N (fm_b f) C E) (rn_M 1 (fm_b f) (fm_P (fm_b f)) 0)) (rn_pt (sm_N (fm_b f) C E) (rn_M 1 (fm_b f) (fm_P (fm_b f)) 0)) ?_ ?_
          · intro ak am ac ae post S0 HP
            rw [wX_integer_44, S0.1]
            refine pk_le 2 K (fun _ => ?_) (fun h => absurd h (by omega))
            refine xw_take (k := 0) (by decide) hM0 S0 ?_
            dsimp only
            rw [S0.1]
            refine pk_eq K 2 (fun h => absurd h inf) (fun _ => ⟨hin, ?_⟩)
            rw [hcd, ef]
            refine xw_baseOf hf ?_
            have n2 : ¬ ak 0 = 2 := by
              rw [S0.1]
              exact bo_k hK0 (by decide) inf
            by_cases hl : E < 0
            · have hle : rn_r t M (sm_N (fm_b f) C E) (rn_M 1 (fm_b f) (fm_P (fm_b f)) 0) < 9223372036854775808 := by
                have h1 : sm_N (fm_b f) C E / rn_M 1 (fm_b f) (fm_P (fm_b f)) 0 ≤ C := by
                  rw [rn_div_up (e := E) (by omega) (show E ≤ 0 by omega), ← hrep]
                  exact Nat.div_le_self _ _
                have := rn_up_le t M (rn_pt (sm_N (fm_b f) C E) (rn_M 1 (fm_b f) (fm_P (fm_b f)) 0)) (sm_N (fm_b f) C E / rn_M 1 (fm_b f) (fm_P (fm_b f)) 0 % 2)
                unfold rn_r
                omega
              refine xw_whole_up (r := 0) (D := 1) (U := fm_P (fm_b f)) (q := 0) hb ht hM0 (by decide) (by decide) (by omega) hrep ⟨fun _ => hmod, fun _ => rfl⟩ hcb hl (by omega) (by omega) ?_
              dsimp only
              refine br_f n2 ?_
              by_cases hp : rn_pt (sm_N (fm_b f) C E) (rn_M 1 (fm_b f) (fm_P (fm_b f)) 0) = 0
              · rw [if_pos hp]
                refine br_f (by decide) ?_
                exact xi_116 (z := 1) hM0 hle (by decide) (by rw [hp]; decide) HP
              · rw [if_neg hp]
                refine br_t rfl ?_
                exact xi_116 (z := 0) hM0 hle (by decide) ⟨fun _ => hp, fun _ => rfl⟩ HP
            · obtain ⟨g1, g2⟩ := rn_fine (D := 1) (b := fm_b f) (U := fm_P (fm_b f)) (by decide) b0 hUq (show (0 : Int) ≤ E by omega) hmod
              rw [← hrep] at g1
              have gp : rn_pt (sm_N (fm_b f) C E) (rn_M 1 (fm_b f) (fm_P (fm_b f)) 0) = 0 := rn_pt_0.mpr g2
              have gr : rn_r t M (sm_N (fm_b f) C E) (rn_M 1 (fm_b f) (fm_P (fm_b f)) 0) = C * fm_b f ^ (E - 0).toNat := by rw [rn_r_ex gp, g1]
              refine xw_whole_dn (q := 0) hb (by omega) (show (0 : Int) ≤ E by omega) (by omega) (by omega) ?_
              intro c hc hcc
              have hbig : 400000000000000000 ≤ 4000000000000000000 / fm_b f := by rcases hb with h | h <;> rw [h] <;> decide
              dsimp only
              refine br_f n2 (br_f (by decide) ?_)
              refine xi_116 (c := c) (pt := 0) (z := 1) hM0 hc (by decide) (by decide) ?_
              rw [gp, gr] at HP
              rcases hcc with h | h
              · rw [h]
                exact HP
              · unfold ig_rs ig_r at HP ⊢
                have a1 : ig_L M < c := by omega
                have a2 : ig_L M < C * fm_b f ^ (E - 0).toNat := by omega
                rw [if_pos a1, if_pos a1]
                rw [if_pos a2, if_pos a2] at HP
                exact HP
          · intro post HP
            refine startY post (fun h => absurd h nan) (fun _ => ?_)
            intro ak am ac ae row S0 hrow
            have hN := sm_799 hb (sm_N_lt (op_Vs V0)).1
            refine ⟨fun h => absurd h inf, fun _ => ?_⟩
            have h120 : ig_L M < rn_r t M (sm_N (fm_b f) C E) (rn_M 1 (fm_b f) (fm_P (fm_b f)) 0) → wY_integer_120 post (nI t) p2 (nI (fm_b f)) (nI m) f_raised f_trapped 0 y_made a_format a_bits ak ae ac am row := by
              intro hbig
              refine br_f (by decide) ?_
              have eb2 : ig_L M < 100000000000 := by omega
              refine yi_152 (c := 100000000000) (pt := 0) hM0 (by decide) (by decide) S0.2.1 (fun h => absurd h (by omega)) ?_
              unfold ig_rs ig_r at HP ⊢
              rw [if_pos hbig, if_pos hbig] at HP
              rw [if_pos eb2, if_pos eb2]
              exact HP
            have h124 : sm_N (fm_b f) C E / rn_M 1 (fm_b f) (fm_P (fm_b f)) 0 < 10000000000000 → wY_integer_124 post (nI t) p2 (nI (fm_b f)) (nI m) f_raised f_trapped 0 y_made a_format a_bits ak ae ac am row := by
              intro hlt
              have hle : rn_r t M (sm_N (fm_b f) C E) (rn_M 1 (fm_b f) (fm_P (fm_b f)) 0) < 9223372036854775808 := by
                have := rn_up_le t M (rn_pt (sm_N (fm_b f) C E) (rn_M 1 (fm_b f) (fm_P (fm_b f)) 0)) (sm_N (fm_b f) C E / rn_M 1 (fm_b f) (fm_P (fm_b f)) 0 % 2)
                unfold rn_r
                omega
              refine br_t rfl ?_
              rw [S0.2.1]
              refine yw_roundedA (D := 1) (U := fm_P (fm_b f)) (mo := 0) (q := 0) hb (by decide) ht hM0 hrow hN hY (by omega) (by omega) (by omega) ?_
              refine yi_152 hM0 hle (by omega) S0.2.1 (fun _ P hP => ?_) HP
              exact yw_restA (D := 1) (U := fm_P (fm_b f)) (mo := 0) (q := 0) hb (by decide) hrow hY (by omega) (by omega) hP
            have hpow : ∀ h j : Nat, fm_b f ^ h ≤ sm_N (fm_b f) C E → j + fm_P (fm_b f) ≤ h → fm_b f ^ j ≤ sm_N (fm_b f) C E / rn_M 1 (fm_b f) (fm_P (fm_b f)) 0 := by
              intro h j h1 hj
              rw [eMq, Nat.le_div_iff_mul_le (Nat.pow_pos b0), ← Nat.pow_add]
              exact Nat.le_trans (dg_pow_le b0 (by omega)) h1
            have hpow2 : ∀ h j : Nat, sm_N (fm_b f) C E < fm_b f ^ (h + 1) → h + 1 ≤ j + fm_P (fm_b f) → sm_N (fm_b f) C E / rn_M 1 (fm_b f) (fm_P (fm_b f)) 0 < fm_b f ^ j := by
              intro h j h1 hj
              rw [eMq, Nat.div_lt_iff_lt_mul (Nat.pow_pos b0), ← Nat.pow_add]
              exact Nat.lt_of_lt_of_le h1 (dg_pow_le b0 (by omega))
            have hz0 : sm_N (fm_b f) C E = 0 → sm_N (fm_b f) C E / rn_M 1 (fm_b f) (fm_P (fm_b f)) 0 < 10000000000000 := by
              intro h
              rw [h, Nat.zero_div]
              decide
            have b41 : ∀ x : Nat, fm_b f ^ 41 ≤ x → 2147483648 < x := by
              intro x hx
              have h1 : (2 : Nat) ^ 41 ≤ fm_b f ^ 41 := Nat.pow_le_pow_left b2 41
              have h2 : (2 : Nat) ^ 41 = 2199023255552 := by decide
              omega
            refine yw_highest hb hrow hN (fun h0 => ?_) (fun h h8 h1 h2 => ?_)
            · refine br_f (by decide) (pk_eq (fm_b f) 10 (fun h10 => ?_) (fun h10 => h124 (hz0 h0)))
              refine yw_highest hb hrow hN (fun _ => br_t (by decide) (h124 (hz0 h0))) (fun h _ h1 _ => ?_)
              exfalso
              have : 0 < fm_b f ^ h := Nat.pow_pos b0
              omega
            · refine zz_lt 40 ((h : Int) - fm_P (fm_b f)) (fun hgt => h120 ?_) (fun hle => pk_eq (fm_b f) 10 (fun h10 => ?_) (fun h10 => h124 ?_))
              · have := b41 _ (hpow h 41 h1 (by omega))
                omega
              · refine yw_highest hb hrow hN (fun h0 => ?_) (fun h' h8' h1' h2' => ?_)
                · exfalso
                  have : 0 < fm_b f ^ h := Nat.pow_pos b0
                  omega
                · refine zz_le ((h' : Int) - fm_P (fm_b f)) 11 (fun hl => h124 ?_) (fun hl => h120 ?_)
                  · have h3 := hpow2 h' 12 h2' (by omega)
                    rw [h10] at h3 ⊢
                    have h4 : (10 : Nat) ^ 12 = 1000000000000 := by decide
                    omega
                  · have h3 := hpow h' 12 h1' (by omega)
                    rw [h10] at h3 hrge ⊢
                    have h4 : (10 : Nat) ^ 12 = 1000000000000 := by decide
                    omega
              · have e2 : fm_b f = 2 := by omega
                have h3 := hpow2 h 41 h2 (by omega)
                rw [e2] at h3 ⊢
                have h4 : (2 : Nat) ^ 41 = 2199023255552 := by decide
                omega
    · have hY : wpY_integer (fun r' v' => r' = 0 ∧ i_Rel (k + 5) (f_raised, f_trapped, nI m, f_below, f_value, f_power, f_rest, f_wish, f_exact, a_format, a_bits, a_kind, a_minus, a_coefficient, a_exponent, a_wide) v') (nI m, f_raised, f_trapped, y_more, y_made, a_format, a_bits, y_kind, y_exponent, y_coefficient, y_minus, y_row) (nI d) v2 p2 := by
        unfold wpY_integer
        dsimp only
        refine yw_in (n := 8) hD (by decide) ?_
        refine br_f (by decide) ?_
        refine yw_inN (n := 5) (by decide) hat ?_
        exact br_t rfl ⟨rfl, R0⟩
      unfold wpX_integer
      dsimp only
      refine xw_isReg hD ?_
      refine br_f (by decide) ?_
      rcases pk_ix v2 (n := 5) (by decide) with h0 | h8 | hj
      · exact br_t h0 hY
      · refine br_c (fun _ => hY) (fun _ => br_f ?_ hY)
        intro h4
        rw [Int32.le_iff_toInt_le] at h8 h4
        have e5 : (nI 5).toInt = 5 := by decide
        have e4 : (4 : Int32).toInt = 4 := by decide
        omega
      · exact absurd hj hat
  · unfold wpX_integer
    dsimp only
    refine xw_isRegN hr (br_t rfl ?_)
    unfold wpY_integer
    dsimp only
    refine yw_inN (n := 8) (by decide) hr ?_
    exact br_t rfl ⟨rfl, R0⟩
end
section
/-! fuse -/
def fu_kk (K0 K1 K2 : Nat) : Nat → Nat := fun j => if j = 0 then K0 else if j = 1 then K1 else K2
theorem fu_k3 {K0 K1 K2 : Nat} (h0 : K0 < 4) (h1 : K1 < 4) (h2 : K2 < 4) (ak : Nat → Int32) (e0 : ak 0 = nI K0) (e1 : ak 1 = nI K1) (e2 : ak 2 = nI K2) : ∀ j, j < 3 → ak j = nI (fu_kk K0 K1 K2 j) ∧ fu_kk K0 K1 K2 j < 4 := by
  intro j hj
  rcases (show j = 0 ∨ j = 1 ∨ j = 2 by omega) with rfl | rfl | rfl
  · exact ⟨e0, h0⟩
  · exact ⟨e1, h1⟩
  · exact ⟨e2, h2⟩
theorem fu_k2 {K0 K1 K2 : Nat} (h0 : K0 < 4) (h1 : K1 < 4) (ak : Nat → Int32) (e0 : ak 0 = nI K0) (e1 : ak 1 = nI K1) : ∀ j, j < 2 → ak j = nI (fu_kk K0 K1 K2 j) ∧ fu_kk K0 K1 K2 j < 4 := by
  intro j hj
  rcases (show j = 0 ∨ j = 1 by omega) with rfl | rfl
  · exact ⟨e0, h0⟩
  · exact ⟨e1, h1⟩
theorem fu_all {K0 K1 K2 : Nat} {P : Nat → Prop} : (∀ j, j < 3 → P (fu_kk K0 K1 K2 j)) ↔ P K0 ∧ P K1 ∧ P K2 := by
  constructor
  · intro h
    exact ⟨h 0 (by decide), h 1 (by decide), h 2 (by decide)⟩
  · intro h j hj
    rcases (show j = 0 ∨ j = 1 ∨ j = 2 by omega) with rfl | rfl | rfl
    · exact h.1
    · exact h.2.1
    · exact h.2.2
theorem fu_all2 {K0 K1 K2 : Nat} {P : Nat → Prop} : (∀ j, j < 2 → P (fu_kk K0 K1 K2 j)) ↔ P K0 ∧ P K1 := by
  constructor
  · intro h
    exact ⟨h 0 (by decide), h 1 (by decide)⟩
  · intro h j hj
    rcases (show j = 0 ∨ j = 1 by omega) with rfl | rfl
    · exact h.1
    · exact h.2
theorem fu_main {f fa fb fc m : Nat} {x y z : Int32} (hf : f < 4) (hfa : fa < 4) (hfb : fb < 4) (hfc : fc < 4) (ha : fm_b fa = fm_b f) (hb : fm_b fb = fm_b f) (hc : fm_b fc = fm_b f) (hm : m < 5) : ∃ fl pt : Int32, bt_ok f fl pt ∧ (∀ (f_raised : Int32) (f_trapped : Int32) (f_below : Int32) (f_value : Int64) (f_power : Int32) (f_rest : Int32) (f_wish : Int32) (f_exact : Int32) (a_format : Nat → Int32) (a_bits : Nat → Int32) (a_kind : Nat → Int32) (a_minus : Nat → Int32) (a_coefficient : Nat → Int64) (a_exponent : Nat → Int32) (a_wide : Nat → Int32) (post : Int32 → SX → Prop) (d a b c : Nat), d < 8 → a < 8 → b < 8 → c < 8 → a_format d = nI f → a_format a = nI fa → a_format b = nI fb → a_format c = nI fc → a_bits a = x → a_bits b = y → a_bits c = z → xs_D post f_raised f_trapped (nI m) a_format a_bits d fl pt → wX_fuse_33 post (nI d) (nI a) (nI b) (nI c) 1 f_raised f_trapped (nI m) f_below f_value f_power f_rest f_wish f_exact a_format a_bits a_kind a_minus a_coefficient a_exponent a_wide) ∧ (∀ (f_raised : Int32) (f_trapped : Int32) (f_more : Int32) (f_made : Int32) (a_format : Nat → Int32) (a_pattern : Nat → Int32) (a_kind : Nat → Int32) (a_exponent : Nat → Int32) (a_coefficient : Nat → Int64) (a_minus : Nat → Int32) (a_row : Nat → Int32) (post : Int32 → SY → Prop) (d a b c : Nat), d < 8 → a < 8 → b < 8 → c < 8 → a_format d = nI f → a_format a = nI fa → a_format b = nI fb → a_format c = nI fc → a_pattern a = x → a_pattern b = y → a_pattern c = z → ys_D post f_raised f_trapped (nI m) a_format a_pattern d fl pt → wpY_open (fun u => match u with | (f_attribute, f_raised, f_trapped, f_more, f_made, a_format, a_pattern, a_kind, a_exponent, a_coefficient, a_minus, a_row) => (wpY_open (fun u => match u with | (f_attribute, f_raised, f_trapped, f_more, f_made, a_format, a_pattern, a_kind, a_exponent, a_coefficient, a_minus, a_row) => (wpY_open (fun u => match u with | (f_attribute, f_raised, f_trapped, f_more, f_made, a_format, a_pattern, a_kind, a_exponent, a_coefficient, a_minus, a_row) => (wpY_any (fun r_84 => (wpY_any (fun r_97 => (((r_97 = 0 → (wY_fuse_94 post (nI d) (nI f) r_84 f_attribute f_raised f_trapped f_more f_made a_format a_pattern a_kind a_exponent a_coefficient a_minus a_row)) ∧ (¬ r_97 = 0 → (wpY_isZero (fun r_198 => (((r_198 = 0 → (wpY_isZero (fun r_212 => (((r_212 = 0 → (wY_fuse_94 post (nI d) (nI f) r_84 f_attribute f_raised f_trapped f_more f_made a_format a_pattern a_kind a_exponent a_coefficient a_minus a_row)) ∧ (¬ r_212 = 0 → (wY_fuse_90 post (nI d) (nI f) r_84 f_attribute f_raised f_trapped f_more f_made a_format a_pattern a_kind a_exponent a_coefficient a_minus a_row))))) (f_attribute, f_raised, f_trapped, f_more, f_made, a_format, a_pattern, a_kind, a_exponent, a_coefficient, a_minus, a_row) 1)) ∧ (¬ r_198 = 0 → (wY_fuse_90 post (nI d) (nI f) r_84 f_attribute f_raised f_trapped f_more f_made a_format a_pattern a_kind a_exponent a_coefficient a_minus a_row))))) (f_attribute, f_raised, f_trapped, f_more, f_made, a_format, a_pattern, a_kind, a_exponent, a_coefficient, a_minus, a_row) 0))))) (f_attribute, f_raised, f_trapped, f_more, f_made, a_format, a_pattern, a_kind, a_exponent, a_coefficient, a_minus, a_row) 2 2)) (f_attribute, f_raised, f_trapped, f_more, f_made, a_format, a_pattern, a_kind, a_exponent, a_coefficient, a_minus, a_row) 3 0)) (f_attribute, f_raised, f_trapped, f_more, f_made, a_format, a_pattern, a_kind, a_exponent, a_coefficient, a_minus, a_row) 2 (nI c))) (f_attribute, f_raised, f_trapped, f_more, f_made, a_format, a_pattern, a_kind, a_exponent, a_coefficient, a_minus, a_row) 1 (nI b))) (nI m, f_raised, f_trapped, f_more, f_made, a_format, a_pattern, a_kind, a_exponent, a_coefficient, a_minus, a_row) 0 (nI a)) := by
  have V0 := op_Vof hfa ha x
  have V1 := op_Vof hfb hb y
  have V2 := op_Vof hfc hc z
  obtain ⟨hK0, hM0, _⟩ := id V0
  obtain ⟨hK1, hM1, _⟩ := id V1
  obtain ⟨hK2, hM2, _⟩ := id V2
  obtain ⟨hbb, q1, q2, q3, q4, q5⟩ := sm_Vb (op_Vs V0)
  obtain ⟨_, t1, t2, t3, t4, t5⟩ := sm_Vb (op_Vs V1)
  -- the opened operands
  have startX : ∀ (f_raised : Int32) (f_trapped : Int32) (f_below : Int32) (f_value : Int64) (f_power : Int32) (f_rest : Int32) (f_wish : Int32) (f_exact : Int32) (a_format : Nat → Int32) (a_bits : Nat → Int32) (a_kind : Nat → Int32) (a_minus : Nat → Int32) (a_coefficient : Nat → Int64) (a_exponent : Nat → Int32) (a_wide : Nat → Int32) (post : Int32 → SX → Prop) (d a b c : Nat), d < 8 → a < 8 → b < 8 → c < 8 → a_format d = nI f → a_format a = nI fa → a_format b = nI fb → a_format c = nI fc → a_bits a = x → a_bits b = y → a_bits c = z → (∀ (ak am : Nat → Int32) (ac : Nat → Int64) (ae : Nat → Int32), op_Sl ak am ac ae 0 (op_K fa x) (op_M fa x) (op_C fa x) (op_E fa x) → op_Sl ak am ac ae 1 (op_K fb y) (op_M fb y) (op_C fb y) (op_E fb y) → op_Sl ak am ac ae 2 (op_K fc z) (op_M fc z) (op_C fc z) (op_E fc z) → (((¬ bo_Z (op_K fa x) (op_C fa x) = 0 ∧ op_K fb y = 2) ∨ (op_K fa x = 2 ∧ ¬ bo_Z (op_K fb y) (op_C fb y) = 0)) → wX_fuse_102 post (nI d) 1 f_raised f_trapped (nI m) f_below f_value f_power f_rest f_wish f_exact a_format a_bits ak am ac ae a_wide) ∧ (¬ ((¬ bo_Z (op_K fa x) (op_C fa x) = 0 ∧ op_K fb y = 2) ∨ (op_K fa x = 2 ∧ ¬ bo_Z (op_K fb y) (op_C fb y) = 0)) → wX_fuse_102 post (nI d) 0 f_raised f_trapped (nI m) f_below f_value f_power f_rest f_wish f_exact a_format a_bits ak am ac ae a_wide)) → wX_fuse_33 post (nI d) (nI a) (nI b) (nI c) 1 f_raised f_trapped (nI m) f_below f_value f_power f_rest f_wish f_exact a_format a_bits a_kind a_minus a_coefficient a_exponent a_wide := by
    intro f_raised f_trapped f_below f_value f_power f_rest f_wish f_exact a_format a_bits a_kind a_minus a_coefficient a_exponent a_wide post d a b c hd hA hB hC ef efa efb efc hx hy hz G
    subst hx hy hz
    refine br_f (by decide) ?_
    refine xw_open (k := 0) hA (by decide) hfa efa ?_
    intro ak am ac ae S0 _
    dsimp only
    refine xw_open (k := 1) hB (by decide) hfb efb ?_
    intro bk bm bc be S1 oth
    dsimp only
    refine xw_open (k := 2) hC (by decide) hfc efc ?_
    intro ck cm cc ce S2 oth2
    dsimp only
    obtain ⟨o1, o2, o3, o4⟩ := oth 0 (by decide)
    obtain ⟨p1, p2, p3, p4⟩ := oth2 0 (by decide)
    obtain ⟨r1, r2, r3, r4⟩ := oth2 1 (by decide)
    have S0' : op_Sl ck cm cc ce 0 (op_K fa (a_bits a)) (op_M fa (a_bits a)) (op_C fa (a_bits a)) (op_E fa (a_bits a)) := ⟨p1.trans (o1.trans S0.1), p2.trans (o2.trans S0.2.1), p3.trans (o3.trans S0.2.2.1), p4.trans (o4.trans S0.2.2.2)⟩
    have S1' : op_Sl ck cm cc ce 1 (op_K fb (a_bits b)) (op_M fb (a_bits b)) (op_C fb (a_bits b)) (op_E fb (a_bits b)) := ⟨r1.trans S1.1, r2.trans S1.2.1, r3.trans S1.2.2.1, r4.trans S1.2.2.2⟩
    obtain ⟨G1, G0⟩ := G ck cm cc ce S0' S1' S2
    generalize op_K fa (a_bits a) = K0 at *
    generalize op_K fb (a_bits b) = K1 at *
    generalize op_C fa (a_bits a) = C0 at *
    generalize op_C fb (a_bits b) = C1 at *
    have Z0 := bo_Z_lt K0 C0
    have Z1 := bo_Z_lt K1 C1
    refine xw_isZero (k := 0) (by decide) hK0 q5 S0' ?_
    have h79 : ¬ (¬ bo_Z K0 C0 = 0 ∧ K1 = 2) → wX_fuse_79 post (nI d) f_raised f_trapped (nI m) f_below f_value f_power f_rest f_wish f_exact a_format a_bits ck cm cc ce a_wide := by
      intro hh
      rw [wX_fuse_79, S0'.1]
      refine pk_eq K0 2 (fun h => ?_) (fun h => G0 (by omega))
      refine xw_isZero (k := 1) (by decide) hK1 t5 S1' ?_
      exact pk_eq (bo_Z K1 C1) 0 (fun h1 => G0 (by omega)) (fun h1 => G1 (by omega))
    rw [S1'.1]
    exact pk_eq (bo_Z K0 C0) 0 (fun h => h79 (by omega)) (fun h => pk_eq K1 2 (fun h2 => G1 (by omega)) (fun h2 => h79 (by omega)))
  have startY : ∀ (f_raised : Int32) (f_trapped : Int32) (f_more : Int32) (f_made : Int32) (a_format : Nat → Int32) (a_pattern : Nat → Int32) (a_kind : Nat → Int32) (a_exponent : Nat → Int32) (a_coefficient : Nat → Int64) (a_minus : Nat → Int32) (a_row : Nat → Int32) (post : Int32 → SY → Prop) (d a b c : Nat), d < 8 → a < 8 → b < 8 → c < 8 → a_format d = nI f → a_format a = nI fa → a_format b = nI fb → a_format c = nI fc → a_pattern a = x → a_pattern b = y → a_pattern c = z → (∀ (ak am : Nat → Int32) (ac : Nat → Int64) (ae : Nat → Int32) (lo : Nat), lo < 2 → (lo = 0 ↔ ∀ j, j < 3 → ¬ fu_kk (op_K fa x) (op_K fb y) (op_K fc z) j = 0) → op_Sl ak am ac ae 0 (op_K fa x) (op_M fa x) (op_C fa x) (op_E fa x) → op_Sl ak am ac ae 1 (op_K fb y) (op_M fb y) (op_C fb y) (op_E fb y) → op_Sl ak am ac ae 2 (op_K fc z) (op_M fc z) (op_C fc z) (op_E fc z) → (((¬ bo_Z (op_K fa x) (op_C fa x) = 0 ∧ op_K fb y = 2) ∨ (op_K fa x = 2 ∧ ¬ bo_Z (op_K fb y) (op_C fb y) = 0)) → wY_fuse_95 post (nI d) (nI f) (nI lo) 1 (nI m) f_raised f_trapped f_more f_made a_format a_pattern ak ae ac am a_row) ∧ (¬ ((¬ bo_Z (op_K fa x) (op_C fa x) = 0 ∧ op_K fb y = 2) ∨ (op_K fa x = 2 ∧ ¬ bo_Z (op_K fb y) (op_C fb y) = 0)) → wY_fuse_95 post (nI d) (nI f) (nI lo) 0 (nI m) f_raised f_trapped f_more f_made a_format a_pattern ak ae ac am a_row)) → wpY_open (fun u => match u with | (f_attribute, f_raised, f_trapped, f_more, f_made, a_format, a_pattern, a_kind, a_exponent, a_coefficient, a_minus, a_row) => (wpY_open (fun u => match u with | (f_attribute, f_raised, f_trapped, f_more, f_made, a_format, a_pattern, a_kind, a_exponent, a_coefficient, a_minus, a_row) => (wpY_open (fun u => match u with | (f_attribute, f_raised, f_trapped, f_more, f_made, a_format, a_pattern, a_kind, a_exponent, a_coefficient, a_minus, a_row) => (wpY_any (fun r_84 => (wpY_any (fun r_97 => (((r_97 = 0 → (wY_fuse_94 post (nI d) (nI f) r_84 f_attribute f_raised f_trapped f_more f_made a_format a_pattern a_kind a_exponent a_coefficient a_minus a_row)) ∧ (¬ r_97 = 0 → (wpY_isZero (fun r_198 => (((r_198 = 0 → (wpY_isZero (fun r_212 => (((r_212 = 0 → (wY_fuse_94 post (nI d) (nI f) r_84 f_attribute f_raised f_trapped f_more f_made a_format a_pattern a_kind a_exponent a_coefficient a_minus a_row)) ∧ (¬ r_212 = 0 → (wY_fuse_90 post (nI d) (nI f) r_84 f_attribute f_raised f_trapped f_more f_made a_format a_pattern a_kind a_exponent a_coefficient a_minus a_row))))) (f_attribute, f_raised, f_trapped, f_more, f_made, a_format, a_pattern, a_kind, a_exponent, a_coefficient, a_minus, a_row) 1)) ∧ (¬ r_198 = 0 → (wY_fuse_90 post (nI d) (nI f) r_84 f_attribute f_raised f_trapped f_more f_made a_format a_pattern a_kind a_exponent a_coefficient a_minus a_row))))) (f_attribute, f_raised, f_trapped, f_more, f_made, a_format, a_pattern, a_kind, a_exponent, a_coefficient, a_minus, a_row) 0))))) (f_attribute, f_raised, f_trapped, f_more, f_made, a_format, a_pattern, a_kind, a_exponent, a_coefficient, a_minus, a_row) 2 2)) (f_attribute, f_raised, f_trapped, f_more, f_made, a_format, a_pattern, a_kind, a_exponent, a_coefficient, a_minus, a_row) 3 0)) (f_attribute, f_raised, f_trapped, f_more, f_made, a_format, a_pattern, a_kind, a_exponent, a_coefficient, a_minus, a_row) 2 (nI c))) (f_attribute, f_raised, f_trapped, f_more, f_made, a_format, a_pattern, a_kind, a_exponent, a_coefficient, a_minus, a_row) 1 (nI b))) (nI m, f_raised, f_trapped, f_more, f_made, a_format, a_pattern, a_kind, a_exponent, a_coefficient, a_minus, a_row) 0 (nI a) := by
    intro f_raised f_trapped f_more f_made a_format a_pattern a_kind a_exponent a_coefficient a_minus a_row post d a b c hd hA hB hC ef efa efb efc hx hy hz G
    subst hx hy hz
    refine yw_open (k := 0) hA (by decide) hfa efa ?_
    intro ak am ac ae S0 _
    dsimp only
    refine yw_open (k := 1) hB (by decide) hfb efb ?_
    intro bk bm bc be S1 oth
    dsimp only
    refine yw_open (k := 2) hC (by decide) hfc efc ?_
    intro ck cm cc ce S2 oth2
    dsimp only
    obtain ⟨o1, o2, o3, o4⟩ := oth 0 (by decide)
    obtain ⟨p1, p2, p3, p4⟩ := oth2 0 (by decide)
    obtain ⟨r1, r2, r3, r4⟩ := oth2 1 (by decide)
    have S0' : op_Sl ck cm cc ce 0 (op_K fa (a_pattern a)) (op_M fa (a_pattern a)) (op_C fa (a_pattern a)) (op_E fa (a_pattern a)) := ⟨p1.trans (o1.trans S0.1), p2.trans (o2.trans S0.2.1), p3.trans (o3.trans S0.2.2.1), p4.trans (o4.trans S0.2.2.2)⟩
    have S1' : op_Sl ck cm cc ce 1 (op_K fb (a_pattern b)) (op_M fb (a_pattern b)) (op_C fb (a_pattern b)) (op_E fb (a_pattern b)) := ⟨r1.trans S1.1, r2.trans S1.2.1, r3.trans S1.2.2.1, r4.trans S1.2.2.2⟩
    have G' := fun lo h1 h2 => G ck cm cc ce lo h1 h2 S0' S1' S2
    generalize op_K fa (a_pattern a) = K0 at *
    generalize op_K fb (a_pattern b) = K1 at *
    generalize op_K fc (a_pattern c) = K2 at *
    generalize op_C fa (a_pattern a) = C0 at *
    generalize op_C fb (a_pattern b) = C1 at *
    have Z0 := bo_Z_lt K0 C0
    have Z1 := bo_Z_lt K1 C1
    have z0 : bo_Z K0 C0 = 0 ↔ ¬ (K0 = 3 ∧ C0 = 0) := by
      unfold bo_Z
      split <;> simp_all
    have z1 : bo_Z K1 C1 = 0 ↔ ¬ (K1 = 3 ∧ C1 = 0) := by
      unfold bo_Z
      split <;> simp_all
    have rest : ∀ lo : Nat, lo < 2 → (lo = 0 ↔ ∀ j, j < 3 → ¬ fu_kk K0 K1 K2 j = 0) → wpY_any (fun r_97 => (((r_97 = 0 → (wY_fuse_94 post (nI d) (nI f) (nI lo) (nI m) f_raised f_trapped f_more f_made a_format a_pattern ck ce cc cm a_row)) ∧ (¬ r_97 = 0 → (wpY_isZero (fun r_198 => (((r_198 = 0 → (wpY_isZero (fun r_212 => (((r_212 = 0 → (wY_fuse_94 post (nI d) (nI f) (nI lo) (nI m) f_raised f_trapped f_more f_made a_format a_pattern ck ce cc cm a_row)) ∧ (¬ r_212 = 0 → (wY_fuse_90 post (nI d) (nI f) (nI lo) (nI m) f_raised f_trapped f_more f_made a_format a_pattern ck ce cc cm a_row))))) (nI m, f_raised, f_trapped, f_more, f_made, a_format, a_pattern, ck, ce, cc, cm, a_row) 1)) ∧ (¬ r_198 = 0 → (wY_fuse_90 post (nI d) (nI f) (nI lo) (nI m) f_raised f_trapped f_more f_made a_format a_pattern ck ce cc cm a_row))))) (nI m, f_raised, f_trapped, f_more, f_made, a_format, a_pattern, ck, ce, cc, cm, a_row) 0))))) (nI m, f_raised, f_trapped, f_more, f_made, a_format, a_pattern, ck, ce, cc, cm, a_row) 2 2 := by
      intro lo hlo hlo2
      obtain ⟨G1, G0⟩ := G' lo hlo hlo2
      refine yw_any (many := 2) (w := 2) (kk := fu_kk K0 K1 K2) (by decide) (by decide) (fu_k2 hK0 hK1 ck S0'.1 S1'.1) (fun h => ?_) (fun h => ?_)
      · have h' := (fu_all2 (K2 := K2) (P := fun K => ¬ K = 2)).mp h
        exact br_t rfl (G0 (by omega))
      · have h' : K0 = 2 ∨ K1 = 2 := by
          by_cases e0 : K0 = 2
          · exact Or.inl e0
          · right
            by_cases e1 : K1 = 2
            · exact e1
            · exact absurd ((fu_all2 (K2 := K2) (P := fun K => ¬ K = 2)).mpr ⟨e0, e1⟩) h
        refine br_f (by decide) ?_
        refine yw_isZero (k := 0) (by decide) hK0 q5 S0' ?_
        refine pk_eq (bo_Z K0 C0) 0 (fun h0 => ?_) (fun h0 => G1 (by omega))
        refine yw_isZero (k := 1) (by decide) hK1 t5 S1' ?_
        exact pk_eq (bo_Z K1 C1) 0 (fun h1 => G0 (by omega)) (fun h1 => G1 (by omega))
    refine yw_any (many := 3) (w := 0) (kk := fu_kk K0 K1 K2) (by decide) (by decide) (fu_k3 hK0 hK1 hK2 ck S0'.1 S1'.1 S2.1) (fun h => ?_) (fun h => ?_)
    · exact rest 0 (by decide) ⟨fun _ => h, fun _ => rfl⟩
    · exact rest 1 (by decide) ⟨fun h1 => absurd h1 (by decide), fun h1 => absurd h1 h⟩
  by_cases odd : (¬ bo_Z (op_K fa x) (op_C fa x) = 0 ∧ op_K fb y = 2) ∨ (op_K fa x = 2 ∧ ¬ bo_Z (op_K fb y) (op_C fb y) = 0)
  · refine ⟨1, pa_nan f, Or.inl ⟨rfl, rfl⟩, ?_, ?_⟩
    · intro f_raised f_trapped f_below f_value f_power f_rest f_wish f_exact a_format a_bits a_kind a_minus a_coefficient a_exponent a_wide post d a b c hd hA hB hC ef efa efb efc hx hy hz HD
      refine startX _ _ _ _ _ _ _ _ _ _ _ _ _ _ _ post d a b c hd hA hB hC ef efa efb efc hx hy hz ?_
      intro ak am ac ae S0 S1 S2
      refine ⟨fun _ => ?_, fun h => absurd odd h⟩
      exact br_f (by decide) (xw_invalid hd hf ef (fun u' h => HD u' h))
    · intro f_raised f_trapped f_more f_made a_format a_pattern a_kind a_exponent a_coefficient a_minus a_row post d a b c hd hA hB hC ef efa efb efc hx hy hz HD
      refine startY _ _ _ _ _ _ _ _ _ _ _ post d a b c hd hA hB hC ef efa efb efc hx hy hz ?_
      intro ak am ac ae lo hlo hlo2 S0 S1 S2
      refine ⟨fun _ => ?_, fun h => absurd odd h⟩
      have h107 : wY_fuse_107 post (nI d) (nI m) f_raised f_trapped f_more f_made a_format a_pattern ak ae ac am a_row := yw_finishT hd hf ef (Or.inl ⟨rfl, rfl⟩) (Or.inl rfl) (fun v' hv => HD v' hv)
      exact br_c (fun _ => br_f (by decide) h107) (fun _ => h107)
  by_cases hn : ∀ j, j < 3 → ¬ fu_kk (op_K fa x) (op_K fb y) (op_K fc z) j < 2
  · have hn' := (fu_all (P := fun K => ¬ K < 2)).mp hn
    have hnl : ∀ j, j < 3 → ¬ fu_kk (op_K fa x) (op_K fb y) (op_K fc z) j = 0 := fun j hj => by
      have := hn j hj
      omega
    have hnq : ∀ j, j < 3 → ¬ fu_kk (op_K fa x) (op_K fb y) (op_K fc z) j = 1 := fun j hj => by
      have := hn j hj
      omega
    have VP := op_Vm V0 V1
    obtain ⟨fl, pt, ok, HX, HY⟩ := bo_sum (m := m) (K0 := if op_K fb y = 2 then 2 else op_K fa x) (M0 := if op_M fa x = op_M fb y then 0 else 1) (K1 := op_K fc z) (M1 := op_M fc z) hf hm (by split <;> omega) hM2 (by split <;> omega) hK2 VP (op_Vs V2)
    refine ⟨fl, pt, ok, ?_, ?_⟩
    · intro f_raised f_trapped f_below f_value f_power f_rest f_wish f_exact a_format a_bits a_kind a_minus a_coefficient a_exponent a_wide post d a b c hd hA hB hC ef efa efb efc hx hy hz HD
      refine startX _ _ _ _ _ _ _ _ _ _ _ _ _ _ _ post d a b c hd hA hB hC ef efa efb efc hx hy hz ?_
      intro ak am ac ae S0 S1 S2
      refine ⟨fun h => absurd h odd, fun _ => br_t rfl ?_⟩
      refine xw_nans (many := 3) (kk := fu_kk (op_K fa x) (op_K fb y) (op_K fc z)) hd hf ef (by decide) (fu_k3 hK0 hK1 hK2 ak S0.1 S1.1 S2.1) (fun _ => ?_) (fun lo _ _ hh => absurd hn hh)
      dsimp only
      refine br_t (by decide) ?_
      rw [S0.2.1, S1.2.1]
      have go : ∀ s : Nat, s < 2 → s = (if op_M fa x = op_M fb y then 0 else 1) → wX_fuse_156 post (nI d) (nI s) 0 f_raised f_trapped (nI m) f_below f_value f_power f_rest f_wish f_exact a_format a_bits ak am ac ae a_wide := by
        intro s hs es
        refine And.intro (vp_in_nI (n := 0) (by decide) (by decide)) (nm_e ?_)
        have c0 : (0 : Int32).toNatClampNeg = 0 := by decide
        rw [c0, zz_vb hs, S1.1]
        have h174 : ∀ bk : Nat → Int32, bk 0 = nI (if op_K fb y = 2 then 2 else op_K fa x) → bk 2 = nI (op_K fc z) → wX_fuse_174 post (nI d) f_raised f_trapped (nI m) f_below f_value f_power f_rest f_wish f_exact a_format a_bits bk (upd am 0 (nI s)) ac ae a_wide := by
          intro bk e0 e2
          refine nm_e (nm_e ?_)
          refine HX _ _ _ _ _ _ _ _ _ _ _ _ _ _ _ _ d 0 2 hd (by decide) (by decide) ef ⟨e0, ?_, ?_, ?_⟩ ⟨e2, ?_, ?_, ?_⟩ (fun u' h => HD u' h)
          · rw [pk_us, es]
          · rw [pk_uLs, S0.2.2.1, S1.2.2.1, lN_mul]
          · rw [pk_us, S0.2.2.2, S1.2.2.2, zz_Iadd]
          · rw [pk_un (by decide)]
            exact S2.2.1
          · rw [pk_uLn (by decide)]
            exact S2.2.2.1
          · rw [pk_un (by decide)]
            exact S2.2.2.2
        refine pk_eq (op_K fb y) 2 (fun h => nm_e (h174 _ ?_ ?_)) (fun h => h174 _ ?_ S2.1)
        · rw [pk_us, if_pos h]
          exact zz_vby (z := 2) (by decide)
        · rw [pk_un (by decide)]
          exact S2.1
        · rw [if_neg h]
          exact S0.1
      refine pk_eq (op_M fa x) (op_M fb y) (fun h => go 0 (by decide) (by rw [if_pos h])) (fun h => go 1 (by decide) (by rw [if_neg h]))
    · intro f_raised f_trapped f_more f_made a_format a_pattern a_kind a_exponent a_coefficient a_minus a_row post d a b c hd hA hB hC ef efa efb efc hx hy hz HD
      refine startY _ _ _ _ _ _ _ _ _ _ _ post d a b c hd hA hB hC ef efa efb efc hx hy hz ?_
      intro ak am ac ae lo hlo hlo2 S0 S1 S2
      have elo : lo = 0 := hlo2.mpr hnl
      subst elo
      refine ⟨fun h => absurd h odd, fun _ => br_t rfl (br_t rfl ?_)⟩
      refine yw_any (many := 3) (w := 1) (kk := fu_kk (op_K fa x) (op_K fb y) (op_K fc z)) (by decide) (by decide) (fu_k3 hK0 hK1 hK2 ak S0.1 S1.1 S2.1) (fun _ => ?_) (fun h => absurd hnq h)
      refine br_t rfl ?_
      rw [S0.2.1, S1.2.1]
      have go : ∀ s : Nat, s < 2 → s = (if op_M fa x = op_M fb y then 0 else 1) → wY_fuse_164 post (nI d) (nI f) (nI s) 0 (nI m) f_raised f_trapped f_more f_made a_format a_pattern ak ae ac am a_row := by
        intro s hs es
        refine And.intro (vp_in_nI (n := 0) (by decide) (by decide)) (nm_e ?_)
        have c0 : (0 : Int32).toNatClampNeg = 0 := by decide
        rw [c0, zz_vb hs, S1.1]
        have h182 : ∀ bk : Nat → Int32, bk 0 = nI (if op_K fb y = 2 then 2 else op_K fa x) → bk 2 = nI (op_K fc z) → wY_fuse_182 post (nI d) (nI f) (nI m) f_raised f_trapped f_more f_made a_format a_pattern bk ae ac (upd am 0 (nI s)) a_row := by
          intro bk e0 e2
          refine nm_e (nm_e (nm_e (nm_e (nm_e (nm_e ?_)))))
          refine HY _ _ _ _ _ _ _ _ _ _ _ _ ⟨?_, ?_, ?_, ?_⟩ ⟨?_, ?_, ?_, ?_⟩ ?_
          · rw [pk_un (by decide)]
            exact e0
          · rw [pk_un (by decide), pk_us, es]
          · rw [pk_uLn (by decide), pk_uLs, S0.2.2.1, S1.2.2.1, lN_mul]
          · rw [pk_un (by decide), pk_us, S0.2.2.2, S1.2.2.2, zz_Iadd]
          · rw [pk_us]
            exact e2
          · rw [pk_us, pk_un (by decide), S2.2.1, zz_vb hM2]
          · rw [pk_uLs, pk_uLn (by decide)]
            exact S2.2.2.1
          · rw [pk_us, pk_un (by decide)]
            exact S2.2.2.2
          · intro u' h1 h2
            exact yw_finish h1 hd hf ef ok h2 (fun v' hv => HD v' hv)
        refine pk_eq (op_K fb y) 2 (fun h => nm_e (h182 _ ?_ ?_)) (fun h => h182 _ ?_ S2.1)
        · rw [pk_us, if_pos h]
          rfl
        · rw [pk_un (by decide)]
          exact S2.1
        · rw [if_neg h]
          exact S0.1
      refine pk_eq (op_M fa x) (op_M fb y) (fun h => go 0 (by decide) (by rw [if_pos h])) (fun h => go 1 (by decide) (by rw [if_neg h]))
  · obtain ⟨lo, hlo, elo⟩ : ∃ lo : Nat, lo < 2 ∧ (lo = 0 ↔ ∀ j, j < 3 → ¬ fu_kk (op_K fa x) (op_K fb y) (op_K fc z) j = 0) := by
      by_cases h : ∀ j, j < 3 → ¬ fu_kk (op_K fa x) (op_K fb y) (op_K fc z) j = 0
      · exact ⟨0, by decide, fun _ => h, fun _ => rfl⟩
      · exact ⟨1, by decide, fun h1 => absurd h1 (by decide), fun h1 => absurd h1 h⟩
    have uniq : ∀ lo' : Nat, lo' < 2 → (lo' = 0 ↔ ∀ j, j < 3 → ¬ fu_kk (op_K fa x) (op_K fb y) (op_K fc z) j = 0) → lo' = lo := by
      intro lo' h1 h2
      have := h2.trans elo.symm
      omega
    have nneg : ¬ nI lo < 0 := nI_pos (by omega)
    have hok : bt_ok f (nI lo) (pa_nan f) := by
      rcases (show lo = 0 ∨ lo = 1 by omega) with rfl | rfl
      · exact Or.inr (by decide)
      · exact Or.inl ⟨rfl, rfl⟩
    refine ⟨nI lo, pa_nan f, hok, ?_, ?_⟩
    · intro f_raised f_trapped f_below f_value f_power f_rest f_wish f_exact a_format a_bits a_kind a_minus a_coefficient a_exponent a_wide post d a b c hd hA hB hC ef efa efb efc hx hy hz HD
      refine startX _ _ _ _ _ _ _ _ _ _ _ _ _ _ _ post d a b c hd hA hB hC ef efa efb efc hx hy hz ?_
      intro ak am ac ae S0 S1 S2
      refine ⟨fun h => absurd h odd, fun _ => br_t rfl ?_⟩
      refine xw_nans (many := 3) (kk := fu_kk (op_K fa x) (op_K fb y) (op_K fc z)) hd hf ef (by decide) (fu_k3 hK0 hK1 hK2 ak S0.1 S1.1 S2.1) (fun h => absurd h hn) (fun lo' h1 h2 _ => ?_)
      rw [uniq lo' h1 h2]
      intro u' hu
      obtain ⟨z1, z2, z3, z4, z5, z6, z7, z8, z9, z10, z11, z12, z13, z14, z15, z16⟩ := u'
      exact br_f nneg (HD _ hu)
    · intro f_raised f_trapped f_more f_made a_format a_pattern a_kind a_exponent a_coefficient a_minus a_row post d a b c hd hA hB hC ef efa efb efc hx hy hz HD
      refine startY _ _ _ _ _ _ _ _ _ _ _ post d a b c hd hA hB hC ef efa efb efc hx hy hz ?_
      intro ak am ac ae lo' hlo' hlo2' S0 S1 S2
      rw [uniq lo' hlo' hlo2']
      refine ⟨fun h => absurd h odd, fun _ => pk_eq lo 0 (fun h0 => br_t rfl ?_) (fun h0 => ?_)⟩
      · subst h0
        have hl := elo.mp rfl
        refine yw_any (many := 3) (w := 1) (kk := fu_kk (op_K fa x) (op_K fb y) (op_K fc z)) (by decide) (by decide) (fu_k3 hK0 hK1 hK2 ak S0.1 S1.1 S2.1) (fun h => ?_) (fun _ => ?_)
        · exfalso
          refine hn (fun j hj => ?_)
          have := hl j hj
          have := h j hj
          omega
        · refine br_f (by decide) ?_
          refine pa_wnanY hf ?_
          exact yw_finishT hd hf ef hok (Or.inr rfl) (fun v' hv => HD v' hv)
      · have e1 : lo = 1 := by omega
        subst e1
        exact yw_finishT hd hf ef hok (Or.inl rfl) (fun v' hv => HD v' hv)
theorem i_vc_fuse {k : Nat} {u : SX} {v : SY} (I : i_Rel k u v) (hk : k + 5 ≤ 2560) (v1 : Int32) (v2 : Int32) (v3 : Int32) (v4 : Int32) : wpX_fuse (fun r u' => wpY_fuse (fun r' v' => r' = r ∧ i_Rel (k + 5) u' v') v v1 v2 v3 v4) u v1 v2 v3 v4 := by
  refine rl_el (P := fun u v => wpX_fuse (fun r u' => wpY_fuse (fun r' v' => r' = r ∧ i_Rel (k + 5) u' v') v v1 v2 v3 v4) u v1 v2 v3 v4) ?_ I
  intro m f_raised f_trapped f_below f_value f_power f_rest f_wish f_exact a_format a_bits a_kind a_minus a_coefficient a_exponent a_wide y_more y_made y_kind y_exponent y_coefficient y_minus y_row hm hfo
  have R0 : i_Rel (k + 5) (f_raised, f_trapped, nI m, f_below, f_value, f_power, f_rest, f_wish, f_exact, a_format, a_bits, a_kind, a_minus, a_coefficient, a_exponent, a_wide) (nI m, f_raised, f_trapped, y_more, y_made, a_format, a_bits, y_kind, y_exponent, y_coefficient, y_minus, y_row) := rl_in hm hfo ⟨rfl, rfl, rfl, rfl, rfl⟩ ⟨rfl, rfl, rfl, rfl, rfl⟩
  have P0 : (-1 : Int32) = -1 ∧ i_Rel (k + 5) (f_raised, f_trapped, nI m, f_below, f_value, f_power, f_rest, f_wish, f_exact, a_format, a_bits, a_kind, a_minus, a_coefficient, a_exponent, a_wide) (nI m, f_raised, f_trapped, y_more, y_made, a_format, a_bits, y_kind, y_exponent, y_coefficient, y_minus, y_row) := ⟨rfl, R0⟩
  unfold wpX_fuse
  dsimp only
  by_cases hab : (∃ a : Nat, a < 8 ∧ v2 = nI a) ∧ (∃ b : Nat, b < 8 ∧ v3 = nI b)
  · obtain ⟨⟨a, hA, rfl⟩, ⟨b, hB, rfl⟩⟩ := hab
    obtain ⟨fa, hfa, efa⟩ := hfo a hA
    obtain ⟨fb, hfb, efb⟩ := hfo b hB
    by_cases bab : fm_b fa = fm_b fb
    · by_cases hcc : ∃ c : Nat, c < 8 ∧ v4 = nI c
      · obtain ⟨c, hC, rfl⟩ := hcc
        obtain ⟨fc, hfc, efc⟩ := hfo c hC
        by_cases bac : fm_b fa = fm_b fc
        · by_cases hdd : ∃ d : Nat, d < 8 ∧ v1 = nI d
          · obtain ⟨d, hD, rfl⟩ := hdd
            obtain ⟨fd, hfd, efd⟩ := hfo d hD
            by_cases bad : fm_b fa = fm_b fd
            · obtain ⟨fl, pt, ok, HX, HY⟩ := fu_main (x := a_bits a) (y := a_bits b) (z := a_bits c) (m := m) hfd hfa hfb hfc bad (bab.symm.trans bad) (bac.symm.trans bad) hm
              refine xw_like hA hB hfa hfb efa efb (fun _ => ?_) (fun h => absurd bab h)
              refine br_f (by decide) ?_
              refine xw_like hA hC hfa hfc efa efc (fun _ => ?_) (fun h => absurd bac h)
              refine br_f (by decide) ?_
              refine xw_like hA hD hfa hfd efa efd (fun _ => ?_) (fun h => absurd bad h)
              refine br_f (by decide) ?_
              refine HX _ _ _ _ _ _ _ _ _ _ _ _ _ _ _ _ d a b c hD hA hB hC efd efa efb efc rfl rfl rfl ?_
              intro u' hu
              unfold wpY_fuse
              dsimp only
              refine yw_alike hA hB hfa hfb efa efb (fun _ => ?_) (fun h => absurd bab h)
              refine br_f (by decide) ?_
              refine yw_alike hA hC hfa hfc efa efc (fun _ => ?_) (fun h => absurd bac h)
              refine br_f (by decide) ?_
              refine yw_alike hA hD hfa hfd efa efd (fun _ => ?_) (fun h => absurd bad h)
              refine br_f (by decide) ⟨vp_in_nI hD (by decide), nm_r (e' := nI fd) (by rw [nI_clamp (by omega)]; exact efd) ?_⟩
              refine HY _ _ _ _ _ _ _ _ _ _ _ _ d a b c hD hA hB hC efd efa efb efc rfl rfl rfl ?_
              intro v' hv
              exact ⟨rfl, rl_in hm hfo hu hv⟩
            · refine xw_like hA hB hfa hfb efa efb (fun _ => ?_) (fun h => absurd bab h)
              refine br_f (by decide) ?_
              refine xw_like hA hC hfa hfc efa efc (fun _ => ?_) (fun h => absurd bac h)
              refine br_f (by decide) ?_
              refine xw_like hA hD hfa hfd efa efd (fun h => absurd h bad) (fun _ => ?_)
              refine br_t rfl (br_t rfl ?_)
              unfold wpY_fuse
              dsimp only
              refine yw_alike hA hB hfa hfb efa efb (fun _ => ?_) (fun h => absurd bab h)
              refine br_f (by decide) ?_
              refine yw_alike hA hC hfa hfc efa efc (fun _ => ?_) (fun h => absurd bac h)
              refine br_f (by decide) ?_
              refine yw_alike hA hD hfa hfd efa efd (fun h => absurd h bad) (fun _ => ?_)
              exact br_t rfl P0
          · have hnn : ¬ ((∃ a' : Nat, a' < 8 ∧ nI a = nI a') ∧ (∃ b' : Nat, b' < 8 ∧ v1 = nI b')) := fun h => hdd h.2
            refine xw_like hA hB hfa hfb efa efb (fun _ => ?_) (fun h => absurd bab h)
            refine br_f (by decide) ?_
            refine xw_like hA hC hfa hfc efa efc (fun _ => ?_) (fun h => absurd bac h)
            refine br_f (by decide) ?_
            refine xw_likeN hnn ?_
            refine br_t rfl (br_t rfl ?_)
            unfold wpY_fuse
            dsimp only
            refine yw_alike hA hB hfa hfb efa efb (fun _ => ?_) (fun h => absurd bab h)
            refine br_f (by decide) ?_
            refine yw_alike hA hC hfa hfc efa efc (fun _ => ?_) (fun h => absurd bac h)
            refine br_f (by decide) ?_
            refine yw_alikeN hnn ?_
            exact br_t rfl P0
        · refine xw_like hA hB hfa hfb efa efb (fun _ => ?_) (fun h => absurd bab h)
          refine br_f (by decide) ?_
          refine xw_like hA hC hfa hfc efa efc (fun h => absurd h bac) (fun _ => ?_)
          refine br_t rfl (br_t rfl ?_)
          unfold wpY_fuse
          dsimp only
          refine yw_alike hA hB hfa hfb efa efb (fun _ => ?_) (fun h => absurd bab h)
          refine br_f (by decide) ?_
          refine yw_alike hA hC hfa hfc efa efc (fun h => absurd h bac) (fun _ => ?_)
          exact br_t rfl P0
      · have hnn : ¬ ((∃ a' : Nat, a' < 8 ∧ nI a = nI a') ∧ (∃ b' : Nat, b' < 8 ∧ v4 = nI b')) := fun h => hcc h.2
        refine xw_like hA hB hfa hfb efa efb (fun _ => ?_) (fun h => absurd bab h)
        refine br_f (by decide) ?_
        refine xw_likeN hnn ?_
        refine br_t rfl (br_t rfl ?_)
        unfold wpY_fuse
        dsimp only
        refine yw_alike hA hB hfa hfb efa efb (fun _ => ?_) (fun h => absurd bab h)
        refine br_f (by decide) ?_
        refine yw_alikeN hnn ?_
        exact br_t rfl P0
    · refine xw_like hA hB hfa hfb efa efb (fun h => absurd h bab) (fun _ => ?_)
      refine br_t rfl (br_t rfl ?_)
      unfold wpY_fuse
      dsimp only
      refine yw_alike hA hB hfa hfb efa efb (fun h => absurd h bab) (fun _ => ?_)
      exact br_t rfl P0
  · refine xw_likeN hab ?_
    refine br_t rfl (br_t rfl ?_)
    unfold wpY_fuse
    dsimp only
    refine yw_alikeN hab ?_
    exact br_t rfl P0
end
section
/-! whole numbers; scaling -/
theorem bt_small {f m s R : Nat} {w : Int} (hf : f < 4) (hm : m < 5) (hs : s < 2) (hw : -100000 < w ∧ w < 100000) (hR : R < fm_b f ^ fm_p f) : ∃ pt : Int32, (∀ (fu : Nat), fu = 0 ∨ fu = 16 → ∀ (f_raised : Int32) (f_trapped : Int32) (f_exact : Int32) (a_format : Nat → Int32) (a_bits : Nat → Int32) (a_kind : Nat → Int32) (a_minus : Nat → Int32) (a_coefficient : Nat → Int64) (a_exponent : Nat → Int32) (a_wide : Nat → Int32) (post : Int32 → SX → Prop) (d : Nat), d < 8 → a_format d = nI f → xs_D post f_raised f_trapped (nI m) a_format a_bits d (nI fu) pt → wpX_round post (f_raised, f_trapped, nI m, nI s, lN R, zz_I 0, 0, zz_I w, f_exact, a_format, a_bits, a_kind, a_minus, a_coefficient, a_exponent, a_wide) (nI d) (nI fu)) ∧ (∀ (f_raised : Int32) (f_trapped : Int32) (f_made : Int32) (a_format : Nat → Int32) (a_pattern : Nat → Int32) (a_kind : Nat → Int32) (a_exponent : Nat → Int32) (a_coefficient : Nat → Int64) (a_minus : Nat → Int32) (a_row : Nat → Int32) (post : Int32 → SY → Prop), yr_R (fm_b f) a_row 0 (sm_N (fm_b f) R 0) → post 0 (nI m, f_raised, f_trapped, 0, pt, a_format, a_pattern, a_kind, a_exponent, a_coefficient, a_minus, a_row) → wpY_round post (nI m, f_raised, f_trapped, 0, f_made, a_format, a_pattern, a_kind, a_exponent, a_coefficient, a_minus, a_row) (nI f) (nI s) (zz_I w)) := by
  have hff := fm_facts hf
  have hb := fm_b2 f
  obtain ⟨b0, b2, b10, bb⟩ := yr_b hb
  obtain ⟨h63, hpw, h1p⟩ := fm_pw hf
  have hP : fm_P (fm_b f) = 450 ∧ fm_b f = 2 ∨ fm_P (fm_b f) = 230 ∧ fm_b f = 10 := by
    rcases hb with h | h
    · left; rw [h]; exact ⟨rfl, rfl⟩
    · right; rw [h]; exact ⟨rfl, rfl⟩
  have V : sm_V (fm_b f) R 0 := by
    unfold sm_V
    omega
  have hNlt := sm_799 hb (sm_N_lt V).1
  rcases Nat.eq_zero_or_pos R with h0 | h0
  · subst h0
    refine ⟨pa_P f s 0 (rn_zq f w), ?_, ?_⟩
    · intro fu hfu
      intro f_raised f_trapped f_exact a_format a_bits a_kind a_minus a_coefficient a_exponent a_wide post d hd ef H
      exact xw_round_0 hd hf hs hw ef H
    · intro f_raised f_trapped f_made a_format a_pattern a_kind a_exponent a_coefficient a_minus a_row post hr H
      have e : sm_N (fm_b f) 0 0 = 0 := Nat.zero_mul _
      rw [e] at hr
      exact yw_round_0 hf hs hr hw H
  · obtain ⟨n, hn, hnv⟩ := dg_ex (b := fm_b f) b2 R
    have hn0 : n ≠ 0 := fun e => by
      have := (dg_n0 b0 hn).mpr e
      omega
    have hnp : n ≤ fm_p f := dg_n_le b2 hn hR
    have h1 : fm_b f ^ (n - 1) ≤ R := by
      rcases hn.2 with h2 | h2
      · exact absurd h2 hn0
      · exact h2
    have h2 : R < fm_b f ^ (n - 1 + 1) := by
      rw [show n - 1 + 1 = n by omega]
      exact hn.1
    have eM : rn_M 1 (fm_b f) (fm_P (fm_b f)) 0 = fm_b f ^ (0 + (fm_P (fm_b f) : Int)).toNat := rn_M1 _ 0
    have hrep : R = sm_N (fm_b f) R 0 / rn_M 1 (fm_b f) (fm_P (fm_b f)) 0 := by
      rw [eM]
      unfold sm_N
      rw [Nat.mul_div_cancel _ (Nat.pow_pos b0)]
    have hmod : sm_N (fm_b f) R 0 % rn_M 1 (fm_b f) (fm_P (fm_b f)) 0 = 0 := by
      rw [eM]
      unfold sm_N
      rw [Nat.mul_mod_left]
    have hT := rn_T_of (D := 1) (U := fm_P (fm_b f)) (e := 0) (by decide) b0 (by omega) hrep h1 h2
    have hqg := rn_q_ge f (0 + ((n - 1 : Nat) : Int))
    have hq0 : rn_q f (0 + ((n - 1 : Nat) : Int)) ≤ 0 := by omega
    have gp : rn_pt (sm_N (fm_b f) R 0) (rn_M 1 (fm_b f) (fm_P (fm_b f)) (rn_q f (0 + ((n - 1 : Nat) : Int)))) = 0 := rn_pt_0.mpr (rn_fine (by decide) b0 (by omega) hq0 hmod).2
    have hlt : sm_N (fm_b f) R 0 / rn_M 1 (fm_b f) (fm_P (fm_b f)) (rn_q f (0 + ((n - 1 : Nat) : Int))) < fm_b f ^ fm_p f := by
      have hM : 0 < rn_M 1 (fm_b f) (fm_P (fm_b f)) (rn_q f (0 + ((n - 1 : Nat) : Int))) := rn_M_pos (by decide) b0
      have e1 := rn_M_add (D := 1) (b := fm_b f) (U := fm_P (fm_b f)) (e := 0 + ((n - 1 : Nat) : Int) + 1 - (fm_p f : Int)) (by omega) (fm_p f)
      have e2 : 0 + ((n - 1 : Nat) : Int) + 1 - (fm_p f : Int) + (fm_p f : Int) = 0 + ((n - 1 : Nat) : Int) + 1 := by omega
      rw [e2] at e1
      rw [Nat.div_lt_iff_lt_mul hM, Nat.mul_comm]
      have h4 := Nat.mul_le_mul_right (fm_b f ^ fm_p f) (rn_M_mono (D := 1) (b := fm_b f) (U := fm_P (fm_b f)) b0 (show 0 ≤ 0 + ((n - 1 : Nat) : Int) + 1 - (fm_p f : Int) + (fm_P (fm_b f) : Int) by omega) hqg.1)
      have := hT.2.2
      omega
    have er := rn_r_ex (m := m) (s := s) gp
    have eq1 : rn_q1 f m s (sm_N (fm_b f) R 0) 1 (fm_P (fm_b f)) (rn_q f (0 + ((n - 1 : Nat) : Int))) = rn_q f (0 + ((n - 1 : Nat) : Int)) := by
      unfold rn_q1
      rw [if_neg (by omega)]
    have efl : rn_fl f m s (sm_N (fm_b f) R 0) 1 (fm_P (fm_b f)) (0 + ((n - 1 : Nat) : Int)) = 0 := by
      unfold rn_fl
      rw [eq1, if_neg (by omega), if_pos gp]
    have hbd : R < xr_bd (fm_b f) := by
      rcases hb with h | h
      · rw [h]
        have : xr_bd 2 = 4611686018427387904 := rfl
        omega
      · rw [h]
        have : xr_bd 10 = 5000000000000000000 := rfl
        omega
    refine ⟨rn_pat f m s (sm_N (fm_b f) R 0) 1 (fm_P (fm_b f)) (0 + ((n - 1 : Nat) : Int)) w, ?_, ?_⟩
    · intro fu hfu
      intro f_raised f_trapped f_exact a_format a_bits a_kind a_minus a_coefficient a_exponent a_wide post d hd ef H
      refine xw_round (r := 0) (D := 1) (U := fm_P (fm_b f)) hd hf hm hs (by decide) hfu ef (by decide) (by omega) (by omega) (by omega) hT hrep ⟨fun _ => hmod, fun _ => rfl⟩ hbd h0 (Or.inl rfl) (by omega) (by omega) hw ?_
      rw [efl, xf_0 hfu]
      exact H
    · intro f_raised f_trapped f_made a_format a_pattern a_kind a_exponent a_coefficient a_minus a_row post hr H
      have hu : -(fm_P (fm_b f) : Int) < 0 + ((n - 1 : Nat) : Int) + 1 - (fm_p f : Int) := by omega
      have hh := yw_round (mo := 0) (post := post) (f_raised := f_raised) (f_trapped := f_trapped) (f_made := f_made) (a_format := a_format) (a_pattern := a_pattern) (a_kind := a_kind) (a_exponent := a_exponent) (a_coefficient := a_coefficient) (a_minus := a_minus) (a_row := a_row) (w := w) hf (by decide) hm hs hr hNlt (yr_Yx (by omega)) hT hu hw (by rw [efl]; exact H)
      exact hh
def un_X (W : (Int32 → SX → Prop) → SX → Int32 → Prop) (f m M C : Nat) (E : Int) (fl pt : Int32) : Prop := ∀ (f_raised : Int32) (f_trapped : Int32) (f_exact : Int32) (a_format : Nat → Int32) (a_bits : Nat → Int32) (a_kind : Nat → Int32) (a_minus : Nat → Int32) (a_coefficient : Nat → Int64) (a_exponent : Nat → Int32) (a_wide : Nat → Int32) (post : Int32 → SX → Prop) (d : Nat), d < 8 → a_format d = nI f → xs_D post f_raised f_trapped (nI m) a_format a_bits d fl pt → W post (f_raised, f_trapped, nI m, nI M, lN C, zz_I E, 0, zz_I E, f_exact, a_format, a_bits, a_kind, a_minus, a_coefficient, a_exponent, a_wide) (nI d)
def un_Y (W : (Int32 → SY → Prop) → SY → Prop) (f m K M C : Nat) (E : Int) (fl pt : Int32) : Prop := ∀ (f_raised : Int32) (f_trapped : Int32) (f_more : Int32) (f_made : Int32) (a_format : Nat → Int32) (a_pattern : Nat → Int32) (a_kind : Nat → Int32) (a_exponent : Nat → Int32) (a_coefficient : Nat → Int64) (a_minus : Nat → Int32) (a_row : Nat → Int32) (post : Int32 → SY → Prop), op_Sl a_kind a_minus a_coefficient a_exponent 0 K M C E → ys_O post f_raised f_trapped (nI m) a_format a_pattern fl pt → W post (nI m, f_raised, f_trapped, f_more, f_made, a_format, a_pattern, a_kind, a_exponent, a_coefficient, a_minus, a_row)
theorem bo_whole {f m K M C : Nat} {E : Int} (hf : f < 4) (hm : m < 5) (V : op_V (fm_b f) K M C E) (hC : C < fm_b f ^ fm_p f) : ∃ fl pt : Int32, bt_ok f fl pt ∧ un_X wpX_wholeNumber f m M C E fl pt ∧ un_Y (fun post u => wpY_madeWhole post u (nI f)) f m K M C E fl pt := by
  have hff := fm_facts hf
  obtain ⟨hK, hM, v⟩ := id V
  obtain ⟨hb, q1, q2, q3, q4, q5⟩ := sm_Vb (op_Vs V)
  obtain ⟨b0, b2, b10, bb⟩ := yr_b hb
  obtain ⟨l0, g0⟩ := sm_N_lt (op_Vs V)
  have l0' := sm_799 hb l0
  have startY : ∀ (f_raised : Int32) (f_trapped : Int32) (f_more : Int32) (f_made : Int32) (a_format : Nat → Int32) (a_pattern : Nat → Int32) (a_kind : Nat → Int32) (a_exponent : Nat → Int32) (a_coefficient : Nat → Int64) (a_minus : Nat → Int32) (a_row : Nat → Int32) (post : Int32 → SY → Prop), op_Sl a_kind a_minus a_coefficient a_exponent 0 K M C E → (∀ row : Nat → Int32, yr_R (fm_b f) row 0 (sm_N (fm_b f) C E) → ((E < 0 → wpY_rounded (fun r_29 => (wpY_rest (fun r_42 => (((r_42 ≤ 0 → (wY_madeWhole_86 post (nI f) (nI (fm_b f)) r_29 0 (nI m) f_raised f_trapped 0 f_made a_format a_pattern a_kind a_exponent a_coefficient a_minus row)) ∧ (¬ r_42 ≤ 0 → (wY_madeWhole_86 post (nI f) (nI (fm_b f)) r_29 16 (nI m) f_raised f_trapped 0 f_made a_format a_pattern a_kind a_exponent a_coefficient a_minus row))))) (nI m, f_raised, f_trapped, 0, f_made, a_format, a_pattern, a_kind, a_exponent, a_coefficient, a_minus, row) (nI (fm_b f)) 0)) (nI m, f_raised, f_trapped, 0, f_made, a_format, a_pattern, a_kind, a_exponent, a_coefficient, a_minus, row) (nI (fm_b f)) 0 (nI M) (nI m)) ∧ (0 ≤ E → wpY_round (fun r u => post r u) (nI m, f_raised, f_trapped, 0, f_made, a_format, a_pattern, a_kind, a_exponent, a_coefficient, a_minus, row) (nI f) (nI M) (zz_I E)))) → wpY_madeWhole post (nI m, f_raised, f_trapped, f_more, f_made, a_format, a_pattern, a_kind, a_exponent, a_coefficient, a_minus, a_row) (nI f) := by
    intro f_raised f_trapped f_more f_made a_format a_pattern a_kind a_exponent a_coefficient a_minus a_row post S0 G
    unfold wpY_madeWhole
    dsimp only
    refine yw_base hf ?_
    refine yw_clear ?_
    intro row1 hz1
    dsimp only
    rw [S0.2.2.1, S0.2.2.2]
    refine yw_clay hb q5 q1 g0 l0' hz1 ?_
    intro row2 hr2 _
    obtain ⟨G1, G2⟩ := G row2 hr2
    dsimp only
    rw [S0.2.2.2, S0.2.1]
    exact zz_lt E 0 (fun h => G1 h) (fun h => G2 h)
  by_cases hE : 0 ≤ E
  · obtain ⟨fl, pt, ok, RX, RY⟩ := bt_exactN (m := m) (s := M) (w := E) hf hm hM (by omega) (op_Vs V)
    refine ⟨fl, pt, ok, ?_, ?_⟩
    · intro f_raised f_trapped f_exact a_format a_bits a_kind a_minus a_coefficient a_exponent a_wide post d hd ef HD
      refine zz_le 0 E (fun _ => ?_) (fun h => absurd h (by omega))
      refine zz_lt E 0 (fun h => absurd h (by omega)) (fun _ => ?_)
      exact RX _ _ _ _ _ _ _ _ _ _ _ d hd ef (fun u' h => HD u' h)
    · intro f_raised f_trapped f_more f_made a_format a_pattern a_kind a_exponent a_coefficient a_minus a_row post S0 HO
      refine startY _ _ _ _ _ _ _ _ _ _ _ post S0 ?_
      intro row hr
      refine ⟨fun h => absurd h (by omega), fun _ => ?_⟩
      exact RY _ _ _ _ _ _ _ _ _ _ _ hr (fun u' h1 h2 => HO u' h1 h2)
  · have hP450 : fm_P (fm_b f) ≤ 450 := by rcases hb with h | h <;> rw [h] <;> decide
    have hPge : 230 ≤ fm_P (fm_b f) := by rcases hb with h | h <;> rw [h] <;> decide
    have eMp : rn_M 1 (fm_b f) (fm_P (fm_b f)) E = fm_b f ^ (E + fm_P (fm_b f)).toNat := rn_M1 (fm_b f) E
    have hrep : C = sm_N (fm_b f) C E / rn_M 1 (fm_b f) (fm_P (fm_b f)) E := by
      rw [eMp]
      unfold sm_N
      rw [Nat.mul_div_cancel _ (Nat.pow_pos b0)]
    have hmod : sm_N (fm_b f) C E % rn_M 1 (fm_b f) (fm_P (fm_b f)) E = 0 := by
      rw [eMp]
      unfold sm_N
      rw [Nat.mul_mod_left]
    have hY := yr_Yx (b := fm_b f) (A := sm_N (fm_b f) C E) (by omega)
    have hcb : C < xr_bd (fm_b f) := by
      rcases hb with h | h
      · rw [h]
        have : xr_bd 2 = 4611686018427387904 := rfl
        omega
      · rw [h]
        have : xr_bd 10 = 5000000000000000000 := rfl
        omega
    have hq : sm_N (fm_b f) C E / rn_M 1 (fm_b f) (fm_P (fm_b f)) 0 ≤ C / 2 := by
      rw [rn_div_up (e := E) (by omega) (show E ≤ 0 by omega), ← hrep]
      have h1 : 2 ≤ fm_b f ^ (0 - E).toNat := by
        have h2 := dg_pow_le (b := fm_b f) b0 (show 1 ≤ (0 - E).toNat by omega)
        rw [Nat.pow_one] at h2
        omega
      rw [Nat.le_div_iff_mul_le (by decide)]
      have h3 := Nat.div_mul_le_self C (fm_b f ^ (0 - E).toNat)
      have h4 := Nat.mul_le_mul_left (C / fm_b f ^ (0 - E).toNat) h1
      omega
    have hR : rn_r m M (sm_N (fm_b f) C E) (rn_M 1 (fm_b f) (fm_P (fm_b f)) 0) < fm_b f ^ fm_p f := by
      have := rn_up_le m M (rn_pt (sm_N (fm_b f) C E) (rn_M 1 (fm_b f) (fm_P (fm_b f)) 0)) (sm_N (fm_b f) C E / rn_M 1 (fm_b f) (fm_P (fm_b f)) 0 % 2)
      obtain ⟨_, _, h1p⟩ := fm_pw hf
      unfold rn_r
      by_cases hz : C = 0
      · have e0 : sm_N (fm_b f) C E = 0 := by
          unfold sm_N
          rw [hz, Nat.zero_mul]
        have e1 : rn_pt 0 (rn_M 1 (fm_b f) (fm_P (fm_b f)) 0) = 0 := rn_pt_0.mpr (Nat.zero_mod _)
        rw [e0, e1, rn_up_0, Nat.zero_div]
        omega
      · have hpe : fm_b f ^ fm_p f ≥ 2048 := by
          rcases (show f = 0 ∨ f = 1 ∨ f = 2 ∨ f = 3 by omega) with rfl | rfl | rfl | rfl <;> decide
        omega
    obtain ⟨_, hpw, _⟩ := fm_pw hf
    have hptl := rn_pt_le (sm_N (fm_b f) C E) (rn_M 1 (fm_b f) (fm_P (fm_b f)) 0)
    obtain ⟨pt, RX, RY⟩ := bt_small (m := m) (s := M) (w := 0) hf hm hM (by omega) hR
    have VR : sm_V (fm_b f) (rn_r m M (sm_N (fm_b f) C E) (rn_M 1 (fm_b f) (fm_P (fm_b f)) 0)) 0 := by
      unfold sm_V
      generalize rn_r m M (sm_N (fm_b f) C E) (rn_M 1 (fm_b f) (fm_P (fm_b f)) 0) = rr at *
      omega
    obtain ⟨_, w1, w2, w3, w4, w5⟩ := sm_Vb VR
    refine ⟨nI (if rn_pt (sm_N (fm_b f) C E) (rn_M 1 (fm_b f) (fm_P (fm_b f)) 0) = 0 then 0 else 16), pt, Or.inr (by split <;> decide), ?_, ?_⟩
    · intro f_raised f_trapped f_exact a_format a_bits a_kind a_minus a_coefficient a_exponent a_wide post d hd ef HD
      refine zz_le 0 E (fun h => absurd h (by omega)) (fun _ => ?_)
      refine zz_lt E 0 (fun _ => ⟨vp_in_nI hd (by decide), ?_⟩) (fun h => absurd h (by omega))
      rw [nI_clamp (show d < 2 ^ 31 by omega), ef]
      refine xw_baseOf hf ?_
      refine xw_whole_up (r := 0) (D := 1) (U := fm_P (fm_b f)) (q := 0) hb hm hM (by decide) (by decide) (by omega) hrep ⟨fun _ => hmod, fun _ => rfl⟩ hcb (by omega) (by omega) (by omega) ?_
      dsimp only
      by_cases hp : rn_pt (sm_N (fm_b f) C E) (rn_M 1 (fm_b f) (fm_P (fm_b f)) 0) = 0
      · rw [if_pos hp] at HD ⊢
        refine br_f (by decide) ?_
        exact RX 0 (Or.inl rfl) _ _ _ _ _ _ _ _ _ _ _ d hd ef (fun u' h => HD u' h)
      · rw [if_neg hp] at HD ⊢
        refine br_t rfl ?_
        exact RX 16 (Or.inr rfl) _ _ _ _ _ _ _ _ _ _ _ d hd ef (fun u' h => HD u' h)
    · intro f_raised f_trapped f_more f_made a_format a_pattern a_kind a_exponent a_coefficient a_minus a_row post S0 HO
      refine startY _ _ _ _ _ _ _ _ _ _ _ post S0 ?_
      intro row hr
      refine ⟨fun _ => ?_, fun h => absurd h (by omega)⟩
      have hRlt : rn_r m M (sm_N (fm_b f) C E) (rn_M 1 (fm_b f) (fm_P (fm_b f)) 0) < 9223372036854775808 := by omega
      have hge : sm_N (fm_b f) C E / rn_M 1 (fm_b f) (fm_P (fm_b f)) 0 ≤ rn_r m M (sm_N (fm_b f) C E) (rn_M 1 (fm_b f) (fm_P (fm_b f)) 0) := Nat.le_add_right _ _
      refine yw_roundedA (D := 1) (U := fm_P (fm_b f)) (mo := 0) (q := 0) hb (by decide) hm hM hr l0' hY (by omega) (by omega) (by omega) ?_
      refine yw_restA (D := 1) (U := fm_P (fm_b f)) (mo := 0) (q := 0) hb (by decide) hr hY (by omega) (by omega) ?_
      have h86 : ∀ fu : Nat, fu = (if rn_pt (sm_N (fm_b f) C E) (rn_M 1 (fm_b f) (fm_P (fm_b f)) 0) = 0 then 0 else 16) → wY_madeWhole_86 post (nI f) (nI (fm_b f)) (lN (rn_r m M (sm_N (fm_b f) C E) (rn_M 1 (fm_b f) (fm_P (fm_b f)) 0))) (nI fu) (nI m) f_raised f_trapped 0 f_made a_format a_pattern a_kind a_exponent a_coefficient a_minus row := by
        intro fu hfu
        rw [← hfu] at HO
        rw [wY_madeWhole_86]
        refine yw_clear ?_
        intro row3 hz3
        dsimp only
        refine yw_clay (E := 0) hb w5 w1 (sm_N_lt VR).2 (sm_799 hb (sm_N_lt VR).1) hz3 ?_
        intro row4 hr4 _
        dsimp only
        rw [S0.2.1]
        refine RY _ _ _ _ _ _ _ _ _ _ _ hr4 ?_
        exact HO _ ⟨rfl, rfl, rfl, rfl, rfl⟩ (Or.inr rfl)
      refine pk_le (rn_pt (sm_N (fm_b f) C E) (rn_M 1 (fm_b f) (fm_P (fm_b f)) 0)) 0 (fun h => h86 0 (by rw [if_pos (by omega)])) (fun h => h86 16 (by rw [if_neg (by omega)]))
end
section
/-! scaling -/
theorem sc_hi {f m s A D U : Nat} {t w : Int} (hf : f < 4) (h : fm_g f < t + 1 - (fm_p f : Int)) : rn_fl f m s A D U t = 20 ∧ rn_pat f m s A D U t w = rn_ov f m s := by
  have hqg := rn_q_ge f t
  have hq1 : fm_g f < rn_q1 f m s A D U (rn_q f t) := by
    unfold rn_q1
    split <;> omega
  unfold rn_fl rn_pat
  rw [if_pos hq1, if_pos hq1]
  exact ⟨rfl, rfl⟩
theorem sc_lo {f m s A D U : Nat} {t w : Int} (hf : f < 4) (hA : 0 < A) (h2 : 2 * A < rn_M D (fm_b f) U (fm_l f)) (ht : t < fm_l f + (fm_p f : Int) - 2) : rn_fl f m s A D U t = 24 ∧ rn_pat f m s A D U t w = pa_P f s (rn_up m s 1 0) (fm_l f) := by
  have hff := fm_facts hf
  obtain ⟨h63, hpw, h1p⟩ := fm_pw hf
  have eq : rn_q f t = fm_l f := by
    unfold rn_q
    rw [if_pos (by omega)]
  have ept : rn_pt A (rn_M D (fm_b f) U (fm_l f)) = 1 := by
    rw [rn_pt_far h2, if_neg (by omega)]
  have er : rn_r m s A (rn_M D (fm_b f) U (fm_l f)) = rn_up m s 1 0 := by
    unfold rn_r
    rw [ept, Nat.div_eq_of_lt (by omega), Nat.zero_add]
  have hu := rn_up_le m s 1 0
  have eq1 : rn_q1 f m s A D U (fm_l f) = fm_l f := by
    unfold rn_q1
    rw [er, if_neg (by omega)]
  have ec1 : rn_c1 f m s A D U (fm_l f) = rn_up m s 1 0 := by
    unfold rn_c1
    rw [er, if_neg (by omega)]
  have etb : rn_tB f m s A D U t = true := by
    unfold rn_tB
    rw [Bool.and_eq_true, Bool.or_eq_true, Bool.or_eq_true, decide_eq_true_iff, decide_eq_true_iff, decide_eq_true_iff]
    exact ⟨by omega, Or.inl (Or.inr ht)⟩
  unfold rn_fl rn_pat
  have hg : ¬ fm_g f < fm_l f := by omega
  rw [eq, eq1, ept, ec1, etb, if_neg hg, if_neg hg, if_neg (show ¬ (1 : Nat) = 0 by decide), if_neg (show ¬ (1 : Nat) = 0 by decide), if_pos rfl]
  exact ⟨rfl, rfl⟩
def sc_by (n : Int) : Int := if n ≤ 2000 then (if -2000 ≤ n then n else -2000) else 2000
theorem bo_scaled {f m K M C : Nat} {E n : Int} (hf : f < 4) (hm : m < 5) (V : op_V (fm_b f) K M C E) (hn : -2147483648 ≤ n ∧ n < 2147483648) : ∃ fl pt : Int32, bt_ok f fl pt ∧ un_X (fun post u d => match u with | (f_raised, f_trapped, f_mode, f_below, f_value, f_power, f_rest, f_wish, f_exact, a_format, a_bits, a_kind, a_minus, a_coefficient, a_exponent, a_wide) => wX_unary_274 post d (zz_I (sc_by n)) f_raised f_trapped f_mode f_below f_value f_power f_rest f_wish f_exact a_format a_bits a_kind a_minus a_coefficient a_exponent a_wide) f m M C E fl pt ∧ un_Y (fun post u => wpY_scaled post u (nI f) (zz_I n)) f m K M C E fl pt := by
  have hff := fm_facts hf
  obtain ⟨hK, hM, v⟩ := id V
  obtain ⟨hb, q1, q2, q3, q4, q5⟩ := sm_Vb (op_Vs V)
  obtain ⟨b0, b2, b10, bb⟩ := yr_b hb
  have hP : fm_P (fm_b f) = 450 ∧ fm_b f = 2 ∨ fm_P (fm_b f) = 230 ∧ fm_b f = 10 := by
    rcases hb with h | h
    · left; rw [h]; exact ⟨rfl, rfl⟩
    · right; rw [h]; exact ⟨rfl, rfl⟩
  have hC24 : C < fm_b f ^ 24 := by
    rcases v with ⟨h, h1, _⟩ | ⟨h, h1, _⟩
    · rw [h]
      omega
    · rw [h]
      omega
  have hby : sc_by n = n ∧ -2000 ≤ n ∧ n ≤ 2000 ∨ sc_by n = -2000 ∧ n < -2000 ∨ sc_by n = 2000 ∧ 2000 < n := by
    unfold sc_by
    split
    · split <;> omega
    · omega
  obtain ⟨to, hto⟩ : ∃ to : Int, to = if fm_l f - 60 ≤ E + n then (if E + n ≤ fm_g f + 60 then E + n else fm_g f + 60) else fm_l f - 60 := ⟨_, rfl⟩
  have hto2 : (to = E + n ∧ fm_l f - 60 ≤ E + n ∧ E + n ≤ fm_g f + 60) ∨ (to = fm_g f + 60 ∧ fm_g f + 60 < E + n) ∨ (to = fm_l f - 60 ∧ E + n < fm_l f - 60) := by
    rw [hto]
    split
    · split <;> omega
    · omega
  have hlay : 0 ≤ to + fm_P (fm_b f) ∧ (to + fm_P (fm_b f)).toNat ≤ 700 ∧ 24 ≤ to + fm_P (fm_b f) := by omega
  have hN : C * fm_b f ^ (to + fm_P (fm_b f)).toNat < fm_b f ^ 800 := by
    have h4 : C * fm_b f ^ (to + fm_P (fm_b f)).toNat < fm_b f ^ 24 * fm_b f ^ (to + fm_P (fm_b f)).toNat := Nat.mul_lt_mul_of_pos_right hC24 (Nat.pow_pos b0)
    rw [← Nat.pow_add] at h4
    exact Nat.lt_of_lt_of_le h4 (dg_pow_le b0 (by omega))
  have hcb : C < xr_bd (fm_b f) := by
    rcases hb with h | h
    · rw [h]
      have : xr_bd 2 = 4611686018427387904 := rfl
      omega
    · rw [h]
      have : xr_bd 10 = 5000000000000000000 := rfl
      omega
  have startY : ∀ (f_raised : Int32) (f_trapped : Int32) (f_more : Int32) (f_made : Int32) (a_format : Nat → Int32) (a_pattern : Nat → Int32) (a_kind : Nat → Int32) (a_exponent : Nat → Int32) (a_coefficient : Nat → Int64) (a_minus : Nat → Int32) (a_row : Nat → Int32) (post : Int32 → SY → Prop), op_Sl a_kind a_minus a_coefficient a_exponent 0 K M C E → (∀ row : Nat → Int32, yr_R (fm_b f) row 0 (C * fm_b f ^ (to + fm_P (fm_b f)).toNat) → wpY_round (fun r u => post r u) (nI m, f_raised, f_trapped, 0, f_made, a_format, a_pattern, a_kind, a_exponent, a_coefficient, a_minus, row) (nI f) (nI M) (zz_I to)) → wpY_scaled post (nI m, f_raised, f_trapped, f_more, f_made, a_format, a_pattern, a_kind, a_exponent, a_coefficient, a_minus, a_row) (nI f) (zz_I n) := by
    intro f_raised f_trapped f_more f_made a_format a_pattern a_kind a_exponent a_coefficient a_minus a_row post S0 G
    have h66 : wY_scaled_66 post (nI f) (nI (fm_b f)) (zz_I to) (nI m) f_raised f_trapped f_more f_made a_format a_pattern a_kind a_exponent a_coefficient a_minus a_row := by
      rw [wY_scaled_66]
      refine yw_clear ?_
      intro row1 hz1
      dsimp only
      rw [S0.2.2.1]
      refine yw_clay hb q5 hlay.1 (by omega) hN hz1 ?_
      intro row2 hr2 _
      dsimp only
      rw [S0.2.1]
      exact G row2 hr2
    unfold wpY_scaled
    dsimp only
    refine yw_base hf ?_
    have e4 : (a_exponent 0).toInt64 + (zz_I n).toInt64 = zz_L (E + n) := by
      rw [S0.2.2.2, zz_IL (by unfold zz_R; omega), zz_IL hn, zz_Ladd]
    refine nm_r e4 ?_
    refine yw_least hf ?_
    refine nm_r (e' := zz_I (fm_l f - 60)) (zz_Isub _ 60) ?_
    refine yw_greatest hf ?_
    refine nm_r (e' := zz_I (fm_g f + 60)) (zz_Iadd _ 60) ?_
    rw [zz_IL (show zz_R (fm_l f - 60) by unfold zz_R; omega), zz_IL (show zz_R (fm_g f + 60) by unfold zz_R; omega), zz_LI, zz_Lle (by unfold zz_RL; omega) (by unfold zz_RL; omega), zz_Lle (by unfold zz_RL; omega) (by unfold zz_RL; omega)]
    refine br_c (fun h1 => br_c (fun h2 => ?_) (fun h2 => ?_)) (fun h1 => ?_)
    · rw [if_pos h1, if_pos h2] at hto
      rw [hto] at h66
      exact h66
    · rw [if_pos h1, if_neg h2] at hto
      rw [hto] at h66
      exact h66
    · rw [if_neg h1] at hto
      rw [hto] at h66
      exact h66
  have startX : ∀ fl pt : Int32, (∀ (f_raised : Int32) (f_trapped : Int32) (f_exact : Int32) (a_format : Nat → Int32) (a_bits : Nat → Int32) (a_kind : Nat → Int32) (a_minus : Nat → Int32) (a_coefficient : Nat → Int64) (a_exponent : Nat → Int32) (a_wide : Nat → Int32) (post : Int32 → SX → Prop) (d : Nat), d < 8 → a_format d = nI f → xs_D post f_raised f_trapped (nI m) a_format a_bits d fl pt → wpX_round (fun r u => post r u) (f_raised, f_trapped, nI m, nI M, lN C, zz_I (E + sc_by n), nI 0, zz_I (E + sc_by n), f_exact, a_format, a_bits, a_kind, a_minus, a_coefficient, a_exponent, a_wide) (nI d) (nI 0)) → un_X (fun post u d => match u with | (f_raised, f_trapped, f_mode, f_below, f_value, f_power, f_rest, f_wish, f_exact, a_format, a_bits, a_kind, a_minus, a_coefficient, a_exponent, a_wide) => wX_unary_274 post d (zz_I (sc_by n)) f_raised f_trapped f_mode f_below f_value f_power f_rest f_wish f_exact a_format a_bits a_kind a_minus a_coefficient a_exponent a_wide) f m M C E fl pt := by
    intro fl pt G
    intro f_raised f_trapped f_exact a_format a_bits a_kind a_minus a_coefficient a_exponent a_wide post d hd ef HD
    refine nm_r (zz_Iadd E (sc_by n)) ?_
    exact G _ _ _ _ _ _ _ _ _ _ post d hd ef HD
  rcases hto2 with ⟨t1, t2, t3⟩ | ⟨t1, t2⟩ | ⟨t1, t2⟩
  · have eb : sc_by n = n := by omega
    obtain ⟨fl, pt, ok, RX, RY⟩ := bt_exact (m := m) (s := M) (w := to) hf hm hM (by omega) hcb (by omega) (by omega) hN
    refine ⟨fl, pt, ok, startX fl pt ?_, ?_⟩
    · intro f_raised f_trapped f_exact a_format a_bits a_kind a_minus a_coefficient a_exponent a_wide post d hd ef HD
      rw [eb, ← t1]
      exact RX _ _ _ _ _ _ _ _ _ _ _ d hd ef (fun u' h => HD u' h)
    · intro f_raised f_trapped f_more f_made a_format a_pattern a_kind a_exponent a_coefficient a_minus a_row post S0 HO
      refine startY _ _ _ _ _ _ _ _ _ _ _ post S0 ?_
      intro row hr
      exact RY _ _ _ _ _ _ _ _ _ _ _ hr (fun u' h1 h2 => HO u' h1 h2)
  all_goals
    have hfar : (to = fm_g f + 60 ∧ fm_g f + 60 < E + sc_by n) ∨ (to = fm_l f - 60 ∧ E + sc_by n < fm_l f - 60) := by omega
    have hzq : rn_zq f (E + sc_by n) = rn_zq f to := by
      unfold rn_zq rn_to
      split
      · rfl
      · rcases hfar with ⟨a1, a2⟩ | ⟨a1, a2⟩
        · rw [if_neg (by omega), if_pos (by omega), if_neg (by omega), if_pos (by omega)]
        · rw [if_pos (by omega), if_pos (by omega)]
    have sr : -2200 < E + sc_by n ∧ E + sc_by n < 2200 := by omega
    rcases Nat.eq_zero_or_pos C with hz | hz
    · refine ⟨0, pa_P f M 0 (rn_zq f to), Or.inr (by decide), startX _ _ ?_, ?_⟩
      · intro f_raised f_trapped f_exact a_format a_bits a_kind a_minus a_coefficient a_exponent a_wide post d hd ef HD
        rw [hz]
        refine xw_round_0 (fu := 0) hd hf hM (by omega) ef ?_
        rw [hzq]
        exact HD
      · intro f_raised f_trapped f_more f_made a_format a_pattern a_kind a_exponent a_coefficient a_minus a_row post S0 HO
        refine startY _ _ _ _ _ _ _ _ _ _ _ post S0 ?_
        intro row hr
        rw [hz, Nat.zero_mul] at hr
        exact yw_round_0 hf hM hr (by omega) (HO _ ⟨rfl, rfl, rfl, rfl, rfl⟩ (Or.inr rfl))
    · obtain ⟨n', hn', hnv⟩ := dg_ex (b := fm_b f) b2 C
      have hn0 : n' ≠ 0 := fun e => by
        have := (dg_n0 b0 hn').mpr e
        omega
      have hn24 : n' ≤ 24 := dg_n_le b2 hn' hC24
      have h1 : fm_b f ^ (n' - 1) ≤ C := by
        rcases hn'.2 with h2 | h2
        · exact absurd h2 hn0
        · exact h2
      have h2 : C < fm_b f ^ (n' - 1 + 1) := by
        rw [show n' - 1 + 1 = n' by omega]
        exact hn'.1
      -- a number at exponent e with offset U
      have rep : ∀ (U : Nat) (e : Int), 0 ≤ e + U → rn_M 1 (fm_b f) U e = fm_b f ^ (e + U).toNat ∧ C = C * fm_b f ^ (e + U).toNat / rn_M 1 (fm_b f) U e ∧ C * fm_b f ^ (e + U).toNat % rn_M 1 (fm_b f) U e = 0 := by
        intro U e he
        have eM : rn_M 1 (fm_b f) U e = fm_b f ^ (e + U).toNat := by
          unfold rn_M
          rw [Nat.one_mul]
        rw [eM]
        exact ⟨rfl, (Nat.mul_div_cancel _ (Nat.pow_pos b0)).symm, Nat.mul_mod_left _ _⟩
      have lowA : ∀ (U : Nat) (e : Int), 0 ≤ e + U → e ≤ fm_l f - 60 → 2 * (C * fm_b f ^ (e + U).toNat) < rn_M 1 (fm_b f) U (fm_l f) := by
        intro U e he hel
        have eM : rn_M 1 (fm_b f) U (fm_l f) = fm_b f ^ (fm_l f + U).toNat := by
          unfold rn_M
          rw [Nat.one_mul]
        rw [eM]
        have e1 : (fm_l f + U).toNat = (fm_l f - e).toNat + (e + U).toNat := by omega
        rw [e1, Nat.pow_add, ← Nat.mul_assoc]
        refine Nat.mul_lt_mul_of_pos_right ?_ (Nat.pow_pos b0)
        have h5 : fm_b f ^ 25 ≤ fm_b f ^ (fm_l f - e).toNat := dg_pow_le b0 (by omega)
        have h6 : 2 * fm_b f ^ 24 ≤ fm_b f ^ 25 := by
          rw [Nat.pow_succ (fm_b f) 24, Nat.mul_comm]
          exact Nat.mul_le_mul_left _ b2
        omega
      have gX := rep 3000 (E + sc_by n) (by omega)
      have gY := rep (fm_P (fm_b f)) to hlay.1
      have TX := rn_T_of (D := 1) (U := 3000) (e := E + sc_by n) (by decide) b0 (by omega) gX.2.1 h1 h2
      have TY := rn_T_of (D := 1) (U := fm_P (fm_b f)) (e := to) (by decide) b0 hlay.1 gY.2.1 h1 h2
      have hAX : 0 < C * fm_b f ^ (E + sc_by n + (3000 : Nat)).toNat := Nat.mul_pos hz (Nat.pow_pos b0)
      have hAY : 0 < C * fm_b f ^ (to + fm_P (fm_b f)).toNat := Nat.mul_pos hz (Nat.pow_pos b0)
      have out : ∃ (fl : Nat) (pt : Int32), nI fl &&& 1 = 0 ∧ (rn_fl f m M (C * fm_b f ^ (E + sc_by n + (3000 : Nat)).toNat) 1 3000 (E + sc_by n + ((n' - 1 : Nat) : Int)) = fl ∧ rn_pat f m M (C * fm_b f ^ (E + sc_by n + (3000 : Nat)).toNat) 1 3000 (E + sc_by n + ((n' - 1 : Nat) : Int)) (E + sc_by n) = pt) ∧ (rn_fl f m M (C * fm_b f ^ (to + fm_P (fm_b f)).toNat) 1 (fm_P (fm_b f)) (to + ((n' - 1 : Nat) : Int)) = fl ∧ rn_pat f m M (C * fm_b f ^ (to + fm_P (fm_b f)).toNat) 1 (fm_P (fm_b f)) (to + ((n' - 1 : Nat) : Int)) to = pt) := by
        rcases hfar with ⟨a1, a2⟩ | ⟨a1, a2⟩
        · exact ⟨20, rn_ov f m M, by decide, sc_hi hf (by omega), sc_hi hf (by omega)⟩
        · exact ⟨24, pa_P f M (rn_up m M 1 0) (fm_l f), by decide, sc_lo hf hAX (lowA 3000 _ (by omega) (by omega)) (by omega), sc_lo hf hAY (lowA _ _ hlay.1 (by omega)) (by omega)⟩
      obtain ⟨fl, pt, ok, ⟨x1, x2⟩, ⟨y1, y2⟩⟩ := out
      refine ⟨nI fl, pt, Or.inr ok, startX _ _ ?_, ?_⟩
      · intro f_raised f_trapped f_exact a_format a_bits a_kind a_minus a_coefficient a_exponent a_wide post d hd ef HD
        refine xw_round (r := 0) (D := 1) (U := 3000) hd hf hm hM (by decide) (Or.inl rfl) ef (by decide) (by omega) (by omega) (by omega) TX gX.2.1 ⟨fun _ => gX.2.2, fun _ => rfl⟩ hcb hz (Or.inl rfl) (by omega) (by omega) (by omega) ?_
        rw [x1, x2, op_or, Nat.zero_or]
        exact HD
      · intro f_raised f_trapped f_more f_made a_format a_pattern a_kind a_exponent a_coefficient a_minus a_row post S0 HO
        refine startY _ _ _ _ _ _ _ _ _ _ _ post S0 ?_
        intro row hr
        refine yw_round (mo := 0) (u := -(fm_P (fm_b f) : Int)) hf (by decide) hm hM hr hN (yr_Yx (by omega)) TY (by omega) (by omega) ?_
        rw [y1, y2]
        exact HO _ ⟨rfl, rfl, rfl, rfl, rfl⟩ (Or.inr rfl)
end
section
/-! the neighbours -/
def nx_k (b top : Nat) : Nat → Nat → Nat
  | 0, _ => 0
  | k + 1, c => if top ≤ c * b then 0 else nx_k b top k (c * b) + 1
theorem nx_t {b top k c : Nat} (h : top ≤ c * b) : nx_k b top (k + 1) c = 0 := if_pos h
theorem nx_f {b top k c : Nat} (h : ¬ top ≤ c * b) : nx_k b top (k + 1) c = nx_k b top k (c * b) + 1 := if_neg h
theorem nx_fact {b top : Nat} : ∀ k c : Nat, c < top → nx_k b top k c ≤ k ∧ c * b ^ nx_k b top k c < top ∧ (nx_k b top k c = k ∨ top ≤ c * b ^ nx_k b top k c * b) := by
  intro k
  induction k with
  | zero =>
    intro c hc
    have e : nx_k b top 0 c = 0 := rfl
    rw [e, Nat.pow_zero, Nat.mul_one]
    exact ⟨Nat.le_refl _, hc, Or.inl rfl⟩
  | succ k ih =>
    intro c hc
    by_cases h : top ≤ c * b
    · rw [nx_t h, Nat.pow_zero, Nat.mul_one]
      exact ⟨by omega, hc, Or.inr h⟩
    · rw [nx_f h]
      obtain ⟨h1, h2, h3⟩ := ih (c * b) (by omega)
      have e : c * b ^ (nx_k b top k (c * b) + 1) = c * b * b ^ nx_k b top k (c * b) := by
        rw [Nat.pow_succ', Nat.mul_assoc]
      rw [e]
      refine ⟨by omega, h2, ?_⟩
      rcases h3 with h3 | h3
      · exact Or.inl (by omega)
      · exact Or.inr h3
/-- what becomes of c at q -/
def nx_c (b top : Nat) (gr : Nat) (l q : Int) (c : Nat) : Nat := if gr = 0 then (if c = top / b ∧ l < q then top - 1 else c - 1) else (if c + 1 = top then top / b else c + 1)
def nx_q (b top : Nat) (gr : Nat) (l q : Int) (c : Nat) : Int := if gr = 0 then (if c = top / b ∧ l < q then q - 1 else q) else (if c + 1 = top then q + 1 else q)
section
variable {f_raised : Int32} {f_trapped : Int32} {f_mode : Int32} {f_below : Int32} {f_value : Int64} {f_power : Int32} {f_rest : Int32} {f_wish : Int32} {f_exact : Int32} {a_format : Nat → Int32} {a_bits : Nat → Int32} {a_kind : Nat → Int32} {a_minus : Nat → Int32} {a_coefficient : Nat → Int64} {a_exponent : Nat → Int32} {a_wide : Nat → Int32} {post : Int32 → SX → Prop}
theorem xx_187 {f d s gr c top : Nat} {q : Int} (hf : f < 4) (hd : d < 8) (hs : s < 2) (hgr : gr < 2) (ef : a_format d = nI f) (htop : top = fm_b f ^ fm_p f) (hc0 : 0 < c) (hc : c < top) (hq : fm_l f ≤ q) (hqg : q ≤ fm_g f) (hn : q = fm_l f ∨ top ≤ c * fm_b f) (H1 : nx_q (fm_b f) top gr (fm_l f) q c ≤ fm_g f → xs_D post f_raised f_trapped f_mode a_format a_bits d 0 (pa_P f s (nx_c (fm_b f) top gr (fm_l f) q c) (nx_q (fm_b f) top gr (fm_l f) q c))) (H2 : fm_g f < nx_q (fm_b f) top gr (fm_l f) q c → xs_D post f_raised f_trapped f_mode a_format a_bits d 0 (pa_inf f s)) : wX_next_187 post (nI d) (nI f) (nI (fm_b f)) (zz_I (fm_l f)) (lN top) (nI s) (nI gr) (lN c) (zz_I q) f_raised f_trapped f_mode f_below f_value f_power f_rest f_wish f_exact a_format a_bits a_kind a_minus a_coefficient a_exponent a_wide := by
  have hff := fm_facts hf
  have hb := fm_b2 f
  obtain ⟨b0, b2, b10, bb⟩ := yr_b hb
  obtain ⟨h63, hpw, h1p⟩ := fm_pw hf
  rw [← htop] at hpw h1p
  have hdiv : top / fm_b f * fm_b f = top := by
    rw [htop]
    refine Nat.div_mul_cancel ?_
    have : fm_b f ^ 1 ∣ fm_b f ^ fm_p f := Nat.pow_dvd_pow _ (by omega)
    rw [Nat.pow_one] at this
    exact this
  have htb : top / fm_b f < top := Nat.div_lt_self (by omega) (by omega)
  have htb0 : 0 < top / fm_b f := by
    rcases Nat.eq_zero_or_pos (top / fm_b f) with h | h
    · rw [h, Nat.zero_mul] at hdiv
      omega
    · exact h
  have hnn : q = fm_l f ∨ top / fm_b f ≤ c := by
    rcases hn with h | h
    · exact Or.inl h
    · right
      exact Nat.div_le_of_le_mul (by rw [Nat.mul_comm]; exact h)
  have eN := nI_l bb
  have h251 : ∀ (c' : Nat) (q' : Int), c' < top → -1000 < q' ∧ q' < 1000 → (q' ≤ fm_g f → xs_D post f_raised f_trapped f_mode a_format a_bits d 0 (pa_P f s c' q')) → (fm_g f < q' → xs_D post f_raised f_trapped f_mode a_format a_bits d 0 (pa_inf f s)) → wX_next_251 post (nI d) (nI f) (nI s) (lN c') (zz_I q') f_raised f_trapped f_mode f_below f_value f_power f_rest f_wish f_exact a_format a_bits a_kind a_minus a_coefficient a_exponent a_wide := by
    intro c' q' hc' hq' G1 G2
    rw [wX_next_251]
    refine xw_greatestOf hf ?_
    refine zz_leU (fun h => ?_) (fun h => ?_)
    · exact pa_wPX hf hs (by rw [← htop]; exact hc') (xw_settle hd (fun u' hu => G1 h u' hu))
    · exact xw_infinite hd hf hs ef (fun u' hu => G2 h u' hu)
  have hdl : lN top / (nI (fm_b f)).toInt64 = lN (top / fm_b f) := by
    rw [eN, pk_lDiv (by omega) b0 (by omega)]
  unfold nx_c nx_q at H1
  unfold nx_q at H2
  refine pk_eq gr 0 (fun h0 => nm_r (e' := lN (c - 1)) ?_ ?_) (fun h0 => nm_r (lN_1 c) ?_)
  · have e : (-1 : Int64) = zz_L (-1) := by decide
    rw [e, zz_lN, zz_Ladd, zz_lN]
    congr 1
    omega
  · rw [if_pos h0, if_pos h0] at H1
    rw [if_pos h0] at H2
    refine zz_leqU (fun h => absurd h (by omega)) (fun _ => ⟨yr_n0 hb, ?_⟩)
    rw [hdl]
    refine zz_lleU (fun h => ?_) (fun h => zz_leU (fun h2 => ?_) (fun h2 => nm_r (e' := lN (top - 1)) (lN_sub (b := 1) (by omega)) (nm_r (zz_Id1 q) ?_)))
    · have hne : ¬ (c = top / fm_b f ∧ fm_l f < q) := by omega
      rw [if_neg hne, if_neg hne] at H1
      rw [if_neg hne] at H2
      exact h251 _ _ (by omega) (by omega) H1 H2
    · have hne : ¬ (c = top / fm_b f ∧ fm_l f < q) := by omega
      rw [if_neg hne, if_neg hne] at H1
      rw [if_neg hne] at H2
      exact h251 _ _ (by omega) (by omega) H1 H2
    · have hne : c = top / fm_b f ∧ fm_l f < q := by omega
      rw [if_pos hne, if_pos hne] at H1
      rw [if_pos hne] at H2
      exact h251 _ _ (by omega) (by omega) H1 H2
  · rw [if_neg h0, if_neg h0] at H1
    rw [if_neg h0] at H2
    refine zz_leqU (fun h => ⟨yr_n0 hb, nm_r (e' := lN (top / fm_b f)) ?_ (nm_r (zz_Ip1 q) ⟨yr_n0 hb, ?_⟩)⟩) (fun h => ⟨yr_n0 hb, ?_⟩)
    · rw [h, hdl]
    · rw [hdl]
      rw [if_pos h, if_pos h] at H1
      rw [if_pos h] at H2
      exact zz_lleU (fun _ => h251 _ _ (by omega) (by omega) H1 H2) (fun h2 => absurd h2 (by omega))
    · rw [hdl]
      rw [if_neg h, if_neg h] at H1
      rw [if_neg h] at H2
      have fin := h251 _ _ (by omega) (by omega) H1 H2
      exact zz_lleU (fun _ => fin) (fun h2 => zz_leU (fun _ => fin) (fun h3 => absurd hnn (by omega)))
theorem xx_154 {f d s gr top : Nat} (hf : f < 4) (htop : top = fm_b f ^ fm_p f) : ∀ k c : Nat, ∀ q : Int, (q - fm_l f).toNat = k → fm_l f ≤ q → q ≤ fm_g f → c < top → wX_next_187 post (nI d) (nI f) (nI (fm_b f)) (zz_I (fm_l f)) (lN top) (nI s) (nI gr) (lN (c * fm_b f ^ nx_k (fm_b f) top k c)) (zz_I (q - nx_k (fm_b f) top k c)) f_raised f_trapped f_mode f_below f_value f_power f_rest f_wish f_exact a_format a_bits a_kind a_minus a_coefficient a_exponent a_wide → ∀ n, k < n → wX_next_154 post (nI d) (nI f) (nI (fm_b f)) (zz_I (fm_l f)) (lN top) (nI s) (nI gr) f_raised f_trapped f_mode f_below f_value f_power f_rest f_wish f_exact a_format a_bits a_kind a_minus a_coefficient a_exponent a_wide n (lN c) (zz_I q) := by
  have hff := fm_facts hf
  have hb := fm_b2 f
  obtain ⟨b0, b2, b10, bb⟩ := yr_b hb
  obtain ⟨h63, hpw, h1p⟩ := fm_pw hf
  rw [← htop] at hpw h1p
  have eN := nI_l bb
  intro k
  induction k with
  | zero =>
    intro c q hk hq hqg hc H n hn
    obtain ⟨n, rfl⟩ := yr_fuel hn
    have e : nx_k (fm_b f) top 0 c = 0 := rfl
    rw [e, Nat.pow_zero, Nat.mul_one] at H
    have e2 : q - ((0 : Nat) : Int) = q := by omega
    rw [e2] at H
    exact zz_leU (fun _ => H) (fun h => absurd h (by omega))
  | succ k ih =>
    intro c q hk hq hqg hc H n hn
    obtain ⟨n, rfl⟩ := yr_fuel hn
    have hcb : c * fm_b f ≤ 2147483648 * 10 := Nat.mul_le_mul (by omega) b10
    rw [wX_next_154]
    refine zz_leU (fun h => absurd h (by omega)) (fun _ => ?_)
    rw [eN, lN_mul]
    refine zz_lleU (fun h => ?_) (fun h => nm_e (nm_r (zz_Id1 q) ?_))
    · rw [nx_t h, Nat.pow_zero, Nat.mul_one] at H
      have e2 : q - ((0 : Nat) : Int) = q := by omega
      rw [e2] at H
      exact H
    · rw [nx_f (by omega)] at H
      refine ih (c * fm_b f) (q - 1) (by omega) (by omega) (by omega) h ?_ n (by omega)
      have e : c * fm_b f ^ (nx_k (fm_b f) top k (c * fm_b f) + 1) = c * fm_b f * fm_b f ^ nx_k (fm_b f) top k (c * fm_b f) := by
        rw [Nat.pow_succ', Nat.mul_assoc]
      have e2 : q - ((nx_k (fm_b f) top k (c * fm_b f) + 1 : Nat) : Int) = q - 1 - (nx_k (fm_b f) top k (c * fm_b f) : Int) := by omega
      rw [e, e2] at H
      exact H
end
section
variable {f_attribute : Int32} {f_raised : Int32} {f_trapped : Int32} {f_more : Int32} {f_made : Int32} {a_format : Nat → Int32} {a_pattern : Nat → Int32} {a_kind : Nat → Int32} {a_exponent : Nat → Int32} {a_coefficient : Nat → Int64} {a_minus : Nat → Int32} {a_row : Nat → Int32} {post : SY → Prop}
theorem yx_152 {f dn be c top : Nat} {q : Int} (hf : f < 4) (hdn : dn < 2) (hbe : be < 2) (htop : top = fm_b f ^ fm_p f) (hc0 : 0 < c) (hc : c < top) (hq : fm_l f ≤ q) (hqg : q ≤ fm_g f) (H1 : nx_q (fm_b f) top (1 - be) (fm_l f) q c ≤ fm_g f → post (f_attribute, f_raised, f_trapped, f_more, pa_P f (if be = dn then 0 else 1) (nx_c (fm_b f) top (1 - be) (fm_l f) q c) (nx_q (fm_b f) top (1 - be) (fm_l f) q c), a_format, a_pattern, a_kind, a_exponent, a_coefficient, a_minus, a_row)) (H2 : fm_g f < nx_q (fm_b f) top (1 - be) (fm_l f) q c → post (f_attribute, f_raised, f_trapped, f_more, pa_inf f dn, a_format, a_pattern, a_kind, a_exponent, a_coefficient, a_minus, a_row)) : wY_neighbour_152 post (nI f) (nI dn) (nI (fm_b f)) (lN top) (nI be) (lN c) (zz_I q) f_attribute f_raised f_trapped f_more f_made a_format a_pattern a_kind a_exponent a_coefficient a_minus a_row := by
  have hff := fm_facts hf
  have hb := fm_b2 f
  obtain ⟨b0, b2, b10, bb⟩ := yr_b hb
  obtain ⟨h63, hpw, h1p⟩ := fm_pw hf
  rw [← htop] at hpw h1p
  have eN := nI_l bb
  have htb : top / fm_b f < top := Nat.div_lt_self (by omega) (by omega)
  have hdl : lN top / (nI (fm_b f)).toInt64 = lN (top / fm_b f) := by
    rw [eN, pk_lDiv (by omega) b0 (by omega)]
  have h222 : ∀ (c' : Nat) (q' : Int), c' < top → -1000 < q' ∧ q' < 1000 → (q' ≤ fm_g f → post (f_attribute, f_raised, f_trapped, f_more, pa_P f (if be = dn then 0 else 1) c' q', a_format, a_pattern, a_kind, a_exponent, a_coefficient, a_minus, a_row)) → (fm_g f < q' → post (f_attribute, f_raised, f_trapped, f_more, pa_inf f dn, a_format, a_pattern, a_kind, a_exponent, a_coefficient, a_minus, a_row)) → wY_neighbour_222 post (nI f) (nI dn) (nI be) (lN c') (zz_I q') f_attribute f_raised f_trapped f_more f_made a_format a_pattern a_kind a_exponent a_coefficient a_minus a_row := by
    intro c' q' hc' hq' G1 G2
    rw [wY_neighbour_222]
    refine yw_greatest hf ?_
    refine zz_leU (fun h => pk_eq be dn (fun h2 => ?_) (fun h2 => ?_)) (fun h => ?_)
    · have g := G1 h
      rw [if_pos h2] at g
      exact pa_wPY (s := 0) hf (by decide) (by rw [← htop]; exact hc') g
    · have g := G1 h
      rw [if_neg h2] at g
      exact pa_wPY (s := 1) hf (by decide) (by rw [← htop]; exact hc') g
    · exact pa_winfY hf hdn (G2 h)
  have h204 : ∀ (c' : Nat) (q' : Int), c' ≤ top → -900 < q' ∧ q' < 900 → (¬ c' = top → wY_neighbour_222 post (nI f) (nI dn) (nI be) (lN c') (zz_I q') f_attribute f_raised f_trapped f_more f_made a_format a_pattern a_kind a_exponent a_coefficient a_minus a_row) → (c' = top → wY_neighbour_222 post (nI f) (nI dn) (nI be) (lN (top / fm_b f)) (zz_I (q' + 1)) f_attribute f_raised f_trapped f_more f_made a_format a_pattern a_kind a_exponent a_coefficient a_minus a_row) → wY_neighbour_204 post (nI f) (nI dn) (nI (fm_b f)) (lN top) (nI be) (lN c') (zz_I q') f_attribute f_raised f_trapped f_more f_made a_format a_pattern a_kind a_exponent a_coefficient a_minus a_row := by
    intro c' q' hc' hq' G1 G2
    refine zz_leqU (fun h => ⟨yr_n0 hb, nm_r (e' := lN (top / fm_b f)) (by rw [h, hdl]) (nm_r (zz_Ip1 q') (G2 h))⟩) (fun h => G1 h)
  unfold nx_c nx_q at H1
  unfold nx_q at H2
  refine pk_eq be 0 (fun h0 => nm_r (lN_1 c) ?_) (fun h0 => ⟨yr_n0 hb, ?_⟩)
  · have e1 : ¬ 1 - be = 0 := by omega
    rw [if_neg e1, if_neg e1] at H1
    rw [if_neg e1] at H2
    refine h204 _ _ (by omega) (by omega) (fun h => ?_) (fun h => ?_)
    · rw [if_neg h, if_neg h] at H1
      rw [if_neg h] at H2
      exact h222 _ _ (by omega) (by omega) H1 H2
    · rw [if_pos h, if_pos h] at H1
      rw [if_pos h] at H2
      exact h222 _ _ (by omega) (by omega) H1 H2
  · have e1 : 1 - be = 0 := by omega
    rw [if_pos e1, if_pos e1] at H1
    rw [if_pos e1] at H2
    rw [hdl]
    have h198 : ¬ (c = top / fm_b f ∧ fm_l f < q) → wY_neighbour_198 post (nI f) (nI dn) (nI (fm_b f)) (lN top) (nI be) (lN c) (zz_I q) f_attribute f_raised f_trapped f_more f_made a_format a_pattern a_kind a_exponent a_coefficient a_minus a_row := by
      intro hne
      rw [if_neg hne, if_neg hne] at H1
      rw [if_neg hne] at H2
      refine nm_r (e' := lN (c - 1)) (lN_sub (b := 1) (by omega)) ?_
      refine h204 _ _ (by omega) (by omega) (fun h => ?_) (fun h => absurd h (by omega))
      exact h222 _ _ (by omega) (by omega) H1 H2
    refine zz_leqU (fun h => yw_least hf (zz_leU (fun h2 => h198 (by omega)) (fun h2 => nm_r (e' := lN (top - 1)) (lN_sub (b := 1) (by omega)) (nm_r (zz_Id1 q) ?_)))) (fun h => h198 (by omega))
    have hne : c = top / fm_b f ∧ fm_l f < q := by omega
    rw [if_pos hne, if_pos hne] at H1
    rw [if_pos hne] at H2
    refine h204 _ _ (by omega) (by omega) (fun _ => ?_) (fun h => absurd h (by omega))
    exact h222 _ _ (by omega) (by omega) H1 H2
theorem yx_119 {f dn be top : Nat} (hf : f < 4) (htop : top = fm_b f ^ fm_p f) : ∀ k c : Nat, ∀ q : Int, (q - fm_l f).toNat = k → fm_l f ≤ q → q ≤ fm_g f → c < top → wY_neighbour_152 post (nI f) (nI dn) (nI (fm_b f)) (lN top) (nI be) (lN (c * fm_b f ^ nx_k (fm_b f) top k c)) (zz_I (q - nx_k (fm_b f) top k c)) f_attribute f_raised f_trapped f_more f_made a_format a_pattern a_kind a_exponent a_coefficient a_minus a_row → ∀ n, k < n → wY_neighbour_119 post (nI f) (nI dn) (nI (fm_b f)) (lN top) (nI be) f_attribute f_raised f_trapped f_more f_made a_format a_pattern a_kind a_exponent a_coefficient a_minus a_row n (lN c) (zz_I q) := by
  have hff := fm_facts hf
  have hb := fm_b2 f
  obtain ⟨b0, b2, b10, bb⟩ := yr_b hb
  obtain ⟨h63, hpw, h1p⟩ := fm_pw hf
  rw [← htop] at hpw h1p
  have eN := nI_l bb
  intro k
  induction k with
  | zero =>
    intro c q hk hq hqg hc H n hn
    obtain ⟨n, rfl⟩ := yr_fuel hn
    have hcb : c * fm_b f ≤ 2147483648 * 10 := Nat.mul_le_mul (by omega) b10
    have e : nx_k (fm_b f) top 0 c = 0 := rfl
    rw [e, Nat.pow_zero, Nat.mul_one] at H
    have e2 : q - ((0 : Nat) : Int) = q := by omega
    rw [e2] at H
    rw [wY_neighbour_119]
    dsimp only
    rw [eN, lN_mul]
    refine zz_lleU (fun _ => H) (fun _ => ?_)
    refine yw_least hf ?_
    exact zz_leU (fun _ => H) (fun h => absurd h (by omega))
  | succ k ih =>
    intro c q hk hq hqg hc H n hn
    obtain ⟨n, rfl⟩ := yr_fuel hn
    have hcb : c * fm_b f ≤ 2147483648 * 10 := Nat.mul_le_mul (by omega) b10
    rw [wY_neighbour_119]
    dsimp only
    rw [eN, lN_mul]
    refine zz_lleU (fun h => ?_) (fun h => ?_)
    · rw [nx_t h, Nat.pow_zero, Nat.mul_one] at H
      have e2 : q - ((0 : Nat) : Int) = q := by omega
      rw [e2] at H
      exact H
    · refine yw_least hf ?_
      refine zz_leU (fun h2 => absurd h2 (by omega)) (fun _ => nm_e (nm_r (zz_Id1 q) ?_))
      rw [nx_f (by omega)] at H
      refine ih (c * fm_b f) (q - 1) (by omega) (by omega) (by omega) h ?_ n (by omega)
      have e : c * fm_b f ^ (nx_k (fm_b f) top k (c * fm_b f) + 1) = c * fm_b f * fm_b f ^ nx_k (fm_b f) top k (c * fm_b f) := by
        rw [Nat.pow_succ', Nat.mul_assoc]
      have e2 : q - ((nx_k (fm_b f) top k (c * fm_b f) + 1 : Nat) : Int) = q - 1 - (nx_k (fm_b f) top k (c * fm_b f) : Int) := by omega
      rw [e, e2] at H
      exact H
end
theorem bo_next {f m K M C up : Nat} {E : Int} (hf : f < 4) (hm : m < 5) (hup : up < 2) (V : op_V (fm_b f) K M C E) (hC : C < fm_b f ^ fm_p f) (hE : fm_l f ≤ E ∧ E ≤ fm_g f) : ∃ pt : Int32, (∀ (f_raised : Int32) (f_trapped : Int32) (f_below : Int32) (f_value : Int64) (f_power : Int32) (f_rest : Int32) (f_wish : Int32) (f_exact : Int32) (a_format : Nat → Int32) (a_bits : Nat → Int32) (a_kind : Nat → Int32) (a_minus : Nat → Int32) (a_coefficient : Nat → Int64) (a_exponent : Nat → Int32) (a_wide : Nat → Int32) (post : Int32 → SX → Prop) (d : Nat), d < 8 → a_format d = nI f → op_Sl a_kind a_minus a_coefficient a_exponent 0 K M C E → xs_D post f_raised f_trapped (nI m) a_format a_bits d 0 pt → wpX_next post (f_raised, f_trapped, nI m, f_below, f_value, f_power, f_rest, f_wish, f_exact, a_format, a_bits, a_kind, a_minus, a_coefficient, a_exponent, a_wide) (nI d) (nI up)) ∧ (∀ (f_raised : Int32) (f_trapped : Int32) (f_more : Int32) (f_made : Int32) (a_format : Nat → Int32) (a_pattern : Nat → Int32) (a_kind : Nat → Int32) (a_exponent : Nat → Int32) (a_coefficient : Nat → Int64) (a_minus : Nat → Int32) (a_row : Nat → Int32) (post : SY → Prop), op_Sl a_kind a_minus a_coefficient a_exponent 0 K M C E → post (nI m, f_raised, f_trapped, f_more, pt, a_format, a_pattern, a_kind, a_exponent, a_coefficient, a_minus, a_row) → wpY_neighbour post (nI m, f_raised, f_trapped, f_more, f_made, a_format, a_pattern, a_kind, a_exponent, a_coefficient, a_minus, a_row) (nI f) (nI (1 - up))) := by
  have hff := fm_facts hf
  obtain ⟨hK, hM, v⟩ := id V
  obtain ⟨hb, q1, q2, q3, q4, q5⟩ := sm_Vb (op_Vs V)
  obtain ⟨b0, b2, b10, bb⟩ := yr_b hb
  obtain ⟨h63, hpw, h1p⟩ := fm_pw hf
  obtain ⟨gr, hgr⟩ : ∃ gr : Nat, gr = if up = M then 0 else 1 := ⟨_, rfl⟩
  have hgr2 : gr < 2 := by
    rw [hgr]
    split <;> omega
  have startX : ∀ (f_raised : Int32) (f_trapped : Int32) (f_below : Int32) (f_value : Int64) (f_power : Int32) (f_rest : Int32) (f_wish : Int32) (f_exact : Int32) (a_format : Nat → Int32) (a_bits : Nat → Int32) (a_kind : Nat → Int32) (a_minus : Nat → Int32) (a_coefficient : Nat → Int64) (a_exponent : Nat → Int32) (a_wide : Nat → Int32) (post : Int32 → SX → Prop) (d : Nat), d < 8 → a_format d = nI f → op_Sl a_kind a_minus a_coefficient a_exponent 0 K M C E → wX_next_49 post (nI d) (nI up) (nI f) (nI (fm_b f)) (zz_I (fm_l f)) (lN (fm_b f ^ fm_p f)) (nI M) (nI gr) f_raised f_trapped (nI m) f_below f_value f_power f_rest f_wish f_exact a_format a_bits a_kind a_minus a_coefficient a_exponent a_wide → wpX_next post (f_raised, f_trapped, nI m, f_below, f_value, f_power, f_rest, f_wish, f_exact, a_format, a_bits, a_kind, a_minus, a_coefficient, a_exponent, a_wide) (nI d) (nI up) := by
    intro f_raised f_trapped f_below f_value f_power f_rest f_wish f_exact a_format a_bits a_kind a_minus a_coefficient a_exponent a_wide post d hd ef S0 h49
    refine And.intro (vp_in_nI hd (by decide)) (nm_r (e' := nI f) (by rw [nI_clamp (by omega)]; exact ef) ?_)
    refine xw_baseOf hf ?_
    refine xw_leastOf hf ?_
    refine xw_precisionOf hf ?_
    refine xw_raise hb h63 ?_
    refine nm_r S0.2.1 (pk_eq up M (fun h => ?_) (fun h => ?_))
    · rw [hgr, if_pos h] at h49
      exact h49
    · rw [hgr, if_neg h] at h49
      exact h49
  have startY : ∀ (f_raised : Int32) (f_trapped : Int32) (f_more : Int32) (f_made : Int32) (a_format : Nat → Int32) (a_pattern : Nat → Int32) (a_kind : Nat → Int32) (a_exponent : Nat → Int32) (a_coefficient : Nat → Int64) (a_minus : Nat → Int32) (a_row : Nat → Int32) (post : SY → Prop), op_Sl a_kind a_minus a_coefficient a_exponent 0 K M C E → wY_neighbour_30 post (nI f) (nI (1 - up)) (nI (fm_b f)) (lN (fm_b f ^ fm_p f)) (nI (1 - gr)) (nI m) f_raised f_trapped f_more f_made a_format a_pattern a_kind a_exponent a_coefficient a_minus a_row → wpY_neighbour post (nI m, f_raised, f_trapped, f_more, f_made, a_format, a_pattern, a_kind, a_exponent, a_coefficient, a_minus, a_row) (nI f) (nI (1 - up)) := by
    intro f_raised f_trapped f_more f_made a_format a_pattern a_kind a_exponent a_coefficient a_minus a_row post S0 h30
    unfold wpY_neighbour
    dsimp only
    refine yw_base hf ?_
    refine yw_precision hf ?_
    refine yw_power (by omega) (by omega) ?_
    rw [S0.2.1]
    refine pk_eq M (1 - up) (fun h => ?_) (fun h => ?_)
    · rw [hgr, if_neg (by omega)] at h30
      exact h30
    · rw [hgr, if_pos (by omega)] at h30
      exact h30
  have hsub : lN (fm_b f ^ fm_p f) - 1 = lN (fm_b f ^ fm_p f - 1) := lN_sub (b := 1) (by omega)
  by_cases inf : K = 2
  · refine ⟨if gr = 0 then pa_P f M (fm_b f ^ fm_p f - 1) (fm_g f) else pa_inf f M, ?_, ?_⟩
    · intro f_raised f_trapped f_below f_value f_power f_rest f_wish f_exact a_format a_bits a_kind a_minus a_coefficient a_exponent a_wide post d hd ef S0 HD
      refine startX _ _ _ _ _ _ _ _ _ _ _ _ _ _ _ post d hd ef S0 ?_
      refine br_t (by rw [S0.1, inf]; rfl) (pk_eq gr 0 (fun h => ?_) (fun h => ?_))
      · rw [if_pos h] at HD
        refine xw_greatestOf hf ?_
        rw [hsub]
        exact pa_wPX hf hM (by omega) (xw_settle hd (fun u' hu => HD u' hu))
      · rw [if_neg h] at HD
        exact pa_winfX hf hM (xw_settle hd (fun u' hu => HD u' hu))
    · intro f_raised f_trapped f_more f_made a_format a_pattern a_kind a_exponent a_coefficient a_minus a_row post S0 HP
      refine startY _ _ _ _ _ _ _ _ _ _ _ post S0 ?_
      have hcase : (gr = 0 ∧ up = M) ∨ (gr = 1 ∧ M = 1 - up) := by
        rw [hgr]
        split <;> omega
      refine br_t (by rw [S0.1, inf]; rfl) (pk_eq (1 - gr) 0 (fun h => ?_) (fun h => pk_eq (1 - up) 0 (fun h2 => ?_) (fun h2 => ?_)))
      · rw [if_neg (by omega)] at HP
        have e : M = 1 - up := by omega
        rw [e] at HP
        exact pa_winfY hf (by omega) HP
      · rw [if_pos (by omega)] at HP
        have e : M = 1 := by omega
        rw [e] at HP
        rw [wY_neighbour_58]
        refine yw_greatest hf ?_
        rw [hsub]
        exact pa_wPY (s := 1) hf (by decide) (by omega) HP
      · rw [if_pos (by omega)] at HP
        have e : M = 0 := by omega
        rw [e] at HP
        rw [wY_neighbour_58]
        refine yw_greatest hf ?_
        rw [hsub]
        exact pa_wPY (s := 0) hf (by decide) (by omega) HP
  have n2 : ∀ x : Int32, x = nI K → ¬ x = 2 := fun x hx => by
    rw [hx]
    exact bo_k hK (by decide) inf
  by_cases hz : C = 0
  · refine ⟨pa_P f (1 - up) 1 (fm_l f), ?_, ?_⟩
    · intro f_raised f_trapped f_below f_value f_power f_rest f_wish f_exact a_format a_bits a_kind a_minus a_coefficient a_exponent a_wide post d hd ef S0 HD
      refine startX _ _ _ _ _ _ _ _ _ _ _ _ _ _ _ post d hd ef S0 ?_
      refine br_f (n2 _ S0.1) (br_t (by rw [S0.2.2.1, hz]; rfl) (pk_eq up 0 (fun h => ?_) (fun h => ?_)))
      · have e : 1 - up = 1 := by omega
        rw [e] at HD
        exact pa_wPX (s := 1) (c := 1) hf (by decide) h1p (xw_settle hd (fun u' hu => HD u' hu))
      · have e : 1 - up = 0 := by omega
        rw [e] at HD
        exact pa_wPX (s := 0) (c := 1) hf (by decide) h1p (xw_settle hd (fun u' hu => HD u' hu))
    · intro f_raised f_trapped f_more f_made a_format a_pattern a_kind a_exponent a_coefficient a_minus a_row post S0 HP
      refine startY _ _ _ _ _ _ _ _ _ _ _ post S0 ?_
      refine br_f (n2 _ S0.1) (nm_r (e' := lN C) S0.2.2.1 (nm_r S0.2.2.2 (br_t (by rw [hz]; rfl) ?_)))
      refine yw_least hf ?_
      exact pa_wPY (c := 1) hf (by omega) h1p HP
  · obtain ⟨k, hk⟩ : ∃ k : Nat, k = (E - fm_l f).toNat := ⟨_, rfl⟩
    obtain ⟨g1, g2, g3⟩ := nx_fact (b := fm_b f) (top := fm_b f ^ fm_p f) k C hC
    obtain ⟨c', hc'⟩ : ∃ c' : Nat, c' = C * fm_b f ^ nx_k (fm_b f) (fm_b f ^ fm_p f) k C := ⟨_, rfl⟩
    obtain ⟨q', hq'⟩ : ∃ q' : Int, q' = E - (nx_k (fm_b f) (fm_b f ^ fm_p f) k C : Int) := ⟨_, rfl⟩
    have hc'0 : 0 < c' := by
      rw [hc']
      exact Nat.mul_pos (by omega) (Nat.pow_pos b0)
    rw [← hc'] at g2 g3
    have hcl : C < 9223372036854775808 := q5
    have nz : ∀ x : Int64, x = lN C → ¬ x = 0 := fun x hx => by
      rw [hx, show (0 : Int64) = lN 0 from rfl, pk_lEQ hcl (by decide)]
      exact hz
    refine ⟨if nx_q (fm_b f) (fm_b f ^ fm_p f) gr (fm_l f) q' c' ≤ fm_g f then pa_P f M (nx_c (fm_b f) (fm_b f ^ fm_p f) gr (fm_l f) q' c') (nx_q (fm_b f) (fm_b f ^ fm_p f) gr (fm_l f) q' c') else pa_inf f M, ?_, ?_⟩
    · intro f_raised f_trapped f_below f_value f_power f_rest f_wish f_exact a_format a_bits a_kind a_minus a_coefficient a_exponent a_wide post d hd ef S0 HD
      refine startX _ _ _ _ _ _ _ _ _ _ _ _ _ _ _ post d hd ef S0 ?_
      refine br_f (n2 _ S0.1) (br_f (nz _ S0.2.2.1) (nm_r S0.2.2.1 (nm_r S0.2.2.2 ⟨k + 1, ?_⟩)))
      refine xx_154 hf rfl k C E hk.symm hE.1 hE.2 hC ?_ (k + 1) (by omega)
      rw [← hc', ← hq']
      refine xx_187 hf hd hM hgr2 ef rfl hc'0 g2 (by omega) (by omega) (by omega) (fun h => ?_) (fun h => ?_)
      · rw [if_pos h] at HD
        exact HD
      · rw [if_neg (by omega)] at HD
        exact HD
    · intro f_raised f_trapped f_more f_made a_format a_pattern a_kind a_exponent a_coefficient a_minus a_row post S0 HP
      refine startY _ _ _ _ _ _ _ _ _ _ _ post S0 ?_
      refine br_f (n2 _ S0.1) (nm_r S0.2.2.1 (nm_r S0.2.2.2 (br_f (nz _ rfl) ⟨k + 1, ?_⟩)))
      refine yx_119 hf rfl k C E hk.symm hE.1 hE.2 hC ?_ (k + 1) (by omega)
      rw [← hc', ← hq']
      have egr : 1 - (1 - gr) = gr := by omega
      have hcase : (gr = 0 ∧ up = M) ∨ (gr = 1 ∧ M = 1 - up) := by
        rw [hgr]
        split <;> omega
      refine yx_152 hf (by omega) (by omega) rfl hc'0 g2 (by omega) (by omega) (fun h => ?_) (fun h => ?_)
      · rw [egr] at h ⊢
        rw [if_pos h] at HP
        have es : (if 1 - gr = 1 - up then 0 else 1) = M := by
          split <;> omega
        rw [es]
        exact HP
      · rw [egr] at h
        rw [if_neg (by omega)] at HP
        have hg1 : gr = 1 := by
          rcases hcase with ⟨a, b⟩ | ⟨a, b⟩
          · exfalso
            unfold nx_q at h
            rw [if_pos a] at h
            split at h <;> omega
          · exact a
        have e : M = 1 - up := by omega
        rw [e] at HP
        exact HP
end
section
/-! roots: the arithmetic -/
def rt_s (v s : Nat) : Prop := s * s ≤ v ∧ v < (s + 1) * (s + 1)
theorem rt_lt {a b : Nat} (h : a * a < b * b) : a < b := by
  rcases Nat.lt_or_ge a b with h1 | h1
  · exact h1
  · have := Nat.mul_le_mul h1 h1
    omega
theorem rt_le {a b : Nat} (h : a * a ≤ b * b) : a ≤ b := by
  rcases Nat.lt_or_ge b a with h1 | h1
  · have := Nat.mul_lt_mul_of_lt_of_le h1 (Nat.le_of_lt h1) (by omega)
    omega
  · exact h1
theorem rt_ex : ∀ v : Nat, ∃ s, rt_s v s := by
  intro v
  induction v with
  | zero => exact ⟨0, by decide, by decide⟩
  | succ v ih =>
    obtain ⟨s, h1, h2⟩ := ih
    by_cases h : v + 1 < (s + 1) * (s + 1)
    · exact ⟨s, by omega, h⟩
    · refine ⟨s + 1, by omega, ?_⟩
      have e1 : (s + 1 + 1) * (s + 1 + 1) = (s + 1) * (s + 1) + 2 * (s + 1) + 1 := by
        rw [Nat.add_mul, Nat.mul_add]
        omega
      omega
theorem rt_uniq {v s t : Nat} (h : rt_s v s) (g : rt_s v t) : s = t := by
  have a := rt_lt (Nat.lt_of_le_of_lt h.1 g.2)
  have b := rt_lt (Nat.lt_of_le_of_lt g.1 h.2)
  omega
theorem rt_sq (s B : Nat) : s * B * (s * B) = s * s * (B * B) := by
  rw [Nat.mul_assoc, Nat.mul_left_comm B, ← Nat.mul_assoc]
/-- the root of v, out of the root F of v * B^2 -/
theorem rt_rep {v s F B : Nat} (hB : 0 < B) (hs : rt_s v s) (hF : rt_s (v * (B * B)) F) : F / B = s ∧ ((F % B = 0 ∧ F * F = v * (B * B)) ↔ s * s = v) := by
  have hBB : 0 < B * B := Nat.mul_pos hB hB
  have h1 : s * B ≤ F := by
    have : s * B * (s * B) < (F + 1) * (F + 1) := by
      rw [rt_sq]
      exact Nat.lt_of_le_of_lt (Nat.mul_le_mul_right _ hs.1) hF.2
    have := rt_lt this
    omega
  have h2 : F < (s + 1) * B := by
    have : F * F < (s + 1) * B * ((s + 1) * B) := by
      rw [rt_sq]
      exact Nat.lt_of_le_of_lt hF.1 (Nat.mul_lt_mul_of_pos_right hs.2 hBB)
    exact rt_lt this
  have e : F / B = s := by
    have a1 : s ≤ F / B := (Nat.le_div_iff_mul_le hB).mpr h1
    have a2 : F / B < s + 1 := (Nat.div_lt_iff_lt_mul hB).mpr h2
    omega
  refine ⟨e, ?_⟩
  have hda := Nat.div_add_mod F B
  rw [e, Nat.mul_comm] at hda
  constructor
  · rintro ⟨h3, h4⟩
    rw [h3, Nat.add_zero] at hda
    rw [← hda, rt_sq] at h4
    exact Nat.eq_of_mul_eq_mul_right hBB h4
  · intro h3
    have h4 : rt_s (v * (B * B)) (s * B) := by
      refine ⟨by rw [rt_sq, h3]; exact Nat.le_refl _, ?_⟩
      have : s * B * (s * B) < (s * B + 1) * (s * B + 1) := Nat.mul_lt_mul_of_lt_of_le (Nat.lt_succ_self _) (Nat.le_succ _) (Nat.succ_pos _)
      rw [rt_sq, h3] at this
      exact this
    have h5 := rt_uniq hF h4
    refine ⟨by omega, ?_⟩
    rw [h5, rt_sq, h3]
/-- twice the root and whether there is more -/
theorem rt_gh {F st b P : Nat} {e : Int} (hst : st < 2) : (2 * F + st) / rn_M 2 b P e = F / b ^ (e + P).toNat ∧ ((2 * F + st) % rn_M 2 b P e = 0 ↔ F % b ^ (e + P).toNat = 0 ∧ st = 0) := by
  have h1 : (2 * F + st) / 2 = F := by omega
  have h2 : (2 * F + st) % 2 = st := by omega
  unfold rn_M
  constructor
  · rw [← Nat.div_div_eq_div_mul, h1]
  · rw [Nat.mod_mul, h1, h2]
    omega
theorem rt_ge {v s k : Nat} (h : rt_s v s) (hk : k * k ≤ v) : k ≤ s := by
  have := rt_lt (Nat.lt_of_le_of_lt hk h.2)
  omega
theorem rt_lt' {v s k : Nat} (h : rt_s v s) (hk : v < k * k) : s < k := rt_lt (Nat.lt_of_le_of_lt h.1 hk)
theorem zz_shr1 {a : Int} (h : zz_R a) : zz_I a >>> ((1 : Int32) &&& 31) = zz_I (a / 2) := by
  apply Int32.toInt_inj.mp
  have h2 : zz_R (a / 2) := by
    unfold zz_R at h ⊢
    omega
  rw [pk_shr _ _ 1 (by decide), zz_ItI h, zz_ItI h2, Int.shiftRight_eq_div_pow]
  rfl
theorem zz_par {a : Int} (h : zz_R a) : (zz_I a &&& 1) = 0 ↔ a % 2 = 0 := by
  rw [op_mask (zz_I a) (m := 1) 1 (by decide)]
  have hn := op_n_lt (zz_I a)
  have e : (zz_I a).toInt = if 2 * op_n (zz_I a) < 4294967296 then (op_n (zz_I a) : Int) else (op_n (zz_I a) : Int) - 4294967296 := BitVec.toInt_eq_toNat_cond (zz_I a).toBitVec
  rw [zz_ItI h] at e
  rw [show (0 : Int32) = nI 0 from rfl, nI_eq (by omega) (by decide)]
  split at e <;> omega
theorem zz_td (a : Int) : (0 ≤ a → a.tdiv 2 = a / 2) ∧ (a < 0 → a.tdiv 2 = -((-a) / 2)) := by
  constructor
  · intro h
    exact Int.tdiv_eq_ediv_of_nonneg h
  · intro h
    have e : a.tdiv 2 = -((-a).tdiv 2) := by rw [Int.neg_tdiv, Int.neg_neg]
    rw [e, Int.tdiv_eq_ediv_of_nonneg (by omega)]
theorem zz_div2 {a : Int} (h : zz_R a) : zz_I a / 2 = zz_I (a.tdiv 2) := by
  have h2 : zz_R (a.tdiv 2) := by
    have ht := zz_td a
    unfold zz_R at h ⊢
    omega
  apply Int32.toInt_inj.mp
  rw [Int32.toInt_div_of_ne_right _ _ (by decide), zz_ItI h, zz_ItI h2]
  rfl
theorem zz_rem2 {a : Int} (h : zz_R a) : (zz_I a - zz_I a / 2 * 2) = 0 ↔ a % 2 = 0 := by
  rw [zz_div2 h]
  have ht := zz_td a
  have e : zz_I (a.tdiv 2) * 2 = zz_I (a.tdiv 2 * 2) := zz_Imul _ 2
  rw [e, zz_Isub, zz_I0, zz_Ieq (by unfold zz_R at h ⊢; omega) (by unfold zz_R; omega)]
  omega
end
section
/-! roots: both pictures, the loops -/
theorem bt_root {f m C up j s sy : Nat} {E pw ey w : Int} (hf : f < 4) (hm : m < 5) (hw : -100000 < w ∧ w < 100000) (hup : E - up = 2 * pw) (hj : E - j = 2 * ey) (hs : rt_s (C * fm_b f ^ up) s) (hsy : rt_s (C * fm_b f ^ j) sy) (hps : fm_b f ^ fm_p f ≤ s) (hpy : fm_b f ^ fm_p f ≤ sy) (hs31 : s < 2147483648) (hsy31 : sy < 2147483648) (hpw : -200 < pw ∧ pw < 200) (hey : -200 < ey ∧ ey < 200) (hE : -200 < E) : ∃ fl pt : Int32, bt_ok f fl pt ∧ bt_XR f m 0 s (if s * s = C * fm_b f ^ up then 0 else 1) pw w fl pt ∧ bt_YR f m 0 (sy * fm_b f ^ (ey + fm_P (fm_b f)).toNat) (if sy * sy = C * fm_b f ^ j then 0 else 1) w fl pt := by
  have hff := fm_facts hf
  have hb := fm_b2 f
  obtain ⟨b0, b2, b10, bb⟩ := yr_b hb
  have hP : fm_P (fm_b f) = 450 ∧ fm_b f = 2 ∨ fm_P (fm_b f) = 230 ∧ fm_b f = 10 := by
    rcases hb with h | h
    · left; rw [h]; exact ⟨rfl, rfl⟩
    · right; rw [h]; exact ⟨rfl, rfl⟩
  obtain ⟨F, hF⟩ := rt_ex (C * fm_b f ^ (E + 2 * fm_P (fm_b f)).toNat)
  obtain ⟨st, hst⟩ : ∃ st : Nat, st = if F * F = C * fm_b f ^ (E + 2 * fm_P (fm_b f)).toNat then 0 else 1 := ⟨_, rfl⟩
  have hst2 : st < 2 := by
    rw [hst]
    split <;> omega
  have hst0 : st = 0 ↔ F * F = C * fm_b f ^ (E + 2 * fm_P (fm_b f)).toNat := by
    rw [hst]
    split
    · exact ⟨fun _ => by assumption, fun _ => rfl⟩
    · exact ⟨fun h => absurd h (by decide), fun h => absurd h (by assumption)⟩
  have key : ∀ (k t : Nat) (e : Int), E - k = 2 * e → -200 < e → rt_s (C * fm_b f ^ k) t → t = (2 * F + st) / rn_M 2 (fm_b f) (fm_P (fm_b f)) e ∧ (t * t = C * fm_b f ^ k ↔ (2 * F + st) % rn_M 2 (fm_b f) (fm_P (fm_b f)) e = 0) := by
    intro k t e hk he ht
    have hB : 0 < fm_b f ^ (e + fm_P (fm_b f)).toNat := Nat.pow_pos b0
    have eN : C * fm_b f ^ (E + 2 * fm_P (fm_b f)).toNat = C * fm_b f ^ k * (fm_b f ^ (e + fm_P (fm_b f)).toNat * fm_b f ^ (e + fm_P (fm_b f)).toNat) := by
      rw [← Nat.pow_add, Nat.mul_assoc, ← Nat.pow_add]
      congr 2
      omega
    rw [eN] at hF hst0
    obtain ⟨g1, g2⟩ := rt_rep hB ht hF
    obtain ⟨g3, g4⟩ := rt_gh (F := F) (b := fm_b f) (P := fm_P (fm_b f)) (e := e) hst2
    rw [g3, g1, g4, hst0]
    exact ⟨rfl, g2.symm⟩
  obtain ⟨x1, x2⟩ := key up s pw hup hpw.1 hs
  obtain ⟨y1, y2⟩ := key j sy ey hj hey.1 hsy
  have hp0 : 0 < fm_b f ^ fm_p f := Nat.pow_pos b0
  have hbd : s < xr_bd (fm_b f) := by
    rcases hb with h | h
    · rw [h]
      have : xr_bd 2 = 4611686018427387904 := rfl
      omega
    · rw [h]
      have : xr_bd 10 = 5000000000000000000 := rfl
      omega
  have hN : sy * fm_b f ^ (ey + fm_P (fm_b f)).toNat < fm_b f ^ 800 := by
    have h31 : (2 : Nat) ^ 31 ≤ fm_b f ^ 31 := Nat.pow_le_pow_left b2 31
    have h32 : (2 : Nat) ^ 31 = 2147483648 := by decide
    have h4 : sy * fm_b f ^ (ey + fm_P (fm_b f)).toNat < fm_b f ^ 31 * fm_b f ^ (ey + fm_P (fm_b f)).toNat := Nat.mul_lt_mul_of_pos_right (by omega) (Nat.pow_pos b0)
    rw [← Nat.pow_add] at h4
    exact Nat.lt_of_lt_of_le h4 (dg_pow_le b0 (by omega))
  refine bt_round (A := 2 * F + st) (D := 2) (U := fm_P (fm_b f)) (u := ey) hf hm (by decide) hw (by decide) (Nat.le_refl _) (by split <;> omega) (by omega) x1 ?_ hbd (by omega) (Or.inr hps) (by omega) hN ⟨by split <;> omega, by omega, by omega, by rw [← y1], ?_⟩ (by rw [← y1]; exact hpy)
  · rw [← x2]
    split
    · exact ⟨fun _ => by assumption, fun _ => rfl⟩
    · exact ⟨fun h => absurd h (by decide), fun h => absurd h (by assumption)⟩
  · rw [← y2]
    split
    · exact ⟨fun _ => by assumption, fun _ => rfl⟩
    · exact ⟨fun h => absurd h (by decide), fun h => absurd h (by assumption)⟩
/-- the bits of a root -/
def rt_bit (t : Nat) : Nat := if t = 0 then 0 else 2 ^ (t - 1)
theorem rt_bit_s (t : Nat) : rt_bit (t + 1) = 2 ^ t := by
  unfold rt_bit
  rw [if_neg (by omega)]
  rfl
theorem rt_bit_h (t : Nat) : rt_bit (t + 1) / 2 = rt_bit t := by
  rw [rt_bit_s]
  unfold rt_bit
  by_cases h : t = 0
  · subst h
    decide
  · rw [if_neg h]
    obtain ⟨t', rfl⟩ : ∃ t', t = t' + 1 := ⟨t - 1, by omega⟩
    rw [Nat.pow_succ, Nat.mul_div_cancel _ (by decide)]
    rfl
theorem xt_79 {f_raised : Int32} {f_trapped : Int32} {f_mode : Int32} {f_below : Int32} {f_value : Int64} {f_power : Int32} {f_rest : Int32} {f_wish : Int32} {f_exact : Int32} {a_format : Nat → Int32} {a_bits : Nat → Int32} {a_kind : Nat → Int32} {a_minus : Nat → Int32} {a_coefficient : Nat → Int64} {a_exponent : Nat → Int32} {a_wide : Nat → Int32} {post : Int32 → SX → Prop} {x1 x3 : Int32} {v : Nat} (hv : v < 2305843009213693952) (H : ∀ s : Nat, rt_s v s → ((s * s = v → wX_root_142 post x1 x3 0 f_raised f_trapped f_mode f_below (lN s) f_power f_rest f_wish f_exact a_format a_bits a_kind a_minus a_coefficient a_exponent a_wide) ∧ (¬ s * s = v → wX_root_142 post x1 x3 1 f_raised f_trapped f_mode f_below (lN s) f_power f_rest f_wish f_exact a_format a_bits a_kind a_minus a_coefficient a_exponent a_wide))) : ∀ t s : Nat, t ≤ 31 → s * s ≤ v → v < (s + 2 ^ t) * (s + 2 ^ t) → ∀ n, t < n → wX_root_79 post x1 x3 (lN v) f_raised f_trapped f_mode f_below f_value f_power f_rest f_wish f_exact a_format a_bits a_kind a_minus a_coefficient a_exponent a_wide n (lN s) (lN (rt_bit t)) := by
  have sb : ∀ s : Nat, s * s ≤ v → s < 1518500250 := by
    intro s hs
    refine rt_lt (b := 1518500250) ?_
    omega
  intro t
  induction t with
  | zero =>
    intro s _ h1 h2 n hn
    obtain ⟨n, rfl⟩ := yr_fuel hn
    have hs := sb s h1
    have hss : s * s < 9223372036854775808 := by omega
    obtain ⟨g1, g2⟩ := H s ⟨h1, h2⟩
    refine br_t (by decide) ?_
    rw [lN_mul]
    exact zz_leqU (fun h => g1 h) (fun h => g2 h)
  | succ t ih =>
    intro s ht h1 h2 n hn
    obtain ⟨n, rfl⟩ := yr_fuel hn
    have hs := sb s h1
    have hb30 : 2 ^ t ≤ 1073741824 := by
      have := dg_pow_le (b := 2) (by decide) (show t ≤ 30 by omega)
      have e : (2 : Nat) ^ 30 = 1073741824 := by decide
      omega
    have hb0 : 0 < 2 ^ t := Nat.pow_pos (by decide)
    have hsum : (s + 2 ^ t) * (s + 2 ^ t) ≤ 2600000000 * 2600000000 := Nat.mul_le_mul (by omega) (by omega)
    have hsh : lN (2 ^ t) >>> ((1 : Int32).toInt64 &&& 63) = lN (rt_bit t) := by
      rw [pf_shr (d := 1) (by decide) (by omega), ← rt_bit_h, rt_bit_s]
    rw [rt_bit_s, wX_root_79]
    refine zz_lle (2 ^ t) 0 (fun h => absurd h (by omega)) (fun _ => ?_)
    rw [lN_add, lN_mul]
    refine zz_lltU (fun h => nm_r hsh (ih s (by omega) h1 h n (by omega))) (fun h => nm_e (nm_r hsh (ih (s + 2 ^ t) (by omega) h ?_ n (by omega))))
    have e : s + 2 ^ t + 2 ^ t = s + 2 ^ (t + 1) := by
      rw [Nat.pow_succ]
      omega
    rw [e]
    exact h2
section
variable {f_attribute : Int32} {f_raised : Int32} {f_trapped : Int32} {f_more : Int32} {f_made : Int32} {a_format : Nat → Int32} {a_pattern : Nat → Int32} {a_kind : Nat → Int32} {a_exponent : Nat → Int32} {a_coefficient : Nat → Int64} {a_minus : Nat → Int32} {a_row : Nat → Int32} {post : Int32 → SY → Prop}
theorem yt_133 {f b n pl : Nat} {J : Int64 → Int64 → Prop} {x3 x4 : Int32} (hb : b = 2 ∨ b = 10) (hn : n < 1000000000000000000) (hpl : pl ≤ 1073741824) (H : ∀ s : Nat, s * s ≤ n → n < (s + pl) * (s + pl) → J (lN s) (lN (pl / b))) : ∀ j s : Nat, s * s ≤ n → n < (s + (j + 1) * pl) * (s + (j + 1) * pl) → ∀ k, j < k → wY_root_133 post J (nI f) (nI b) x3 x4 (lN n) (lN pl) f_attribute f_raised f_trapped f_more f_made a_format a_pattern a_kind a_exponent a_coefficient a_minus a_row k (lN s) := by
  obtain ⟨b0, b2, b10, bb⟩ := yr_b hb
  have sb : ∀ s : Nat, s * s ≤ n → s < 1000000000 := by
    intro s hs
    refine rt_lt (b := 1000000000) ?_
    omega
  intro j
  induction j with
  | zero =>
    intro s h1 h2 k hk
    obtain ⟨k, rfl⟩ := yr_fuel hk
    have hs := sb s h1
    have hsum : (s + pl) * (s + pl) ≤ 2600000000 * 2600000000 := Nat.mul_le_mul (by omega) (by omega)
    rw [Nat.zero_add, Nat.one_mul] at h2
    rw [wY_root_133]
    dsimp only
    rw [lN_add, lN_mul]
    refine zz_lltU (fun h => ⟨yr_n0 hb, nm_r (e' := lN (pl / b)) ?_ (H s h1 h)⟩) (fun h => absurd h (by omega))
    rw [nI_l bb, pk_lDiv (by omega) b0 (by omega)]
  | succ j ih =>
    intro s h1 h2 k hk
    obtain ⟨k, rfl⟩ := yr_fuel hk
    have hs := sb s h1
    have hsum : (s + pl) * (s + pl) ≤ 2600000000 * 2600000000 := Nat.mul_le_mul (by omega) (by omega)
    rw [wY_root_133]
    dsimp only
    rw [lN_add, lN_mul]
    refine zz_lltU (fun h => ⟨yr_n0 hb, nm_r (e' := lN (pl / b)) ?_ (H s h1 h)⟩) (fun h => nm_e (ih (s + pl) h ?_ k (by omega)))
    · rw [nI_l bb, pk_lDiv (by omega) b0 (by omega)]
    · have e : s + pl + (j + 1) * pl = s + (j + 1 + 1) * pl := by
        rw [Nat.add_mul (j + 1) 1 pl]
        omega
      rw [e]
      exact h2
def rt_pl (b T : Nat) : Nat := if T = 0 then 0 else b ^ (T - 1)
theorem rt_pl_s (b T : Nat) : rt_pl b (T + 1) = b ^ T := by
  unfold rt_pl
  rw [if_neg (by omega)]
  rfl
theorem rt_pl_h {b : Nat} (hb : 2 ≤ b) (T : Nat) : b ^ T / b = rt_pl b T := by
  unfold rt_pl
  by_cases h : T = 0
  · subst h
    rw [if_pos rfl, Nat.pow_zero]
    exact Nat.div_eq_of_lt (by omega)
  · rw [if_neg h]
    obtain ⟨t', rfl⟩ : ∃ t', T = t' + 1 := ⟨T - 1, by omega⟩
    rw [Nat.pow_succ, Nat.mul_div_cancel _ (by omega)]
    rfl
theorem yt_126 {f b n Tm : Nat} {x3 x4 : Int32} (hb : b = 2 ∨ b = 10) (hTm : (b = 2 ∧ Tm ≤ 31) ∨ (b = 10 ∧ Tm ≤ 10)) (hn : n < 1000000000000000000) (H : ∀ s : Nat, rt_s n s → wpY_clear (fun u => match u with | (f_attribute, f_raised, f_trapped, f_more, f_made, a_format, a_pattern, a_kind, a_exponent, a_coefficient, a_minus, a_row) => (¬ (2 : Int32) = 0 ∧ (wpY_lay (fun u => match u with | (f_attribute, f_raised, f_trapped, f_more, f_made, a_format, a_pattern, a_kind, a_exponent, a_coefficient, a_minus, a_row) => ((((lN s * lN s) = lN n → (wY_root_203 post (nI f) x3 0 f_attribute f_raised f_trapped f_more f_made a_format a_pattern a_kind a_exponent a_coefficient a_minus a_row)) ∧ (¬ (lN s * lN s) = lN n → (wY_root_203 post (nI f) x3 1 f_attribute f_raised f_trapped f_more f_made a_format a_pattern a_kind a_exponent a_coefficient a_minus a_row))))) (f_attribute, f_raised, f_trapped, f_more, f_made, a_format, a_pattern, a_kind, a_exponent, a_coefficient, a_minus, a_row) 0 (nI b) (lN s) (x4 / 2)))) (f_attribute, f_raised, f_trapped, f_more, f_made, a_format, a_pattern, a_kind, a_exponent, a_coefficient, a_minus, a_row)) : ∀ T s : Nat, T ≤ Tm → s * s ≤ n → n < (s + b ^ T) * (s + b ^ T) → ∀ k, T < k → wY_root_126 post (nI f) (nI b) x3 x4 (lN n) f_attribute f_raised f_trapped f_more f_made a_format a_pattern a_kind a_exponent a_coefficient a_minus a_row k (lN s) (lN (rt_pl b T)) := by
  obtain ⟨b0, b2, b10, bb⟩ := yr_b hb
  intro T
  induction T with
  | zero =>
    intro s _ h1 h2 k hk
    obtain ⟨k, rfl⟩ := yr_fuel hk
    have e0 : lN (rt_pl b 0) ≤ 0 := by
      have : rt_pl b 0 = 0 := rfl
      rw [this]
      decide
    exact br_t e0 (H s ⟨h1, h2⟩)
  | succ T ih =>
    intro s hT h1 h2 k hk
    obtain ⟨k, rfl⟩ := yr_fuel hk
    have hpl : b ^ T ≤ 1073741824 := by
      rcases hTm with ⟨e, h⟩ | ⟨e, h⟩
      · have := dg_pow_le (b := b) b0 (show T ≤ 30 by omega)
        rw [e] at this ⊢
        have e2 : (2 : Nat) ^ 30 = 1073741824 := by decide
        omega
      · have := dg_pow_le (b := b) b0 (show T ≤ 9 by omega)
        rw [e] at this ⊢
        have e2 : (10 : Nat) ^ 9 = 1000000000 := by decide
        omega
    have hp0 : 0 < b ^ T := Nat.pow_pos b0
    rw [rt_pl_s]
    refine zz_lle (b ^ T) 0 (fun h => absurd h (by omega)) (fun _ => ⟨b, ?_⟩)
    refine yt_133 hb hn hpl (fun s' g1 g2 => ?_) (b - 1) s h1 ?_ b (by omega)
    · rw [rt_pl_h b2]
      exact ih s' (by omega) g1 g2 k (by omega)
    · have e : b - 1 + 1 = b := by omega
      rw [e, Nat.mul_comm b, ← Nat.pow_succ]
      exact h2
theorem yt_83 {f b c0 i : Nat} {x3 : Int32} {e0 : Int} (hb : b = 2 ∨ b = 10) (hi1 : 10000000000000000 ≤ c0 * (b * b) ^ i) (hi2 : ∀ j, j < i → c0 * (b * b) ^ j < 10000000000000000) (he : -10000 < e0 ∧ e0 < 10000) (hi3 : i < 1000) (H : (∃ n126 : Nat, wY_root_126 post (nI f) (nI b) x3 (zz_I (e0 - 2 * i)) (lN (c0 * (b * b) ^ i)) f_attribute f_raised f_trapped f_more f_made a_format a_pattern a_kind a_exponent a_coefficient a_minus a_row n126 0 (lN (rt_pl b (if b = 2 then 31 else 10))))) (hlt : c0 * (b * b) ^ i < 9223372036854775808) : ∀ j k : Nat, k + j = i → ∀ n, j < n → wY_root_83 post (nI f) (nI b) x3 f_attribute f_raised f_trapped f_more f_made a_format a_pattern a_kind a_exponent a_coefficient a_minus a_row n (zz_I (e0 - 2 * k)) (lN (c0 * (b * b) ^ k)) := by
  obtain ⟨b0, b2, b10, bb⟩ := yr_b hb
  intro j
  induction j with
  | zero =>
    intro k hk n hn
    obtain ⟨n, rfl⟩ := yr_fuel hn
    have ek : k = i := by omega
    subst ek
    refine zz_lle 10000000000000000 (c0 * (b * b) ^ k) (fun _ => ?_) (fun h => absurd h (by omega))
    rcases hb with rfl | rfl
    · exact br_t (by decide) H
    · exact br_f (by decide) H
  | succ j ih =>
    intro k hk n hn
    obtain ⟨n, rfl⟩ := yr_fuel hn
    have hlow := hi2 k (by omega)
    refine zz_lle 10000000000000000 (c0 * (b * b) ^ k) (fun h => absurd h (by omega)) (fun _ => nm_r (e' := lN (c0 * (b * b) ^ (k + 1))) ?_ (nm_r (e' := zz_I (e0 - 2 * ((k + 1 : Nat) : Int))) ?_ (ih (k + 1) (by omega) n (by omega))))
    · have e1 : nI b * nI b = nI (b * b) := pk_mul b b
      have e2 : b * b < 2147483648 := by rcases hb with rfl | rfl <;> decide
      rw [e1, nI_l e2, lN_mul, Nat.pow_succ, Nat.mul_assoc]
    · have e3 : (-2 : Int32) = zz_I (-2) := by decide
      rw [e3, zz_Iadd]
      congr 1
      omega
end
end
section
/-! roots: both sides at one -/
theorem bo_root {f m M C : Nat} {E : Int} (hf : f < 4) (hm : m < 5) (V : op_V (fm_b f) 3 M C E) (hMC : M = 0 ∨ C = 0) : ∃ fl pt : Int32, bt_ok f fl pt ∧ un_X wpX_root f m M C E fl pt ∧ un_Y (fun post u => wpY_root post u (nI f)) f m 3 M C E fl pt := by
  have hff := fm_facts hf
  obtain ⟨hK, hM, v⟩ := id V
  obtain ⟨hb, q1, q2, q3, q4, q5⟩ := sm_Vb (op_Vs V)
  obtain ⟨b0, b2, b10, bb⟩ := yr_b hb
  have hsh : zz_I E >>> ((1 : Int32) &&& 31) = zz_I (E / 2) := zz_shr1 (by unfold zz_R; omega)
  by_cases hz : C = 0
  · refine ⟨0, pa_P f M 0 (rn_zq f (E / 2)), Or.inr (by decide), ?_, ?_⟩
    · intro f_raised f_trapped f_exact a_format a_bits a_kind a_minus a_coefficient a_exponent a_wide post d hd ef HD
      refine nm_r hsh (br_t (by rw [hz]; rfl) ?_)
      rw [hz]
      exact xw_round_0 (fu := 0) hd hf hM (by omega) ef (fun u' h => HD u' h)
    · intro f_raised f_trapped f_more f_made a_format a_pattern a_kind a_exponent a_coefficient a_minus a_row post S0 HO
      unfold wpY_root
      dsimp only
      refine yw_base hf ?_
      refine nm_r (e' := zz_I (E / 2)) (by rw [S0.2.2.2, hsh]) ?_
      refine yw_isZero (k := 0) (by decide) (by decide) q5 S0 ?_
      have ez : bo_Z 3 C = 1 := by
        unfold bo_Z
        rw [if_pos ⟨rfl, hz⟩]
      rw [ez]
      refine br_f (by decide) ?_
      rw [S0.2.1]
      exact yw_zero hf hM (by omega) (HO _ ⟨rfl, rfl, rfl, rfl, rfl⟩ (Or.inr rfl))
  · have eM : M = 0 := by omega
    subst eM
    have hC0 : 0 < C := by omega
    -- the component's scale
    obtain ⟨n, hn, _⟩ := dg_ex (b := fm_b f) b2 C
    have hn0 : n ≠ 0 := fun e => by
      have := (dg_n0 b0 hn).mpr e
      omega
    have hw : xr_w (fm_b f) < 62 := by rcases hb with h | h <;> rw [h] <;> decide
    have hnw : n + 11 ≤ xr_w (fm_b f) ∧ n ≤ 24 := by
      rcases v with ⟨e, h2, _⟩ | ⟨e, h2, _⟩
      · rw [e] at hn ⊢
        have h3 : n ≤ 24 := dg_n_le (by decide) hn (show C < 2 ^ 24 by omega)
        have h4 : xr_w 2 = 61 := rfl
        omega
      · rw [e] at hn ⊢
        have h3 : n ≤ 7 := dg_n_le (by decide) hn (show C < 10 ^ 7 by omega)
        have h4 : xr_w 10 = 18 := rfl
        omega
    obtain ⟨up, hup⟩ : ∃ up : Nat, up = if (E - ((xr_w (fm_b f) - n : Nat) : Int)) % 2 = 0 then xr_w (fm_b f) - n else xr_w (fm_b f) - n - 1 := ⟨_, rfl⟩
    have hup1 : up ≤ xr_w (fm_b f) - n ∧ xr_w (fm_b f) - n ≤ up + 1 ∧ (E - up) % 2 = 0 := by
      rw [hup]
      split <;> omega
    obtain ⟨pw, hpw⟩ : ∃ pw : Int, E - up = 2 * pw := ⟨(E - up) / 2, by omega⟩
    have hvU : C * fm_b f ^ up < fm_b f ^ xr_w (fm_b f) := by
      have h3 : C * fm_b f ^ up < fm_b f ^ n * fm_b f ^ up := Nat.mul_lt_mul_of_pos_right hn.1 (Nat.pow_pos b0)
      rw [← Nat.pow_add] at h3
      exact Nat.lt_of_lt_of_le h3 (dg_pow_le b0 (by omega))
    have hvL : fm_b f ^ (xr_w (fm_b f) - 2) ≤ C * fm_b f ^ up := by
      have h3 : fm_b f ^ (n - 1) ≤ C := by
        rcases hn.2 with h2 | h2
        · exact absurd h2 hn0
        · exact h2
      have h4 : fm_b f ^ (n - 1) * fm_b f ^ up ≤ C * fm_b f ^ up := Nat.mul_le_mul_right _ h3
      rw [← Nat.pow_add] at h4
      exact Nat.le_trans (dg_pow_le b0 (by omega)) h4
    have hv61 : C * fm_b f ^ up < 2305843009213693952 := by
      refine Nat.lt_of_lt_of_le hvU ?_
      rcases hb with h | h <;> rw [h] <;> decide
    obtain ⟨s, hs⟩ := rt_ex (C * fm_b f ^ up)
    have hs31 : s < 2147483648 := by
      refine rt_lt' hs (Nat.lt_of_lt_of_le hv61 (by decide))
    have hpp : ∀ x : Nat, (fm_b f = 2 → 281474976710656 ≤ x) → (fm_b f = 10 → 100000000000000 ≤ x) → fm_b f ^ fm_p f * fm_b f ^ fm_p f ≤ x := by
      intro x h2 h10
      rw [← Nat.pow_add]
      rcases hff with ⟨e2, hp⟩ | ⟨e10, hp, _⟩
      · have h3 := dg_pow_le (b := fm_b f) b0 (show fm_p f + fm_p f ≤ 48 by omega)
        have h5 := h2 e2
        rw [e2] at h3 ⊢
        have h4 : (2 : Nat) ^ 48 = 281474976710656 := by decide
        omega
      · have h3 := dg_pow_le (b := fm_b f) b0 (show fm_p f + fm_p f ≤ 14 by omega)
        have h5 := h10 e10
        rw [e10] at h3 ⊢
        have h4 : (10 : Nat) ^ 14 = 100000000000000 := by decide
        omega
    have hps : fm_b f ^ fm_p f ≤ s := by
      refine rt_ge hs (hpp _ (fun e => ?_) (fun e => ?_))
      · rw [e] at hvL ⊢
        exact Nat.le_trans (by decide) hvL
      · rw [e] at hvL ⊢
        exact Nat.le_trans (by decide) hvL
    -- the reference's scale
    obtain ⟨c0, hc0⟩ : ∃ c0 : Nat, c0 = if E % 2 = 0 then C else C * fm_b f := ⟨_, rfl⟩
    obtain ⟨o, ho⟩ : ∃ o : Nat, o = if E % 2 = 0 then 0 else 1 := ⟨_, rfl⟩
    have hco : c0 = C * fm_b f ^ o ∧ o ≤ 1 ∧ (E - o) % 2 = 0 := by
      rw [hc0, ho]
      by_cases h : E % 2 = 0
      · rw [if_pos h, if_pos h, Nat.pow_zero, Nat.mul_one]
        exact ⟨rfl, by omega, by omega⟩
      · rw [if_neg h, if_neg h, Nat.pow_one]
        exact ⟨rfl, by omega, by omega⟩
    have hc0p : 0 < c0 := by
      rw [hco.1]
      exact Nat.mul_pos hC0 (Nat.pow_pos b0)
    have hc0b : c0 < 1000000000 := by
      have h2 : fm_b f ^ o ≤ 10 := by
        have := dg_pow_le (b := fm_b f) b0 hco.2.1
        rw [Nat.pow_one] at this
        omega
      have h3 : C * fm_b f ^ o ≤ 16777215 * 10 := Nat.mul_le_mul (by omega) h2
      rw [hco.1]
      omega
    obtain ⟨i, hi1, hi2⟩ := pk_least (fun i => 10000000000000000 ≤ c0 * (fm_b f * fm_b f) ^ i) ⟨27, by
      have h2 : (2 * 2) ^ 27 ≤ (fm_b f * fm_b f) ^ 27 := Nat.pow_le_pow_left (Nat.mul_le_mul b2 b2) 27
      have h3 : ((2 : Nat) * 2) ^ 27 = 18014398509481984 := by decide
      have h4 : (fm_b f * fm_b f) ^ 27 ≤ c0 * (fm_b f * fm_b f) ^ 27 := Nat.le_mul_of_pos_left _ hc0p
      show 10000000000000000 ≤ c0 * (fm_b f * fm_b f) ^ 27
      omega⟩
    have hi27 : i ≤ 27 := by
      rcases Nat.lt_or_ge 27 i with h | h
      · exfalso
        have h5 := hi2 27 h
        have h2 : (2 * 2) ^ 27 ≤ (fm_b f * fm_b f) ^ 27 := Nat.pow_le_pow_left (Nat.mul_le_mul b2 b2) 27
        have h3 : ((2 : Nat) * 2) ^ 27 = 18014398509481984 := by decide
        have h4 : (fm_b f * fm_b f) ^ 27 ≤ c0 * (fm_b f * fm_b f) ^ 27 := Nat.le_mul_of_pos_left _ hc0p
        exact h5 (by omega)
      · exact h
    have hi0 : i ≠ 0 := by
      intro h
      rw [h, Nat.pow_zero] at hi1
      omega
    have hi3 : ∀ j, j < i → c0 * (fm_b f * fm_b f) ^ j < 10000000000000000 := by
      intro j hj
      have := hi2 j hj
      omega
    have hnU : c0 * (fm_b f * fm_b f) ^ i < 1000000000000000000 := by
      obtain ⟨i', rfl⟩ : ∃ i', i = i' + 1 := ⟨i - 1, by omega⟩
      have h5 := hi3 i' (by omega)
      have h6 : fm_b f * fm_b f ≤ 100 := by rcases hb with h | h <;> rw [h] <;> decide
      rw [Nat.pow_succ, ← Nat.mul_assoc]
      have h7 := Nat.mul_le_mul_left (c0 * (fm_b f * fm_b f) ^ i') h6
      omega
    have ej : c0 * (fm_b f * fm_b f) ^ i = C * fm_b f ^ (o + 2 * i) := by
      have e2 : fm_b f * fm_b f = fm_b f ^ 2 := by
        rw [Nat.pow_succ, Nat.pow_one]
      rw [hco.1, Nat.mul_assoc, e2, ← Nat.pow_mul, ← Nat.pow_add]
    obtain ⟨sy, hsy⟩ := rt_ex (c0 * (fm_b f * fm_b f) ^ i)
    have hsy31 : sy < 2147483648 := rt_lt' hsy (Nat.lt_of_lt_of_le hnU (by decide))
    have hpy : fm_b f ^ fm_p f ≤ sy := by
      refine rt_ge hsy (hpp _ (fun e => ?_) (fun e => ?_))
      · exact Nat.le_trans (by decide) hi1
      · exact Nat.le_trans (by decide) hi1
    obtain ⟨ey, hey⟩ : ∃ ey : Int, E - ((o + 2 * i : Nat) : Int) = 2 * ey := ⟨(E - ((o + 2 * i : Nat) : Int)) / 2, by omega⟩
    rw [ej] at hsy
    obtain ⟨fl, pt, ok, RX, RY⟩ := bt_root (m := m) (w := E / 2) hf hm (by omega) hpw hey hs hsy hps hpy hs31 hsy31 (by omega) (by omega) (by omega)
    refine ⟨fl, pt, ok, ?_, ?_⟩
    · intro f_raised f_trapped f_exact a_format a_bits a_kind a_minus a_coefficient a_exponent a_wide post d hd ef HD
      refine nm_r hsh (zz_leq C 0 (fun h => absurd h hz) (fun _ => ⟨vp_in_nI hd (by decide), ?_⟩))
      rw [nI_clamp (show d < 2 ^ 31 by omega), ef]
      refine xw_baseOf hf ?_
      refine xw_room hb q5 hn (by omega) ?_
      have h59 : wX_root_59 post (nI d) (nI (fm_b f)) (nI up) f_raised f_trapped (nI m) (nI 0) (lN C) (zz_I E) 0 (zz_I (E / 2)) f_exact a_format a_bits a_kind a_minus a_coefficient a_exponent a_wide := by
        rw [wX_root_59]
        refine xw_raise hb (by omega) ?_
        refine nm_r (lN_mul C (fm_b f ^ up)) ⟨31 + 1 + 1, ?_⟩
        have h142 : ∀ s' : Nat, rt_s (C * fm_b f ^ up) s' → ((s' * s' = C * fm_b f ^ up → wX_root_142 post (nI d) (nI up) 0 f_raised f_trapped (nI m) (nI 0) (lN s') (zz_I E) 0 (zz_I (E / 2)) f_exact a_format a_bits a_kind a_minus a_coefficient a_exponent a_wide) ∧ (¬ s' * s' = C * fm_b f ^ up → wX_root_142 post (nI d) (nI up) 1 f_raised f_trapped (nI m) (nI 0) (lN s') (zz_I E) 0 (zz_I (E / 2)) f_exact a_format a_bits a_kind a_minus a_coefficient a_exponent a_wide)) := by
          intro s' hs'
          have es := rt_uniq hs' hs
          subst es
          have epw : (zz_I E - nI up) >>> ((1 : Int32) &&& 31) = zz_I pw := by
            rw [zz_nI, zz_Isub, zz_shr1 (by unfold zz_R; omega)]
            congr 1
            omega
          refine ⟨fun h => ?_, fun h => ?_⟩
          · rw [if_pos h] at RX
            refine And.intro rfl ⟨rfl, nm_r epw ?_⟩
            exact RX _ _ _ _ _ _ _ _ _ _ _ d hd ef (fun u' h => HD u' h)
          · rw [if_neg h] at RX
            refine And.intro rfl ⟨rfl, nm_r epw ?_⟩
            exact RX _ _ _ _ _ _ _ _ _ _ _ d hd ef (fun u' h => HD u' h)
        have hl := xt_79 (post := post) (x1 := nI d) (x3 := nI up) (f_raised := f_raised) (f_trapped := f_trapped) (f_mode := nI m) (f_below := nI 0) (f_value := lN C) (f_power := zz_I E) (f_rest := 0) (f_wish := zz_I (E / 2)) (f_exact := f_exact) (a_format := a_format) (a_bits := a_bits) (a_kind := a_kind) (a_minus := a_minus) (a_coefficient := a_coefficient) (a_exponent := a_exponent) (a_wide := a_wide) hv61 h142 31 0 (by decide) (by omega) (by have e31 : (0 + 2 ^ 31) * (0 + 2 ^ 31) = 4611686018427387904 := (by decide); omega) (31 + 1) (by decide)
        rw [wX_root_79]
        refine br_f (by decide) (br_t ?_ (nm_r (e' := lN (rt_bit 31)) (by decide) hl))
        have e62 : ((0 : Int64) + 2147483648) * (0 + 2147483648) = lN 4611686018427387904 := by decide
        rw [e62, pk_lLT (by omega) (by decide)]
        omega
      have epar : ((zz_I E - nI (xr_w (fm_b f) - n)) &&& 1) = 0 ↔ (E - ((xr_w (fm_b f) - n : Nat) : Int)) % 2 = 0 := by
        rw [zz_nI, zz_Isub]
        exact zz_par (by unfold zz_R; omega)
      refine ek_if epar (fun h => ?_) (fun h => nm_r (e' := nI (xr_w (fm_b f) - n - 1)) ?_ ?_)
      · rw [if_pos h] at hup
        rw [hup] at h59
        exact h59
      · obtain ⟨q, hq⟩ : ∃ q, xr_w (fm_b f) - n = q + 1 := ⟨xr_w (fm_b f) - n - 1, by omega⟩
        rw [hq, pk_m1]
        rfl
      · rw [if_neg h] at hup
        rw [hup] at h59
        exact h59
    · intro f_raised f_trapped f_more f_made a_format a_pattern a_kind a_exponent a_coefficient a_minus a_row post S0 HO
      unfold wpY_root
      dsimp only
      refine yw_base hf ?_
      refine nm_r (e' := zz_I (E / 2)) (by rw [S0.2.2.2, hsh]) ?_
      refine yw_isZero (k := 0) (by decide) (by decide) q5 S0 ?_
      have ez : bo_Z 3 C = 0 := by
        unfold bo_Z
        rw [if_neg (fun h => hz h.2)]
      rw [ez]
      refine br_t rfl (br_t S0.2.1 (nm_r S0.2.2.2 (nm_r S0.2.2.1 ⟨by decide, ?_⟩)))
      have h83 : ∃ n83, wY_root_83 post (nI f) (nI (fm_b f)) (zz_I (E / 2)) (nI m) f_raised f_trapped f_more f_made a_format a_pattern a_kind a_exponent a_coefficient a_minus a_row n83 (zz_I (E - o)) (lN c0) := by
        refine ⟨i + 1, ?_⟩
        have hl := yt_83 (post := post) (f := f) (x3 := zz_I (E / 2)) (e0 := E - o) (f_attribute := nI m) (f_raised := f_raised) (f_trapped := f_trapped) (f_more := f_more) (f_made := f_made) (a_format := a_format) (a_pattern := a_pattern) (a_kind := a_kind) (a_exponent := a_exponent) (a_coefficient := a_coefficient) (a_minus := a_minus) (a_row := a_row) hb hi1 hi3 (by omega) (by omega) ?_ (by omega) i 0 (by omega) (i + 1) (by omega)
        · rw [Nat.pow_zero, Nat.mul_one] at hl
          have e0 : E - o - 2 * ((0 : Nat) : Int) = E - o := by omega
          rw [e0] at hl
          exact hl
        · refine ⟨(if fm_b f = 2 then 31 else 10) + 1, ?_⟩
          refine yt_126 (Tm := if fm_b f = 2 then 31 else 10) hb ?_ hnU ?_ (if fm_b f = 2 then 31 else 10) 0 (Nat.le_refl _) (by omega) ?_ _ (by omega)
          · rcases hb with h | h
            · rw [h]
              exact Or.inl ⟨rfl, by decide⟩
            · rw [h]
              exact Or.inr ⟨rfl, by decide⟩
          · intro s' hs'
            rw [ej] at hs'
            have es := rt_uniq hs' hsy
            subst es
            refine yw_clear ?_
            intro row1 hz1
            dsimp only
            refine ⟨by decide, ?_⟩
            have ediv : zz_I (E - o - 2 * i) / 2 = zz_I ey := by
              rw [zz_div2 (by unfold zz_R; omega)]
              have ht := zz_td (E - o - 2 * i)
              congr 1
              omega
            rw [ediv]
            have hP : fm_P (fm_b f) = 450 ∨ fm_P (fm_b f) = 230 := by
              rcases hb with h | h
              · left; rw [h]; rfl
              · right; rw [h]; rfl
            have h31 : (2 : Nat) ^ 31 ≤ fm_b f ^ 31 := Nat.pow_le_pow_left b2 31
            have h32 : (2 : Nat) ^ 31 = 2147483648 := by decide
            have hlayN : s' * fm_b f ^ (ey + fm_P (fm_b f)).toNat < fm_b f ^ 800 := by
              have h4 : s' * fm_b f ^ (ey + fm_P (fm_b f)).toNat < fm_b f ^ 31 * fm_b f ^ (ey + fm_P (fm_b f)).toNat := Nat.mul_lt_mul_of_pos_right (by omega) (Nat.pow_pos b0)
              rw [← Nat.pow_add] at h4
              exact Nat.lt_of_lt_of_le h4 (dg_pow_le b0 (by omega))
            refine yw_clay hb (by omega) (by omega) (by omega) hlayN hz1 ?_
            intro row2 hr2 _
            dsimp only
            rw [lN_mul, ej]
            have hss : s' * s' < 9223372036854775808 := by
              have := hs'.1
              rw [← ej] at this
              omega
            rw [ej] at hnU
            refine zz_leqU (fun h => ?_) (fun h => ?_)
            · rw [if_pos h] at RY
              refine And.intro rfl ⟨rfl, ?_⟩
              exact RY _ _ _ _ _ _ _ _ _ _ _ hr2 (fun u' h1 h2 => HO u' h1 h2)
            · rw [if_neg h] at RY
              refine And.intro rfl ⟨rfl, ?_⟩
              exact RY _ _ _ _ _ _ _ _ _ _ _ hr2 (fun u' h1 h2 => HO u' h1 h2)
          · rw [Nat.zero_add]
            rcases hb with h | h
            · rw [h, if_pos rfl]
              rw [h] at hnU
              exact Nat.lt_trans hnU (by decide)
            · rw [h, if_neg (by decide)]
              rw [h] at hnU
              exact Nat.lt_trans hnU (by decide)
      refine ek_if (zz_rem2 (by unfold zz_R; omega)) (fun h => ?_) (fun h => nm_r (e' := lN (C * fm_b f)) (by rw [nI_l bb, lN_mul]) (nm_r (zz_Id1 E) ?_))
      · rw [if_pos h] at ho hc0
        rw [ho, hc0] at h83
        have e0 : E - ((0 : Nat) : Int) = E := by omega
        rw [e0] at h83
        exact h83
      · rw [if_neg h] at ho hc0
        rw [ho, hc0] at h83
        exact h83
/-- the root of a number below 0 is refused -/
theorem yw_root_neg {f_raised : Int32} {f_trapped : Int32} {f_more : Int32} {f_made : Int32} {a_format : Nat → Int32} {a_pattern : Nat → Int32} {a_kind : Nat → Int32} {a_exponent : Nat → Int32} {a_coefficient : Nat → Int64} {a_minus : Nat → Int32} {a_row : Nat → Int32} {post : Int32 → SY → Prop} {f m M C : Nat} {E : Int} (hf : f < 4) (V : op_V (fm_b f) 3 M C E) (hC : ¬ C = 0) (hM : ¬ M = 0) (S0 : op_Sl a_kind a_minus a_coefficient a_exponent 0 3 M C E) (H : post 1 (nI m, f_raised, f_trapped, f_more, f_made, a_format, a_pattern, a_kind, a_exponent, a_coefficient, a_minus, a_row)) : wpY_root post (nI m, f_raised, f_trapped, f_more, f_made, a_format, a_pattern, a_kind, a_exponent, a_coefficient, a_minus, a_row) (nI f) := by
  obtain ⟨hK, hM2, v⟩ := id V
  obtain ⟨hb, q1, q2, q3, q4, q5⟩ := sm_Vb (op_Vs V)
  unfold wpY_root
  dsimp only
  refine yw_base hf ?_
  refine nm_e ?_
  refine yw_isZero (k := 0) (by decide) (by decide) q5 S0 ?_
  have ez : bo_Z 3 C = 0 := by
    unfold bo_Z
    rw [if_neg (fun h => hC h.2)]
  rw [ez]
  refine br_t rfl (br_f ?_ H)
  rw [S0.2.1]
  exact fun h => hM ((nI_eq (by omega) (by decide)).mp h)
end
section
/-! numbers of many words -/
def wd_W (w : Nat → Int32) (N : Nat) : Prop := ∀ k, k < 14 → w k = nI (N / 4294967296 ^ k % 4294967296)
theorem wd_mod (x : Nat) : nI x = nI (x % 4294967296) := by
  apply Int32.toBitVec_inj.mp
  apply BitVec.eq_of_toNat_eq
  show (BitVec.ofNat 32 x).toNat = (BitVec.ofNat 32 (x % 4294967296)).toNat
  rw [BitVec.toNat_ofNat, BitVec.toNat_ofNat]
  have e : (2 : Nat) ^ 32 = 4294967296 := by decide
  rw [e, Nat.mod_mod]
theorem wd_z {d : Nat} (h : d < 4294967296) : nI d = 0 ↔ d = 0 := by
  constructor
  · intro e
    have h1 := pk_tn (n := d) (by omega)
    rw [e] at h1
    have h2 : (0 : Int32).toBitVec.toNat = 0 := by decide
    omega
  · intro e
    rw [e]
    rfl
theorem wd_uN {n : Nat} (h : n < 18446744073709551616) : uN (lN n) = n := by
  have := wb_tn (n := n) (by omega)
  exact this
theorem wd_and {d : Nat} (h : d < 4294967296) : (nI d).toInt64 &&& 4294967295 = lN d := by
  apply uN_inj
  rw [uN_lo, wd_uN (by omega)]
  have h1 := uN_int (nI d).toInt64
  rw [Int32.toInt_toInt64] at h1
  have e : (nI d).toInt = if 2 * op_n (nI d) < 4294967296 then (op_n (nI d) : Int) else (op_n (nI d) : Int) - 4294967296 := BitVec.toInt_eq_toNat_cond (nI d).toBitVec
  have e2 : op_n (nI d) = d := pk_tn (by omega)
  rw [e2] at e
  rw [e] at h1
  have h3 := uN_lt (nI d).toInt64
  generalize uN (nI d).toInt64 = U at *
  split at h1 <;> split at h1 <;> omega
section
variable {f_raised : Int32} {f_trapped : Int32} {f_mode : Int32} {f_below : Int32} {f_value : Int64} {f_power : Int32} {f_rest : Int32} {f_wish : Int32} {f_exact : Int32} {a_format : Nat → Int32} {a_bits : Nat → Int32} {a_kind : Nat → Int32} {a_minus : Nat → Int32} {a_coefficient : Nat → Int64} {a_exponent : Nat → Int32} {a_wide : Nat → Int32} {post : SX → Prop}
theorem wd_spread_lp {C : Nat} (hv : f_value = lN C) (hC : C < 4294967296) (H : ∀ w : Nat → Int32, wd_W w C → post (f_raised, f_trapped, f_mode, f_below, f_value, f_power, f_rest, f_wish, f_exact, a_format, a_bits, a_kind, a_minus, a_coefficient, a_exponent, w)) : ∀ m k : Nat, k + m = 14 → ∀ n, m < n → ∀ w : Nat → Int32, (∀ j, j < k → w j = 0) → wX_spread_2 post f_raised f_trapped f_mode f_below f_value f_power f_rest f_wish f_exact n (nI k) a_format a_bits a_kind a_minus a_coefficient a_exponent w := by
  intro m
  induction m with
  | zero =>
    intro k hk n hn w hw
    obtain ⟨n, rfl⟩ := yr_fuel hn
    have e : k = 14 := by omega
    subst e
    refine br_t (by decide) (nm_e (H _ ?_))
    intro j hj
    rw [hv, lN_i]
    by_cases h : j = 0
    · subst h
      rw [pk_us, Nat.pow_zero, Nat.div_one, Nat.mod_eq_of_lt hC]
    · rw [pk_un h, hw j hj]
      have h1 : C < 4294967296 ^ j := Nat.lt_of_lt_of_le hC (by
        have := dg_pow_le (b := 4294967296) (by decide) (show 1 ≤ j by omega)
        rw [Nat.pow_one] at this
        exact this)
      rw [Nat.div_eq_of_lt h1, Nat.zero_mod]
      rfl
  | succ m ih =>
    intro k hk n hn w hw
    obtain ⟨n, rfl⟩ := yr_fuel hn
    refine br_f (nI_ge (b := 14) (by omega) (by decide)) ⟨vp_in_nI (by omega) (by decide), nm_e (nm_r (nI_1 k) (ih (k + 1) (by omega) n (by omega) _ ?_))⟩
    intro j hj
    rw [nI_clamp (by omega)]
    by_cases h : j = k
    · subst h
      exact pk_us
    · rw [pk_un h]
      exact hw j (by omega)
theorem wd_spread {C : Nat} (hv : f_value = lN C) (hC : C < 4294967296) (H : ∀ w : Nat → Int32, wd_W w C → post (f_raised, f_trapped, f_mode, f_below, f_value, f_power, f_rest, f_wish, f_exact, a_format, a_bits, a_kind, a_minus, a_coefficient, a_exponent, w)) : wpX_spread post (f_raised, f_trapped, f_mode, f_below, f_value, f_power, f_rest, f_wish, f_exact, a_format, a_bits, a_kind, a_minus, a_coefficient, a_exponent, a_wide) :=
  ⟨15, wd_spread_lp hv hC H 14 0 (by omega) 15 (by omega) a_wide (fun j hj => absurd hj (by omega))⟩
theorem wd_grow_lp {N y : Nat} (hy0 : 0 < y) (hy : y ≤ 10) (H : ∀ w : Nat → Int32, wd_W w (N * y) → post (f_raised, f_trapped, f_mode, f_below, f_value, f_power, f_rest, f_wish, f_exact, a_format, a_bits, a_kind, a_minus, a_coefficient, a_exponent, w)) : ∀ m k : Nat, k + m = 14 → ∀ n, m < n → ∀ w : Nat → Int32, (∀ j, j < 14 → w j = nI (if j < k then N * y / 4294967296 ^ j % 4294967296 else N / 4294967296 ^ j % 4294967296)) → wX_grow_5 post (nI y) f_raised f_trapped f_mode f_below f_value f_power f_rest f_wish f_exact n (lN (dg_my 4294967296 N y k)) (nI k) a_format a_bits a_kind a_minus a_coefficient a_exponent w := by
  have b0 : 0 < 4294967296 := by decide
  intro m
  induction m with
  | zero =>
    intro k hk n hn w hw
    obtain ⟨n, rfl⟩ := yr_fuel hn
    have e : k = 14 := by omega
    subst e
    refine br_t (by decide) (H w ?_)
    intro j hj
    rw [hw j hj, if_pos hj]
  | succ m ih =>
    intro k hk n hn w hw
    obtain ⟨n, rfl⟩ := yr_fuel hn
    have hin : vp_in (nI k) 14 := vp_in_nI (by omega) (by decide)
    have hck : (nI k).toNatClampNeg = k := nI_clamp (by omega)
    have l1 : N / 4294967296 ^ k % 4294967296 < 4294967296 := Nat.mod_lt _ b0
    have l3 := dg_my_lt b0 hy0 N k
    have l4 : N / 4294967296 ^ k % 4294967296 * y ≤ 4294967296 * 10 := Nat.mul_le_mul (by omega) hy
    have eq0 : w k = nI (N / 4294967296 ^ k % 4294967296) := by rw [hw k (by omega), if_neg (by omega)]
    refine br_f (nI_ge (b := 14) (by omega) (by decide)) ⟨hin, nm_r (e' := lN (N / 4294967296 ^ k % 4294967296 * y + dg_my 4294967296 N y k)) ?_ ⟨hin, nm_e (nm_r (e' := lN (dg_my 4294967296 N y (k + 1))) ?_ (nm_r (nI_1 k) ?_))⟩⟩
    · rw [hck, eq0, wd_and l1, nI_l (by omega), lN_mul, lN_add]
    · have := wb_shr (n := N / 4294967296 ^ k % 4294967296 * y + dg_my 4294967296 N y k) (k := 32) (by omega) (by decide)
      have e32 : (2 : Nat) ^ 32 = 4294967296 := by decide
      rw [e32, dg_mul_div b0] at this
      exact this
    · refine ih (k + 1) (by omega) n (by omega) _ ?_
      intro j hj
      rw [hck, lN_i, wd_mod, dg_mul_mod b0]
      by_cases h : j = k
      · subst h
        rw [pk_us, if_pos (by omega)]
      · rw [pk_un h, hw j hj]
        congr 1
        by_cases h3 : j < k
        · rw [if_pos h3, if_pos (by omega)]
        · rw [if_neg h3, if_neg (by omega)]
theorem wd_grow {N y : Nat} (hy0 : 0 < y) (hy : y ≤ 10) (hw : wd_W a_wide N) (H : ∀ w : Nat → Int32, wd_W w (N * y) → post (f_raised, f_trapped, f_mode, f_below, f_value, f_power, f_rest, f_wish, f_exact, a_format, a_bits, a_kind, a_minus, a_coefficient, a_exponent, w)) : wpX_grow post (f_raised, f_trapped, f_mode, f_below, f_value, f_power, f_rest, f_wish, f_exact, a_format, a_bits, a_kind, a_minus, a_coefficient, a_exponent, a_wide) (nI y) := by
  refine ⟨15, ?_⟩
  have h := wd_grow_lp (N := N) hy0 hy H 14 0 (by omega) 15 (by omega) a_wide (fun j hj => by rw [hw j hj, if_neg (by omega)])
  rw [dg_my0] at h
  exact h
theorem wd_shrink_lp {N y r : Nat} (hr : r < 2) (hy0 : 0 < y) (hy : y ≤ 10) (H : ∀ (w : Nat → Int32) (r' : Nat), r' < 2 → (r' = 0 ↔ r = 0 ∧ N % y = 0) → wd_W w (N / y) → post (f_raised, f_trapped, f_mode, f_below, f_value, f_power, nI r', f_wish, f_exact, a_format, a_bits, a_kind, a_minus, a_coefficient, a_exponent, w)) : ∀ k : Nat, k ≤ 14 → ∀ n, k < n → ∀ w : Nat → Int32, (∀ j, j < 14 → w j = nI (if j < k then N / 4294967296 ^ j % 4294967296 else N / y / 4294967296 ^ j % 4294967296)) → wX_shrink_6 post (nI y) f_raised f_trapped f_mode f_below f_value f_power (nI r) f_wish f_exact n (lN (N / 4294967296 ^ k % y)) (zz_I ((k : Int) - 1)) a_format a_bits a_kind a_minus a_coefficient a_exponent w := by
  have b0 : 0 < 4294967296 := by decide
  have ny : ¬ (nI y).toInt64 = 0 := by
    rw [nI_l (by omega), show (0 : Int64) = lN 0 from rfl, pk_lEQ (by omega) (by decide)]
    omega
  intro k
  induction k with
  | zero =>
    intro hk n hn w hw
    obtain ⟨n, rfl⟩ := yr_fuel hn
    refine br_t yr_d0 ?_
    have hR : wd_W w (N / y) := by
      intro j hj
      rw [hw j hj, if_neg (by omega)]
    have er : N / 4294967296 ^ 0 % y = N % y := by rw [Nat.pow_zero, Nat.div_one]
    have hlt : N % y < y := Nat.mod_lt _ hy0
    rw [er]
    refine zz_leq (N % y) 0 (fun hz => ?_) (fun hz => ?_)
    · exact H w r hr ⟨fun h => ⟨h, hz⟩, fun h => h.1⟩ hR
    · exact H w 1 (by decide) ⟨fun h => absurd h (by decide), fun h => absurd h.2 hz⟩ hR
  | succ k ih =>
    intro hk n hn w hw
    obtain ⟨n, rfl⟩ := yr_fuel hn
    rw [yr_dm]
    have hin : vp_in (nI k) 14 := vp_in_nI (by omega) (by decide)
    have hck : (nI k).toNatClampNeg = k := nI_clamp (by omega)
    have l1 : N / 4294967296 ^ k % 4294967296 < 4294967296 := Nat.mod_lt _ b0
    have l2 : N / 4294967296 ^ (k + 1) % y < y := Nat.mod_lt _ hy0
    have l4 : N / 4294967296 ^ (k + 1) % y * 4294967296 ≤ 10 * 4294967296 := Nat.mul_le_mul (by omega) (Nat.le_refl _)
    have eq0 : w k = nI (N / 4294967296 ^ k % 4294967296) := by rw [hw k (by omega), if_pos (by omega)]
    obtain ⟨s1, s2⟩ := dg_over_step b0 hy0 N k
    refine br_f (nI_pos (by omega)) ⟨hin, nm_r (e' := lN (N / 4294967296 ^ (k + 1) % y * 4294967296 + N / 4294967296 ^ k % 4294967296)) ?_ ⟨ny, hin, nm_e ⟨ny, nm_r (e' := lN (N / 4294967296 ^ k % y)) ?_ (nm_r (yr_dm1 k) ?_)⟩⟩⟩
    · have e1 : lN (N / 4294967296 ^ (k + 1) % y) <<< ((32 : Int32).toInt64 &&& 63) = lN (N / 4294967296 ^ (k + 1) % y * 4294967296) := wb_shl (N / 4294967296 ^ (k + 1) % y) (k := 32) (by decide)
      rw [hck, eq0, wd_and l1, e1]
      exact g_or (k := 32) (by decide) l1 (by omega)
    · rw [nI_l (by omega), pk_lRem (by omega) hy0 (by omega), s2]
    · refine ih (by omega) n (by omega) _ ?_
      intro j hj
      rw [hck, nI_l (by omega), pk_lDiv (by omega) hy0 (by omega), s1, lN_i]
      by_cases h : j = k
      · subst h
        rw [pk_us, if_neg (by omega)]
      · rw [pk_un h, hw j hj]
        congr 1
        by_cases h3 : j < k
        · rw [if_pos h3, if_pos (by omega)]
        · rw [if_neg h3, if_neg (by omega)]
theorem wd_shrink {N y r : Nat} (hr : r < 2) (hy0 : 0 < y) (hy : y ≤ 10) (hN : N < 4294967296 ^ 14) (hw : wd_W a_wide N) (H : ∀ (w : Nat → Int32) (r' : Nat), r' < 2 → (r' = 0 ↔ r = 0 ∧ N % y = 0) → wd_W w (N / y) → post (f_raised, f_trapped, f_mode, f_below, f_value, f_power, nI r', f_wish, f_exact, a_format, a_bits, a_kind, a_minus, a_coefficient, a_exponent, w)) : wpX_shrink post (f_raised, f_trapped, f_mode, f_below, f_value, f_power, nI r, f_wish, f_exact, a_format, a_bits, a_kind, a_minus, a_coefficient, a_exponent, a_wide) (nI y) := by
  refine ⟨15, ?_⟩
  have h := wd_shrink_lp (N := N) hr hy0 hy H 14 (by omega) 15 (by omega) a_wide (fun j hj => by rw [hw j hj, if_pos (by omega)])
  rw [Nat.div_eq_of_lt hN, Nat.zero_mod] at h
  exact h
theorem wd_gather {N : Nat} (hN : N < 576460752303423488) (hw : wd_W a_wide N) (H : post (f_raised, f_trapped, f_mode, f_below, lN N, f_power, f_rest, f_wish, f_exact, a_format, a_bits, a_kind, a_minus, a_coefficient, a_exponent, a_wide)) : wpX_gather post (f_raised, f_trapped, f_mode, f_below, f_value, f_power, f_rest, f_wish, f_exact, a_format, a_bits, a_kind, a_minus, a_coefficient, a_exponent, a_wide) := by
  have h0 := hw 0 (by decide)
  have h1 := hw 1 (by decide)
  rw [Nat.pow_zero, Nat.div_one] at h0
  rw [Nat.pow_one] at h1
  refine nm_r (e' := lN N) ?_ H
  have l1 : N / 4294967296 % 4294967296 < 4294967296 := Nat.mod_lt _ (by decide)
  have l0 : N % 4294967296 < 4294967296 := Nat.mod_lt _ (by decide)
  have e1 : lN (N / 4294967296 % 4294967296) <<< ((32 : Int32).toInt64 &&& 63) = lN (N / 4294967296 % 4294967296 * 4294967296) := wb_shl (N / 4294967296 % 4294967296) (k := 32) (by decide)
  rw [h0, h1, wd_and l1, wd_and l0, e1, g_or (k := 32) (by decide) l0 (by omega)]
  congr 1
  omega
end
theorem wd_small {N : Nat} (hN : N < 4294967296 ^ 14) (h : ∀ k, 2 ≤ k → k < 14 → N / 4294967296 ^ k % 4294967296 = 0) : N < 4294967296 ^ 2 := by
  have key : ∀ j : Nat, j ≤ 12 → N < 4294967296 ^ (14 - j) := by
    intro j
    induction j with
    | zero => intro _; exact hN
    | succ j ih =>
      intro hj
      have h1 := ih (by omega)
      have e : 14 - j = 14 - (j + 1) + 1 := by omega
      rw [e] at h1
      have h2 : N / 4294967296 ^ (14 - (j + 1)) < 4294967296 := by
        rw [Nat.div_lt_iff_lt_mul (Nat.pow_pos (by decide)), Nat.mul_comm, ← Nat.pow_succ]
        exact h1
      have h3 := h (14 - (j + 1)) (by omega) (by omega)
      rw [Nat.mod_eq_of_lt h2] at h3
      exact dg_lt_of_div (by decide) h3
  exact key 12 (by decide)
theorem wd_long_lp {f_raised : Int32} {f_trapped : Int32} {f_mode : Int32} {f_below : Int32} {f_value : Int64} {f_power : Int32} {f_rest : Int32} {f_wish : Int32} {f_exact : Int32} {a_format : Nat → Int32} {a_bits : Nat → Int32} {a_kind : Nat → Int32} {a_minus : Nat → Int32} {a_coefficient : Nat → Int64} {a_exponent : Nat → Int32} {a_wide : Nat → Int32} {post : Int32 → Prop} {N : Nat} (hN : N < 4294967296 ^ 14) (hw : wd_W a_wide N) (H1 : 576460752303423488 ≤ N → post 1) (H0 : N < 576460752303423488 → post 0) : ∀ m k : Nat, k + m = 14 → 2 ≤ k → (∀ j, 2 ≤ j → j < k → N / 4294967296 ^ j % 4294967296 = 0) → ∀ n, m < n → wX_isLong_2 post f_raised f_trapped f_mode f_below f_value f_power f_rest f_wish f_exact a_format a_bits a_kind a_minus a_coefficient a_exponent a_wide n (nI k) := by
  intro m
  induction m with
  | zero =>
    intro k hk h2 hz n hn
    obtain ⟨n, rfl⟩ := yr_fuel hn
    have e : k = 14 := by omega
    subst e
    have hs := wd_small hN (fun j h1 h3 => hz j h1 h3)
    have h1 := hw 1 (by decide)
    rw [Nat.pow_one] at h1
    have l1 : N / 4294967296 % 4294967296 < 4294967296 := Nat.mod_lt _ (by decide)
    have e2 : (4294967296 : Nat) ^ 2 = 18446744073709551616 := by decide
    rw [e2] at hs
    refine br_t (by decide) ?_
    rw [h1, wd_and l1]
    exact zz_llt (N / 4294967296 % 4294967296) 134217728 (fun h => H0 (by omega)) (fun h => H1 (by omega))
  | succ m ih =>
    intro k hk h2 hz n hn
    obtain ⟨n, rfl⟩ := yr_fuel hn
    have l1 : N / 4294967296 ^ k % 4294967296 < 4294967296 := Nat.mod_lt _ (by decide)
    have eq0 := hw k (by omega)
    refine br_f (nI_ge (b := 14) (by omega) (by decide)) ⟨vp_in_nI (by omega) (by decide), ?_⟩
    rw [nI_clamp (show k < 2 ^ 31 by omega), eq0]
    refine ek_if (wd_z l1) (fun h => nm_r (nI_1 k) (ih (k + 1) (by omega) (by omega) (fun j h3 h4 => ?_) n (by omega))) (fun h => H1 ?_)
    · rcases (show j < k ∨ j = k by omega) with h5 | h5
      · exact hz j h3 h5
      · rw [h5]
        exact h
    · have h5 : 4294967296 ^ k ≤ N := by
        rcases Nat.lt_or_ge N (4294967296 ^ k) with h6 | h6
        · exact absurd (by rw [Nat.div_eq_of_lt h6]) h
        · exact h6
      have h7 := dg_pow_le (b := 4294967296) (by decide) h2
      have e2 : (4294967296 : Nat) ^ 2 = 18446744073709551616 := by decide
      omega
theorem wd_isLong {f_raised : Int32} {f_trapped : Int32} {f_mode : Int32} {f_below : Int32} {f_value : Int64} {f_power : Int32} {f_rest : Int32} {f_wish : Int32} {f_exact : Int32} {a_format : Nat → Int32} {a_bits : Nat → Int32} {a_kind : Nat → Int32} {a_minus : Nat → Int32} {a_coefficient : Nat → Int64} {a_exponent : Nat → Int32} {a_wide : Nat → Int32} {post : Int32 → Prop} {N : Nat} (hN : N < 4294967296 ^ 14) (hw : wd_W a_wide N) (H1 : 576460752303423488 ≤ N → post 1) (H0 : N < 576460752303423488 → post 0) : wpX_isLong post (f_raised, f_trapped, f_mode, f_below, f_value, f_power, f_rest, f_wish, f_exact, a_format, a_bits, a_kind, a_minus, a_coefficient, a_exponent, a_wide) :=
  ⟨13, wd_long_lp hN hw H1 H0 12 2 (by omega) (by omega) (fun j h1 h2 => absurd h1 (by omega)) 13 (by omega)⟩
end
section
/-! two wishes: to the base two they do not count -/
theorem rn_pat_w {f m s A D U : Nat} {t w w' : Int} (h : w = w' ∨ fm_b f = 2) : rn_pat f m s A D U t w = rn_pat f m s A D U t w' := by
  rcases h with h | h
  · rw [h]
  · unfold rn_pat rn_px rn_k
    rw [if_neg (show ¬ fm_b f = 10 by omega), if_neg (show ¬ fm_b f = 10 by omega)]
theorem rn_zq_w {f : Nat} {w w' : Int} (h : w = w' ∨ fm_b f = 2) : rn_zq f w = rn_zq f w' := by
  rcases h with h | h
  · rw [h]
  · unfold rn_zq
    rw [if_pos h, if_pos h]
theorem bt_zero2 {f m s : Nat} {w w' : Int} (hf : f < 4) (hs : s < 2) (hw : -100000 < w ∧ w < 100000) (hw' : -100000 < w' ∧ w' < 100000) (hww : w = w' ∨ fm_b f = 2) : ∃ pt : Int32, bt_ok f 0 pt ∧ (∀ pw, bt_XR f m s 0 0 pw w 0 pt) ∧ bt_YR f m s 0 0 w' 0 pt := by
  refine ⟨pa_P f s 0 (rn_zq f w), Or.inr (by decide), ?_, ?_⟩
  · intro pw
    intro f_raised f_trapped f_exact a_format a_bits a_kind a_minus a_coefficient a_exponent a_wide post d hd ef H
    exact xw_round_0 hd hf hs hw ef H
  · intro f_raised f_trapped f_made a_format a_pattern a_kind a_exponent a_coefficient a_minus a_row post hr H
    refine yw_round_0 hf hs hr hw' ?_
    rw [← rn_zq_w hww]
    exact H _ ⟨rfl, rfl, rfl, rfl, rfl⟩ (Or.inr rfl)
theorem bt_round2 {f m s A D U v r N mo : Nat} {pw u w w' : Int} (hf : f < 4) (hm : m < 5) (hs : s < 2) (hw : -100000 < w ∧ w < 100000) (hw' : -100000 < w' ∧ w' < 100000) (hww : w = w' ∨ fm_b f = 2) (hD : 0 < D) (hPU : fm_P (fm_b f) ≤ U) (hr2 : r < 2) (hU : 0 ≤ pw + U) (hv : v = A / rn_M D (fm_b f) U pw) (hr : r = 0 ↔ A % rn_M D (fm_b f) U pw = 0) (hbd : v < xr_bd (fm_b f)) (hv0 : 0 < v) (hx : r = 0 ∨ fm_b f ^ fm_p f ≤ v) (hpw : -79000 < pw ∧ pw < 79000) (hN : N < fm_b f ^ 800) (hY : yr_Y A D (fm_b f) U N mo u) (hy : fm_b f ^ fm_p f ≤ A / rn_M D (fm_b f) U u) : ∃ fl pt : Int32, bt_ok f fl pt ∧ bt_XR f m s v r pw w fl pt ∧ bt_YR f m s N mo w' fl pt := by
  have hff := fm_facts hf
  have hb := fm_b2 f
  obtain ⟨b0, b2, b10, bb⟩ := yr_b hb
  have hbd' : xr_bd (fm_b f) < 9223372036854775808 := by rcases hb with h | h <;> rw [h] <;> decide
  obtain ⟨n, hn, hnv⟩ := dg_ex (b := fm_b f) b2 v
  have hn0 : n ≠ 0 := fun e => by
    have := (dg_n0 b0 hn).mpr e
    omega
  have hn63 : n ≤ 63 := dg_n_le b2 hn (Nat.lt_of_lt_of_le (show v < 2 ^ 63 by omega) (Nat.pow_le_pow_left b2 63))
  have h1 : fm_b f ^ (n - 1) ≤ v := by
    rcases hn.2 with h2 | h2
    · exact absurd h2 hn0
    · exact h2
  have h2 : v < fm_b f ^ (n - 1 + 1) := by
    rw [show n - 1 + 1 = n by omega]
    exact hn.1
  have hT := rn_T_of hD b0 hU hv h1 h2
  have hu := bt_lt hD b0 hY.2.2.1 hT hy
  have hPl : (fm_l f : Int) + fm_P (fm_b f) ≥ 0 := by
    rcases hb with h | h
    · rw [h]
      have : fm_P 2 = 450 := rfl
      omega
    · rw [h]
      have : fm_P 10 = 230 := rfl
      omega
  have hUY := hY.2.2.1
  have hq : r = 0 ∨ pw < pw + ((n - 1 : Nat) : Int) + 1 - (fm_p f : Int) := by
    rcases hx with h | h
    · exact Or.inl h
    · have := dg_n_ge b2 hn h
      right
      omega
  refine ⟨nI (rn_fl f m s A D U (pw + ((n - 1 : Nat) : Int))), rn_pat f m s A D U (pw + ((n - 1 : Nat) : Int)) w, Or.inr (bt_fl ..), ?_, ?_⟩
  · intro f_raised f_trapped f_exact a_format a_bits a_kind a_minus a_coefficient a_exponent a_wide post d hd ef H
    refine xw_round hd hf hm hs hr2 (Or.inl rfl) ef hD hU (by omega) (by omega) hT hv hr hbd hv0 hq (by omega) (by omega) hw ?_
    have e : nI 0 ||| nI (rn_fl f m s A D U (pw + ((n - 1 : Nat) : Int))) = nI (rn_fl f m s A D U (pw + ((n - 1 : Nat) : Int))) := by
      rw [op_or, Nat.zero_or]
    rw [e]
    exact H
  · intro f_raised f_trapped f_made a_format a_pattern a_kind a_exponent a_coefficient a_minus a_row post hr H
    refine yw_round hf hD hm hs hr hN hY hT hu hw' ?_
    rw [← rn_pat_w hww]
    exact H _ ⟨rfl, rfl, rfl, rfl, rfl⟩ (Or.inr rfl)
theorem bt_sum2 {f m s A v r : Nat} {pw w w' : Int} (hf : f < 4) (hm : m < 5) (hs : s < 2) (hw : -100000 < w ∧ w < 100000) (hw' : -100000 < w' ∧ w' < 100000) (hww : w = w' ∨ fm_b f = 2) (F : sm_F (fm_b f) A v r pw) (hA : A < fm_b f ^ 800) : ∃ fl pt : Int32, bt_ok f fl pt ∧ bt_XR f m s v r pw w fl pt ∧ bt_YR f m s A 0 w' fl pt := by
  have hff := fm_facts hf
  have hb := fm_b2 f
  obtain ⟨b0, b2, b10, bb⟩ := yr_b hb
  obtain ⟨f1, f2, f3, f4, f5, f6, f7, f8⟩ := F
  have hM : 0 < fm_b f ^ (pw + fm_P (fm_b f)).toNat := Nat.pow_pos b0
  by_cases hA0 : A = 0
  · subst hA0
    rw [Nat.zero_div] at f5
    rw [Nat.zero_mod] at f6
    have e1 : r = 0 := f6.mpr rfl
    subst f5 e1
    obtain ⟨pt, h1, h2, h3⟩ := bt_zero2 (m := m) hf hs hw hw' hww
    exact ⟨0, pt, h1, h2 pw, h3⟩
  · have hv0 : 0 < v := by
      rcases Nat.eq_zero_or_pos v with h | h
      · exfalso
        have e := Nat.div_add_mod A (fm_b f ^ (pw + fm_P (fm_b f)).toNat)
        rw [← f5, h, Nat.mul_zero, Nat.zero_add] at e
        rcases f8 with h8 | h8 | h8
        · have := f6.mp h8
          omega
        · have : 0 < 2 ^ 24 := by decide
          omega
        · have : 0 < 10 ^ 7 := by decide
          omega
      · exact h
    have hp24 : fm_p f ≤ 24 := by omega
    refine bt_round2 (A := A) (D := 1) (U := fm_P (fm_b f)) (u := -(fm_P (fm_b f) : Int)) hf hm hs hw hw' hww (by decide) (Nat.le_refl _) f1 (by omega) ?_ ?_ f7 hv0 ?_ (by omega) hA (yr_Yx (by omega)) ?_
    · rw [rn_M1]
      exact f5
    · rw [rn_M1]
      exact f6
    · rcases f8 with h8 | ⟨h8, h9⟩ | ⟨h8, h9⟩
      · exact Or.inl h8
      · right
        rw [h8]
        exact Nat.le_trans (dg_pow_le (by decide) hp24) h9
      · right
        rw [h8]
        exact Nat.le_trans (dg_pow_le (by decide) (by omega)) h9
    · rw [rn_M10, Nat.div_one]
      have h1 : fm_b f ^ fm_p f ≤ fm_b f ^ (pw + fm_P (fm_b f)).toNat := dg_pow_le b0 (by omega)
      have h2 : fm_b f ^ (pw + fm_P (fm_b f)).toNat ≤ A := by
        rcases Nat.lt_or_ge A (fm_b f ^ (pw + fm_P (fm_b f)).toNat) with h | h
        · rw [Nat.div_eq_of_lt h] at f5
          omega
        · exact h
      exact Nat.le_trans h1 h2
end
section
/-! the component's many words: to the other base -/
theorem wd_modS {N y i r0 r r' : Nat} (hr : r = 0 ↔ r0 = 0 ∧ N % y ^ i = 0) (hr' : r' = 0 ↔ r = 0 ∧ N / y ^ i % y = 0) (hy : 0 < y) : r' = 0 ↔ r0 = 0 ∧ N % y ^ (i + 1) = 0 := by
  rw [hr', hr, dg_modS]
  have hp : 0 < y ^ i := Nat.pow_pos hy
  constructor
  · rintro ⟨⟨h1, h2⟩, h3⟩
    rw [h2, h3, Nat.mul_zero]
    exact ⟨h1, rfl⟩
  · rintro ⟨h1, h2⟩
    obtain ⟨h2a, h3⟩ := Nat.add_eq_zero_iff.mp h2
    rcases Nat.mul_eq_zero.mp h3 with h4 | h4
    · omega
    · exact ⟨⟨h1, h2a⟩, h4⟩
theorem wd_divS (N y i : Nat) : N / y ^ i / y = N / y ^ (i + 1) := by rw [Nat.div_div_eq_div_mul, Nat.pow_succ]
theorem wd_lt {N y i : Nat} (h : N < 4294967296 ^ 14) : N / y ^ i < 4294967296 ^ 14 := Nat.lt_of_le_of_lt (Nat.div_le_self _ _) h
section
variable {f_raised : Int32} {f_trapped : Int32} {f_mode : Int32} {f_below : Int32} {f_value : Int64} {f_wish : Int32} {f_exact : Int32} {a_format : Nat → Int32} {a_bits : Nat → Int32} {a_kind : Nat → Int32} {a_minus : Nat → Int32} {a_coefficient : Nat → Int64} {a_exponent : Nat → Int32} {post : SX → Prop}
theorem wd_LP_b {N0 r0 j : Nat} {pw0 : Int} (hN : N0 < 4294967296 ^ 14) (hj : N0 / 2 ^ j < 576460752303423488) (hj2 : ∀ i, i < j → 576460752303423488 ≤ N0 / 2 ^ i) (H : ∀ (w : Nat → Int32) (r : Nat), r < 2 → (r = 0 ↔ r0 = 0 ∧ N0 % 2 ^ j = 0) → post (f_raised, f_trapped, f_mode, f_below, lN (N0 / 2 ^ j), zz_I (pw0 + j), nI r, f_wish, f_exact, a_format, a_bits, a_kind, a_minus, a_coefficient, a_exponent, w)) : ∀ m i : Nat, i + m = j → ∀ n, m < n → ∀ (w : Nat → Int32) (r : Nat), r < 2 → (r = 0 ↔ r0 = 0 ∧ N0 % 2 ^ i = 0) → wd_W w (N0 / 2 ^ i) → wX_toBinary_83 post n (nI (if i < j then 1 else 0)) f_raised f_trapped f_mode f_below f_value (zz_I (pw0 + i)) (nI r) f_wish f_exact a_format a_bits a_kind a_minus a_coefficient a_exponent w := by
  intro m
  induction m with
  | zero =>
    intro i hi n hn w r hr hr0 hw
    obtain ⟨n, rfl⟩ := yr_fuel hn
    have e : i = j := by omega
    subst e
    rw [if_neg (by omega)]
    refine br_t rfl ?_
    exact wd_gather hj hw (H w r hr hr0)
  | succ m ih =>
    intro i hi n hn w r hr hr0 hw
    obtain ⟨n, rfl⟩ := yr_fuel hn
    rw [if_pos (by omega)]
    refine br_f (by decide) ?_
    refine wd_shrink (y := 2) hr (by decide) (by decide) (wd_lt hN) hw ?_
    intro w' r' hr' hr0' hw'
    dsimp only
    refine nm_r (e' := zz_I (pw0 + ((i + 1 : Nat) : Int))) (by rw [zz_Ip1]; congr 1; omega) ?_
    rw [wd_divS] at hw'
    have hnext := ih (i + 1) (by omega) n (by omega) w' r' hr' (wd_modS hr0 hr0' (by decide)) hw'
    refine wd_isLong (wd_lt hN) hw' (fun h => ?_) (fun h => ?_)
    · have hlt : i + 1 < j := by
        rcases Nat.lt_or_ge (i + 1) j with h2 | h2
        · exact h2
        · have e : i + 1 = j := by omega
          rw [e] at h
          omega
      rw [if_pos hlt] at hnext
      exact hnext
    · have hlt : ¬ i + 1 < j := by
        intro h2
        have := hj2 (i + 1) h2
        omega
      rw [if_neg hlt] at hnext
      exact hnext
theorem wd_J_b {N0 r0 j : Nat} {pw0 : Int} (hN : N0 < 4294967296 ^ 14) (hj : N0 / 2 ^ j < 576460752303423488) (hj2 : ∀ i, i < j → 576460752303423488 ≤ N0 / 2 ^ i) (hr0 : r0 < 2) (H : ∀ (w : Nat → Int32) (r : Nat), r < 2 → (r = 0 ↔ r0 = 0 ∧ N0 % 2 ^ j = 0) → post (f_raised, f_trapped, f_mode, f_below, lN (N0 / 2 ^ j), zz_I (pw0 + j), nI r, f_wish, f_exact, a_format, a_bits, a_kind, a_minus, a_coefficient, a_exponent, w)) (w : Nat → Int32) (hw : wd_W w N0) : wX_toBinary_78 post f_raised f_trapped f_mode f_below f_value (zz_I pw0) (nI r0) f_wish f_exact a_format a_bits a_kind a_minus a_coefficient a_exponent w := by
  have e0 : N0 / 2 ^ 0 = N0 := by rw [Nat.pow_zero, Nat.div_one]
  have hl := wd_LP_b (f_value := f_value) hN hj hj2 H j 0 (by omega) (j + 1) (by omega) w r0 hr0 (by rw [Nat.pow_zero, Nat.mod_one]; simp) (by rw [e0]; exact hw)
  have ep : pw0 + ((0 : Nat) : Int) = pw0 := by omega
  rw [ep] at hl
  rw [wX_toBinary_78]
  refine wd_isLong hN hw (fun h => ⟨j + 1, ?_⟩) (fun h => ⟨j + 1, ?_⟩)
  · have hlt : 0 < j := by
      rcases Nat.eq_zero_or_pos j with h2 | h2
      · rw [h2, e0] at hj
        omega
      · exact h2
    rw [if_pos hlt] at hl
    exact hl
  · have hlt : ¬ 0 < j := by
      intro h2
      have := hj2 0 h2
      rw [e0] at this
      omega
    rw [if_neg hlt] at hl
    exact hl
theorem wd_SH_b {NN K : Nat} {f_power : Int32} (hK : K < 100000) (hN : NN < 4294967296 ^ 14) (H : ∀ (w : Nat → Int32) (r : Nat), r < 2 → (r = 0 ↔ NN % 10 ^ K = 0) → wd_W w (NN / 10 ^ K) → wX_toBinary_78 post f_raised f_trapped f_mode f_below f_value f_power (nI r) f_wish f_exact a_format a_bits a_kind a_minus a_coefficient a_exponent w) : ∀ m i : Nat, i + m = K → ∀ n, m < n → ∀ (w : Nat → Int32) (r : Nat), r < 2 → (r = 0 ↔ 0 = 0 ∧ NN % 10 ^ i = 0) → wd_W w (NN / 10 ^ i) → wX_toBinary_62 post n (zz_I (-(m : Int))) f_raised f_trapped f_mode f_below f_value f_power (nI r) f_wish f_exact a_format a_bits a_kind a_minus a_coefficient a_exponent w := by
  intro m
  induction m with
  | zero =>
    intro i hi n hn w r hr hr0 hw
    obtain ⟨n, rfl⟩ := yr_fuel hn
    have e : i = K := by omega
    subst e
    exact br_t (by decide) (H w r hr (by rw [hr0]; simp) hw)
  | succ m ih =>
    intro i hi n hn w r hr hr0 hw
    obtain ⟨n, rfl⟩ := yr_fuel hn
    refine zz_le 0 (-((m + 1 : Nat) : Int)) (fun h => absurd h (by omega)) (fun _ => ?_)
    refine wd_shrink (y := 10) hr (by decide) (by decide) (wd_lt hN) hw ?_
    intro w' r' hr' hr0' hw'
    dsimp only
    refine nm_r (e' := zz_I (-(m : Int))) (by rw [zz_Ip1]; congr 1; omega) ?_
    rw [wd_divS] at hw'
    exact ih (i + 1) (by omega) n (by omega) w' r' hr' (wd_modS hr0 hr0' (by decide)) hw'
theorem wd_GR_b {C E : Nat} {f_power f_rest : Int32} (hE : E < 100000) (H : ∀ w : Nat → Int32, wd_W w (C * 10 ^ E) → wX_toBinary_78 post f_raised f_trapped f_mode f_below f_value f_power f_rest f_wish f_exact a_format a_bits a_kind a_minus a_coefficient a_exponent w) : ∀ m k : Nat, k + m = E → ∀ n, m < n → ∀ w : Nat → Int32, wd_W w (C * 10 ^ k) → wX_toBinary_12 post (nI E) n (nI k) f_raised f_trapped f_mode f_below f_value f_power f_rest f_wish f_exact a_format a_bits a_kind a_minus a_coefficient a_exponent w := by
  intro m
  induction m with
  | zero =>
    intro k hk n hn w hw
    obtain ⟨n, rfl⟩ := yr_fuel hn
    have e : k = E := by omega
    subst e
    exact br_t (nI_le (Nat.le_refl _) (by omega)) (br_t (nI_pos' (by omega)) (H w hw))
  | succ m ih =>
    intro k hk n hn w hw
    obtain ⟨n, rfl⟩ := yr_fuel hn
    refine br_f (nI_ge (by omega) (by omega)) ?_
    refine wd_grow (y := 10) (by decide) (by decide) hw ?_
    intro w' hw'
    dsimp only
    refine nm_r (nI_1 k) (ih (k + 1) (by omega) n (by omega) w' ?_)
    rw [Nat.pow_succ, ← Nat.mul_assoc]
    exact hw'
end
section
variable {f_raised : Int32} {f_trapped : Int32} {f_mode : Int32} {f_below : Int32} {f_value : Int64} {f_wish : Int32} {f_exact : Int32} {a_format : Nat → Int32} {a_bits : Nat → Int32} {a_kind : Nat → Int32} {a_minus : Nat → Int32} {a_coefficient : Nat → Int64} {a_exponent : Nat → Int32} {post : SX → Prop}
theorem wd_LP_d {N0 r0 j : Nat} {pw0 : Int} (hN : N0 < 4294967296 ^ 14) (hj : N0 / 10 ^ j < 576460752303423488) (hj2 : ∀ i, i < j → 576460752303423488 ≤ N0 / 10 ^ i) (H : ∀ (w : Nat → Int32) (r : Nat), r < 2 → (r = 0 ↔ r0 = 0 ∧ N0 % 10 ^ j = 0) → post (f_raised, f_trapped, f_mode, f_below, lN (N0 / 10 ^ j), zz_I (pw0 + j), nI r, f_wish, f_exact, a_format, a_bits, a_kind, a_minus, a_coefficient, a_exponent, w)) : ∀ m i : Nat, i + m = j → ∀ n, m < n → ∀ (w : Nat → Int32) (r : Nat), r < 2 → (r = 0 ↔ r0 = 0 ∧ N0 % 10 ^ i = 0) → wd_W w (N0 / 10 ^ i) → wX_toDecimal_80 post n (nI (if i < j then 1 else 0)) f_raised f_trapped f_mode f_below f_value (zz_I (pw0 + i)) (nI r) f_wish f_exact a_format a_bits a_kind a_minus a_coefficient a_exponent w := by
  intro m
  induction m with
  | zero =>
    intro i hi n hn w r hr hr0 hw
    obtain ⟨n, rfl⟩ := yr_fuel hn
    have e : i = j := by omega
    subst e
    rw [if_neg (by omega)]
    refine br_t rfl ?_
    exact wd_gather hj hw (H w r hr hr0)
  | succ m ih =>
    intro i hi n hn w r hr hr0 hw
    obtain ⟨n, rfl⟩ := yr_fuel hn
    rw [if_pos (by omega)]
    refine br_f (by decide) ?_
    refine wd_shrink (y := 10) hr (by decide) (by decide) (wd_lt hN) hw ?_
    intro w' r' hr' hr0' hw'
    dsimp only
    refine nm_r (e' := zz_I (pw0 + ((i + 1 : Nat) : Int))) (by rw [zz_Ip1]; congr 1; omega) ?_
    rw [wd_divS] at hw'
    have hnext := ih (i + 1) (by omega) n (by omega) w' r' hr' (wd_modS hr0 hr0' (by decide)) hw'
    refine wd_isLong (wd_lt hN) hw' (fun h => ?_) (fun h => ?_)
    · have hlt : i + 1 < j := by
        rcases Nat.lt_or_ge (i + 1) j with h2 | h2
        · exact h2
        · have e : i + 1 = j := by omega
          rw [e] at h
          omega
      rw [if_pos hlt] at hnext
      exact hnext
    · have hlt : ¬ i + 1 < j := by
        intro h2
        have := hj2 (i + 1) h2
        omega
      rw [if_neg hlt] at hnext
      exact hnext
theorem wd_J_d {N0 r0 j : Nat} {pw0 : Int} (hN : N0 < 4294967296 ^ 14) (hj : N0 / 10 ^ j < 576460752303423488) (hj2 : ∀ i, i < j → 576460752303423488 ≤ N0 / 10 ^ i) (hr0 : r0 < 2) (H : ∀ (w : Nat → Int32) (r : Nat), r < 2 → (r = 0 ↔ r0 = 0 ∧ N0 % 10 ^ j = 0) → post (f_raised, f_trapped, f_mode, f_below, lN (N0 / 10 ^ j), zz_I (pw0 + j), nI r, f_wish, f_exact, a_format, a_bits, a_kind, a_minus, a_coefficient, a_exponent, w)) (w : Nat → Int32) (hw : wd_W w N0) : wX_toDecimal_75 post f_raised f_trapped f_mode f_below f_value (zz_I pw0) (nI r0) f_wish f_exact a_format a_bits a_kind a_minus a_coefficient a_exponent w := by
  have e0 : N0 / 10 ^ 0 = N0 := by rw [Nat.pow_zero, Nat.div_one]
  have hl := wd_LP_d (f_value := f_value) hN hj hj2 H j 0 (by omega) (j + 1) (by omega) w r0 hr0 (by rw [Nat.pow_zero, Nat.mod_one]; simp) (by rw [e0]; exact hw)
  have ep : pw0 + ((0 : Nat) : Int) = pw0 := by omega
  rw [ep] at hl
  rw [wX_toDecimal_75]
  refine wd_isLong hN hw (fun h => ⟨j + 1, ?_⟩) (fun h => ⟨j + 1, ?_⟩)
  · have hlt : 0 < j := by
      rcases Nat.eq_zero_or_pos j with h2 | h2
      · rw [h2, e0] at hj
        omega
      · exact h2
    rw [if_pos hlt] at hl
    exact hl
  · have hlt : ¬ 0 < j := by
      intro h2
      have := hj2 0 h2
      rw [e0] at this
      omega
    rw [if_neg hlt] at hl
    exact hl
theorem wd_SH_d {NN K : Nat} {f_power : Int32} (hK : K < 100000) (hN : NN < 4294967296 ^ 14) (H : ∀ (w : Nat → Int32) (r : Nat), r < 2 → (r = 0 ↔ NN % 2 ^ K = 0) → wd_W w (NN / 2 ^ K) → wX_toDecimal_75 post f_raised f_trapped f_mode f_below f_value f_power (nI r) f_wish f_exact a_format a_bits a_kind a_minus a_coefficient a_exponent w) : ∀ m i : Nat, i + m = K → ∀ n, m < n → ∀ (w : Nat → Int32) (r : Nat), r < 2 → (r = 0 ↔ 0 = 0 ∧ NN % 2 ^ i = 0) → wd_W w (NN / 2 ^ i) → wX_toDecimal_60 post n (zz_I (-(m : Int))) f_raised f_trapped f_mode f_below f_value f_power (nI r) f_wish f_exact a_format a_bits a_kind a_minus a_coefficient a_exponent w := by
  intro m
  induction m with
  | zero =>
    intro i hi n hn w r hr hr0 hw
    obtain ⟨n, rfl⟩ := yr_fuel hn
    have e : i = K := by omega
    subst e
    exact br_t (by decide) (H w r hr (by rw [hr0]; simp) hw)
  | succ m ih =>
    intro i hi n hn w r hr hr0 hw
    obtain ⟨n, rfl⟩ := yr_fuel hn
    refine zz_le 0 (-((m + 1 : Nat) : Int)) (fun h => absurd h (by omega)) (fun _ => ?_)
    refine wd_shrink (y := 2) hr (by decide) (by decide) (wd_lt hN) hw ?_
    intro w' r' hr' hr0' hw'
    dsimp only
    refine nm_r (e' := zz_I (-(m : Int))) (by rw [zz_Ip1]; congr 1; omega) ?_
    rw [wd_divS] at hw'
    exact ih (i + 1) (by omega) n (by omega) w' r' hr' (wd_modS hr0 hr0' (by decide)) hw'
theorem wd_GR_d {C E : Nat} {f_power f_rest : Int32} (hE : E < 100000) (H : ∀ w : Nat → Int32, wd_W w (C * 2 ^ E) → wX_toDecimal_75 post f_raised f_trapped f_mode f_below f_value f_power f_rest f_wish f_exact a_format a_bits a_kind a_minus a_coefficient a_exponent w) : ∀ m k : Nat, k + m = E → ∀ n, m < n → ∀ w : Nat → Int32, wd_W w (C * 2 ^ k) → wX_toDecimal_12 post (nI E) n (nI k) f_raised f_trapped f_mode f_below f_value f_power f_rest f_wish f_exact a_format a_bits a_kind a_minus a_coefficient a_exponent w := by
  intro m
  induction m with
  | zero =>
    intro k hk n hn w hw
    obtain ⟨n, rfl⟩ := yr_fuel hn
    have e : k = E := by omega
    subst e
    exact br_t (nI_le (Nat.le_refl _) (by omega)) (br_t (nI_pos' (by omega)) (H w hw))
  | succ m ih =>
    intro k hk n hn w hw
    obtain ⟨n, rfl⟩ := yr_fuel hn
    refine br_f (nI_ge (by omega) (by omega)) ?_
    refine wd_grow (y := 2) (by decide) (by decide) hw ?_
    intro w' hw'
    dsimp only
    refine nm_r (nI_1 k) (ih (k + 1) (by omega) n (by omega) w' ?_)
    rw [Nat.pow_succ, ← Nat.mul_assoc]
    exact hw'
end
end
section
/-! the component's conversions, whole; the reference's loops -/
theorem wd_B : (4294967296 : Nat) ^ 14 = 2 ^ 448 := by
  have e : (4294967296 : Nat) = 2 ^ 32 := by decide
  rw [e, ← Nat.pow_mul]
theorem wd_hi {w : Nat → Int32} {C : Nat} (hC : C < 4294967296) (hw : wd_W w C) : wd_W (upd (upd w 12 (w 0)) 0 0) (C * 4294967296 ^ 12) := by
  intro k hk
  have b0 : 0 < 4294967296 := by decide
  have hz : ∀ j, 1 ≤ j → C / 4294967296 ^ j % 4294967296 = 0 := by
    intro j hj
    have h1 : C < 4294967296 ^ j := Nat.lt_of_lt_of_le hC (by
      have := dg_pow_le (b := 4294967296) (by decide) hj
      rw [Nat.pow_one] at this
      exact this)
    rw [Nat.div_eq_of_lt h1, Nat.zero_mod]
  by_cases h0 : k = 0
  · subst h0
    rw [pk_us, dg_lay_lo b0 (by decide)]
    rfl
  · rw [pk_un h0]
    by_cases h12 : k = 12
    · subst h12
      rw [pk_us, hw 0 (by decide), dg_lay_hi b0 (by decide)]
    · rw [pk_un h12, hw k hk, hz k (by omega)]
      by_cases hl : k < 12
      · rw [dg_lay_lo b0 hl]
      · rw [dg_lay_hi b0 (by omega), hz (k - 12) (by omega)]
section
variable {f_raised : Int32} {f_trapped : Int32} {f_mode : Int32} {f_below : Int32} {f_value : Int64} {f_wish : Int32} {f_exact : Int32} {a_format : Nat → Int32} {a_bits : Nat → Int32} {a_kind : Nat → Int32} {a_minus : Nat → Int32} {a_coefficient : Nat → Int64} {a_exponent : Nat → Int32} {a_wide : Nat → Int32} {post : SX → Prop}
theorem xw_toBin {C j N0 : Nat} {E pw0 : Int} (hC : C < 4294967296) (hE : -1000 < E ∧ E < 1000) (hN : N0 < 4294967296 ^ 14) (hj : N0 / 2 ^ j < 576460752303423488) (hj2 : ∀ i, i < j → 576460752303423488 ≤ N0 / 2 ^ i) (hpos : 0 ≤ E → N0 = C * 10 ^ E.toNat ∧ pw0 = 0) (hneg : E < 0 → N0 = C * 4294967296 ^ 12 / 10 ^ (-E).toNat ∧ pw0 = -384 ∧ C * 4294967296 ^ 12 < 4294967296 ^ 14) (hw : wd_W a_wide C) (H : ∀ (w : Nat → Int32) (r : Nat), r < 2 → (r = 0 ↔ (E < 0 → C * 4294967296 ^ 12 % 10 ^ (-E).toNat = 0) ∧ N0 % 2 ^ j = 0) → post (f_raised, f_trapped, f_mode, f_below, lN (N0 / 2 ^ j), zz_I (pw0 + j), nI r, f_wish, f_exact, a_format, a_bits, a_kind, a_minus, a_coefficient, a_exponent, w)) : wpX_toBinary post (f_raised, f_trapped, f_mode, f_below, f_value, zz_I E, 0, f_wish, f_exact, a_format, a_bits, a_kind, a_minus, a_coefficient, a_exponent, a_wide) := by
  by_cases h0 : 0 ≤ E
  · obtain ⟨e1, e2⟩ := hpos h0
    have eE : zz_I E = nI E.toNat := by
      rw [zz_nI]
      congr 1
      omega
    refine ⟨E.toNat + 1, ?_⟩
    have hl := wd_GR_b (post := post) (C := C) (E := E.toNat) (f_raised := f_raised) (f_trapped := f_trapped) (f_mode := f_mode) (f_below := f_below) (f_value := f_value) (f_power := 0) (f_rest := 0) (f_wish := f_wish) (f_exact := f_exact) (a_format := a_format) (a_bits := a_bits) (a_kind := a_kind) (a_minus := a_minus) (a_coefficient := a_coefficient) (a_exponent := a_exponent) (by omega) ?_ E.toNat 0 (by omega) (E.toNat + 1) (by omega) a_wide (by rw [Nat.pow_zero, Nat.mul_one]; exact hw)
    · rw [← eE] at hl
      exact hl
    · intro w hw'
      rw [← e1] at hw'
      subst e2
      refine wd_J_b (r0 := 0) (pw0 := 0) hN hj hj2 (by decide) ?_ w hw'
      intro w2 r hr hr0
      refine H w2 r hr (hr0.trans ⟨fun h => ⟨fun h3 => absurd h3 (by omega), h.2⟩, fun h => ⟨rfl, h.2⟩⟩)
  · obtain ⟨e1, e2, e3⟩ := hneg (by omega)
    obtain ⟨K, hK⟩ : ∃ K : Nat, K = (-E).toNat := ⟨_, rfl⟩
    rw [← hK] at e1 H
    have eE : E = -(K : Int) := by omega
    refine ⟨0 + 1, ?_⟩
    refine br_t (by rw [show (0 : Int32) = zz_I 0 by decide, zz_Ile (by unfold zz_R; omega) (by unfold zz_R; omega)]; omega) (br_f (by rw [show (0 : Int32) = zz_I 0 by decide, zz_Ile (by unfold zz_R; omega) (by unfold zz_R; omega)]; omega) (nm_e (nm_e ⟨K + 1, ?_⟩)))
    have hl := wd_SH_b (post := post) (NN := C * 4294967296 ^ 12) (K := K) (f_raised := f_raised) (f_trapped := f_trapped) (f_mode := f_mode) (f_below := f_below) (f_value := f_value) (f_power := -384) (f_wish := f_wish) (f_exact := f_exact) (a_format := a_format) (a_bits := a_bits) (a_kind := a_kind) (a_minus := a_minus) (a_coefficient := a_coefficient) (a_exponent := a_exponent) (by omega) e3 ?_ K 0 (by omega) (K + 1) (by omega) (upd (upd a_wide 12 (a_wide 0)) 0 0) 0 (by decide) (by rw [Nat.pow_zero, Nat.mod_one]; simp) (by rw [Nat.pow_zero, Nat.div_one]; exact wd_hi hC hw)
    · rw [← eE] at hl
      exact hl
    · intro w r0 hr0 hr1 hw'
      rw [← e1] at hw'
      subst e2
      have e384 : (-384 : Int32) = zz_I (-384) := by decide
      rw [e384]
      refine wd_J_b (r0 := r0) (pw0 := -384) hN hj hj2 hr0 ?_ w hw'
      intro w2 r hr hr2
      refine H w2 r hr (hr2.trans ?_)
      rw [hr1]
      exact ⟨fun h => ⟨fun _ => h.1, h.2⟩, fun h => ⟨h.1 (by omega), h.2⟩⟩
theorem wd_40 {C K : Nat} {f_power f_rest : Int32} {e : Int32} (H : ∀ w : Nat → Int32, wd_W w (C * 10 ^ 60) → ∃ n60, wX_toDecimal_60 post n60 e f_raised f_trapped f_mode f_below f_value f_power f_rest f_wish f_exact a_format a_bits a_kind a_minus a_coefficient a_exponent w) : ∀ m k : Nat, k + m = 60 → ∀ n, m < n → ∀ w : Nat → Int32, wd_W w (C * 10 ^ k) → wX_toDecimal_40 post e n (nI k) f_raised f_trapped f_mode f_below f_value f_power f_rest f_wish f_exact a_format a_bits a_kind a_minus a_coefficient a_exponent w := by
  intro m
  induction m with
  | zero =>
    intro k hk n hn w hw
    obtain ⟨n, rfl⟩ := yr_fuel hn
    have e : k = 60 := by omega
    subst e
    exact br_t (by decide) (H w hw)
  | succ m ih =>
    intro k hk n hn w hw
    obtain ⟨n, rfl⟩ := yr_fuel hn
    refine br_f (nI_ge (b := 60) (by omega) (by decide)) ?_
    refine wd_grow (y := 10) (by decide) (by decide) hw ?_
    intro w' hw'
    dsimp only
    refine nm_r (nI_1 k) (ih (k + 1) (by omega) n (by omega) w' ?_)
    rw [Nat.pow_succ, ← Nat.mul_assoc]
    exact hw'
theorem xw_toDec {C j N0 : Nat} {E pw0 : Int} (hE : -1000 < E ∧ E < 1000) (hN : N0 < 4294967296 ^ 14) (hj : N0 / 10 ^ j < 576460752303423488) (hj2 : ∀ i, i < j → 576460752303423488 ≤ N0 / 10 ^ i) (hpos : 0 ≤ E → N0 = C * 2 ^ E.toNat ∧ pw0 = 0) (hneg : E < 0 → N0 = C * 10 ^ 60 / 2 ^ (-E).toNat ∧ pw0 = -60 ∧ C * 10 ^ 60 < 4294967296 ^ 14) (hw : wd_W a_wide C) (H : ∀ (w : Nat → Int32) (r : Nat), r < 2 → (r = 0 ↔ (E < 0 → C * 10 ^ 60 % 2 ^ (-E).toNat = 0) ∧ N0 % 10 ^ j = 0) → post (f_raised, f_trapped, f_mode, f_below, lN (N0 / 10 ^ j), zz_I (pw0 + j), nI r, f_wish, f_exact, a_format, a_bits, a_kind, a_minus, a_coefficient, a_exponent, w)) : wpX_toDecimal post (f_raised, f_trapped, f_mode, f_below, f_value, zz_I E, 0, f_wish, f_exact, a_format, a_bits, a_kind, a_minus, a_coefficient, a_exponent, a_wide) := by
  by_cases h0 : 0 ≤ E
  · obtain ⟨e1, e2⟩ := hpos h0
    have eE : zz_I E = nI E.toNat := by
      rw [zz_nI]
      congr 1
      omega
    refine ⟨E.toNat + 1, ?_⟩
    have hl := wd_GR_d (post := post) (C := C) (E := E.toNat) (f_raised := f_raised) (f_trapped := f_trapped) (f_mode := f_mode) (f_below := f_below) (f_value := f_value) (f_power := 0) (f_rest := 0) (f_wish := f_wish) (f_exact := f_exact) (a_format := a_format) (a_bits := a_bits) (a_kind := a_kind) (a_minus := a_minus) (a_coefficient := a_coefficient) (a_exponent := a_exponent) (by omega) ?_ E.toNat 0 (by omega) (E.toNat + 1) (by omega) a_wide (by rw [Nat.pow_zero, Nat.mul_one]; exact hw)
    · rw [← eE] at hl
      exact hl
    · intro w hw'
      rw [← e1] at hw'
      subst e2
      refine wd_J_d (r0 := 0) (pw0 := 0) hN hj hj2 (by decide) ?_ w hw'
      intro w2 r hr hr0
      refine H w2 r hr (hr0.trans ⟨fun h => ⟨fun h3 => absurd h3 (by omega), h.2⟩, fun h => ⟨rfl, h.2⟩⟩)
  · obtain ⟨e1, e2, e3⟩ := hneg (by omega)
    obtain ⟨K, hK⟩ : ∃ K : Nat, K = (-E).toNat := ⟨_, rfl⟩
    rw [← hK] at e1 H
    have eE : E = -(K : Int) := by omega
    refine ⟨0 + 1, ?_⟩
    refine br_t (by rw [show (0 : Int32) = zz_I 0 by decide, zz_Ile (by unfold zz_R; omega) (by unfold zz_R; omega)]; omega) (br_f (by rw [show (0 : Int32) = zz_I 0 by decide, zz_Ile (by unfold zz_R; omega) (by unfold zz_R; omega)]; omega) ⟨61, ?_⟩)
    refine wd_40 (C := C) (K := K) ?_ 60 0 (by omega) 61 (by omega) a_wide (by rw [Nat.pow_zero, Nat.mul_one]; exact hw)
    intro w0 hw0
    refine ⟨K + 1, ?_⟩
    have hl := wd_SH_d (post := post) (NN := C * 10 ^ 60) (K := K) (f_raised := f_raised) (f_trapped := f_trapped) (f_mode := f_mode) (f_below := f_below) (f_value := f_value) (f_power := -60) (f_wish := f_wish) (f_exact := f_exact) (a_format := a_format) (a_bits := a_bits) (a_kind := a_kind) (a_minus := a_minus) (a_coefficient := a_coefficient) (a_exponent := a_exponent) (by omega) e3 ?_ K 0 (by omega) (K + 1) (by omega) w0 0 (by decide) (by rw [Nat.pow_zero, Nat.mod_one]; simp) (by rw [Nat.pow_zero, Nat.div_one]; exact hw0)
    · rw [← eE] at hl
      exact hl
    · intro w r0 hr0 hr1 hw'
      rw [← e1] at hw'
      subst e2
      have e60 : (-60 : Int32) = zz_I (-60) := by decide
      rw [e60]
      refine wd_J_d (r0 := r0) (pw0 := -60) hN hj hj2 hr0 ?_ w hw'
      intro w2 r hr hr2
      refine H w2 r hr (hr2.trans ?_)
      rw [hr1]
      exact ⟨fun h => ⟨fun _ => h.1, h.2⟩, fun h => ⟨h.1 (by omega), h.2⟩⟩
end
section
variable {f_attribute : Int32} {f_raised : Int32} {f_trapped : Int32} {f_made : Int32} {a_format : Nat → Int32} {a_pattern : Nat → Int32} {a_kind : Nat → Int32} {a_exponent : Nat → Int32} {a_coefficient : Nat → Int64} {a_minus : Nat → Int32} {post : Int32 → SY → Prop}
/-- the reference's loops: the row N1 * fr^E, or N1 * 5^K, or N1 / 10^K -/
theorem yv_48 {f fr to N1 E : Nat} {f_more : Int32} (hto : to = 2 ∨ to = 10) (hfr : fr = 2 ∨ fr = 10) (hE : E < 100000) (H : ∀ row : Nat → Int32, yr_R to row 0 (N1 * fr ^ E) → ((nI fr = 2 → wY_converted_123 post 0 (a_minus 0) (nI f) f_attribute f_raised f_trapped f_more f_made a_format a_pattern a_kind a_exponent a_coefficient a_minus row) ∧ (¬ nI fr = 2 → wY_converted_123 post (nI E) (a_minus 0) (nI f) f_attribute f_raised f_trapped f_more f_made a_format a_pattern a_kind a_exponent a_coefficient a_minus row))) : ∀ m k : Nat, k + m = E → ∀ n, m < n → ∀ row : Nat → Int32, yr_R to row 0 (N1 * fr ^ k) → wY_converted_48 post (nI f) (nI fr) (nI to) (nI E) n (nI k) f_attribute f_raised f_trapped f_more f_made a_format a_pattern a_kind a_exponent a_coefficient a_minus row := by
  intro m
  induction m with
  | zero =>
    intro k hk n hn row hr
    obtain ⟨n, rfl⟩ := yr_fuel hn
    have e : k = E := by omega
    subst e
    exact br_t (nI_le (Nat.le_refl _) (by omega)) ⟨0 + 1, br_t (nI_pos' (by omega)) (H row hr)⟩
  | succ m ih =>
    intro k hk n hn row hr
    obtain ⟨n, rfl⟩ := yr_fuel hn
    refine br_f (nI_ge (by omega) (by omega)) ?_
    refine yw_times hto (by omega) (by omega) hr ?_
    intro row' hr'
    dsimp only
    refine nm_r (nI_1 k) (ih (k + 1) (by omega) n (by omega) row' ?_)
    rw [Nat.pow_succ, ← Nat.mul_assoc]
    exact hr'
theorem yv_71t {f N1 K : Nat} {f_more x4 : Int32} (hK : K < 100000) (H : ∀ row : Nat → Int32, yr_R 10 row 0 (N1 * 5 ^ K) → wY_converted_123 post 0 (a_minus 0) (nI f) f_attribute f_raised f_trapped f_more f_made a_format a_pattern a_kind a_exponent a_coefficient a_minus row) : ∀ m k : Nat, k + m = K → ∀ n, m < n → ∀ row : Nat → Int32, yr_R 10 row 0 (N1 * 5 ^ k) → wY_converted_71 post (nI f) 2 x4 n (zz_I (-(m : Int))) f_attribute f_raised f_trapped f_more f_made a_format a_pattern a_kind a_exponent a_coefficient a_minus row := by
  intro m
  induction m with
  | zero =>
    intro k hk n hn row hr
    obtain ⟨n, rfl⟩ := yr_fuel hn
    have e : k = K := by omega
    subst e
    exact br_t (by decide) (br_t rfl (H row hr))
  | succ m ih =>
    intro k hk n hn row hr
    obtain ⟨n, rfl⟩ := yr_fuel hn
    refine zz_le 0 (-((m + 1 : Nat) : Int)) (fun h => absurd h (by omega)) (fun _ => br_t rfl ?_)
    refine yw_times (b := 10) (y := 5) (Or.inr rfl) (by decide) (by decide) hr ?_
    intro row' hr'
    dsimp only
    refine nm_r (e' := zz_I (-(m : Int))) (by rw [zz_Ip1]; congr 1; omega) (ih (k + 1) (by omega) n (by omega) row' ?_)
    rw [Nat.pow_succ, ← Nat.mul_assoc]
    exact hr'
theorem yv_71o {f N1 K : Nat} {x4 : Int32} (hK : K < 100000) (hN : N1 < 2 ^ 800) (H : ∀ (row : Nat → Int32) (mo : Nat), mo < 2 → (mo = 0 ↔ N1 % 10 ^ K = 0) → yr_R 2 row 0 (N1 / 10 ^ K) → wY_converted_123 post x4 (a_minus 0) (nI f) f_attribute f_raised f_trapped (nI mo) f_made a_format a_pattern a_kind a_exponent a_coefficient a_minus row) : ∀ m k : Nat, k + m = K → ∀ n, m < n → ∀ (row : Nat → Int32) (mo : Nat), mo < 2 → (mo = 0 ↔ 0 = 0 ∧ N1 % 10 ^ k = 0) → yr_R 2 row 0 (N1 / 10 ^ k) → wY_converted_71 post (nI f) 10 x4 n (zz_I (-(m : Int))) f_attribute f_raised f_trapped (nI mo) f_made a_format a_pattern a_kind a_exponent a_coefficient a_minus row := by
  intro m
  induction m with
  | zero =>
    intro k hk n hn row mo hmo hm0 hr
    obtain ⟨n, rfl⟩ := yr_fuel hn
    have e : k = K := by omega
    subst e
    exact br_t (by decide) (br_f (by decide) (H row mo hmo (by rw [hm0]; simp) hr))
  | succ m ih =>
    intro k hk n hn row mo hmo hm0 hr
    obtain ⟨n, rfl⟩ := yr_fuel hn
    refine zz_le 0 (-((m + 1 : Nat) : Int)) (fun h => absurd h (by omega)) (fun _ => br_f (by decide) ?_)
    refine yw_over (b := 2) (y := 10) (Or.inl rfl) (by decide) (by decide) hmo hr (Nat.lt_of_le_of_lt (Nat.div_le_self _ _) hN) ?_
    intro row' mo' hmo' hr' hm'
    dsimp only
    rw [wd_divS] at hr'
    exact nm_r (e' := zz_I (-(m : Int))) (by rw [zz_Ip1]; congr 1; omega) (ih (k + 1) (by omega) n (by omega) row' mo' hmo' (wd_modS hm0 hm' (by decide)) hr')
end
end
section
/-! conversions: both sides at one -/
theorem bt_conv {f m s A D N0 N mo : Nat} {pw0 w w' : Int} (hf : f < 4) (hm : m < 5) (hs : s < 2) (hw : -100000 < w ∧ w < 100000) (hw' : -100000 < w' ∧ w' < 100000) (hww : w = w' ∨ fm_b f = 2) (hD : 0 < D) (hN0 : N0 = A / rn_M D (fm_b f) (fm_P (fm_b f)) pw0) (h448 : N0 < 4294967296 ^ 14) (hpw0 : -400 < pw0 ∧ pw0 ≤ 0 ∧ 0 ≤ pw0 + fm_P (fm_b f)) (hbig : A % rn_M D (fm_b f) (fm_P (fm_b f)) pw0 = 0 ∨ fm_b f ^ fm_p f ≤ N0) (hN0p : 0 < N0) (hY : yr_Y A D (fm_b f) (fm_P (fm_b f)) N mo (-(fm_P (fm_b f) : Int))) (hN : N < fm_b f ^ 800) (hy : fm_b f ^ fm_p f ≤ A / rn_M D (fm_b f) (fm_P (fm_b f)) (-(fm_P (fm_b f) : Int))) : ∃ j r : Nat, N0 / fm_b f ^ j < 576460752303423488 ∧ (∀ i, i < j → 576460752303423488 ≤ N0 / fm_b f ^ i) ∧ r < 2 ∧ (r = 0 ↔ A % rn_M D (fm_b f) (fm_P (fm_b f)) pw0 = 0 ∧ N0 % fm_b f ^ j = 0) ∧ ∃ fl pt : Int32, bt_ok f fl pt ∧ bt_XR f m s (N0 / fm_b f ^ j) r (pw0 + j) w fl pt ∧ bt_YR f m s N mo w' fl pt := by
  have hff := fm_facts hf
  have hb := fm_b2 f
  obtain ⟨b0, b2, b10, bb⟩ := yr_b hb
  obtain ⟨h63, hpw, h1p⟩ := fm_pw hf
  have h400 : N0 / fm_b f ^ 400 < 576460752303423488 := by
    rw [Nat.div_lt_iff_lt_mul (Nat.pow_pos b0)]
    have h1 : (2 : Nat) ^ 400 ≤ fm_b f ^ 400 := Nat.pow_le_pow_left b2 400
    have h2 : (576460752303423488 : Nat) = 2 ^ 59 := by decide
    rw [h2]
    have h3 : (2 : Nat) ^ 59 * 2 ^ 400 ≤ 2 ^ 59 * fm_b f ^ 400 := Nat.mul_le_mul_left _ h1
    rw [← Nat.pow_add] at h3
    rw [wd_B] at h448
    exact Nat.lt_of_lt_of_le h448 (Nat.le_trans (dg_pow_le (by decide) (by decide)) h3)
  obtain ⟨j, hj, hj2⟩ := pk_least (fun j => N0 / fm_b f ^ j < 576460752303423488) ⟨400, h400⟩
  have hj400 : j ≤ 400 := by
    rcases Nat.lt_or_ge 400 j with h | h
    · exact absurd h400 (hj2 400 h)
    · exact h
  have hj3 : ∀ i, i < j → 576460752303423488 ≤ N0 / fm_b f ^ i := by
    intro i hi
    have := hj2 i hi
    omega
  obtain ⟨r, hr⟩ : ∃ r : Nat, r = if A % rn_M D (fm_b f) (fm_P (fm_b f)) (pw0 + j) = 0 then 0 else 1 := ⟨_, rfl⟩
  have hr2 : r < 2 := by
    rw [hr]
    split <;> omega
  have hr0 : r = 0 ↔ A % rn_M D (fm_b f) (fm_P (fm_b f)) (pw0 + j) = 0 := by
    rw [hr]
    split
    · exact ⟨fun _ => by assumption, fun _ => rfl⟩
    · exact ⟨fun h => absurd h (by decide), fun h => absurd h (by assumption)⟩
  have hMM := rn_M_add (D := D) (b := fm_b f) (U := fm_P (fm_b f)) (e := pw0) hpw0.2.2 j
  have hMp : 0 < rn_M D (fm_b f) (fm_P (fm_b f)) pw0 := rn_M_pos hD b0
  have hv : N0 / fm_b f ^ j = A / rn_M D (fm_b f) (fm_P (fm_b f)) (pw0 + j) := by
    rw [hMM, ← Nat.div_div_eq_div_mul, ← hN0]
  have hrr : r = 0 ↔ A % rn_M D (fm_b f) (fm_P (fm_b f)) pw0 = 0 ∧ N0 % fm_b f ^ j = 0 := by
    rw [hr0, hMM, Nat.mod_mul, ← hN0, Nat.add_eq_zero_iff, Nat.mul_eq_zero]
    constructor
    · rintro ⟨h1, h2 | h2⟩
      · omega
      · exact ⟨h1, h2⟩
    · rintro ⟨h1, h2⟩
      exact ⟨h1, Or.inr h2⟩
  have hlow : 0 < j → 57646075230342348 ≤ N0 / fm_b f ^ j := by
    intro h0
    obtain ⟨j', rfl⟩ : ∃ j', j = j' + 1 := ⟨j - 1, by omega⟩
    have h1 := hj3 j' (by omega)
    rw [← wd_divS, Nat.le_div_iff_mul_le b0]
    have h2 := Nat.mul_le_mul_left 57646075230342348 b10
    omega
  have hp24 : fm_b f ^ fm_p f ≤ 16777216 := by
    rcases (show f = 0 ∨ f = 1 ∨ f = 2 ∨ f = 3 by omega) with rfl | rfl | rfl | rfl <;> decide
  have hvp : 0 < N0 / fm_b f ^ j := by
    rcases Nat.eq_zero_or_pos j with h | h
    · rw [h, Nat.pow_zero, Nat.div_one]
      exact hN0p
    · have := hlow h
      omega
  have hx : r = 0 ∨ fm_b f ^ fm_p f ≤ N0 / fm_b f ^ j := by
    rcases Nat.eq_zero_or_pos j with h | h
    · rcases hbig with h2 | h2
      · left
        rw [hrr, h, Nat.pow_zero, Nat.mod_one]
        exact ⟨h2, rfl⟩
      · right
        rw [h, Nat.pow_zero, Nat.div_one]
        exact h2
    · right
      have := hlow h
      omega
  have hbd : N0 / fm_b f ^ j < xr_bd (fm_b f) := by
    have : 576460752303423488 ≤ xr_bd (fm_b f) := by rcases hb with h | h <;> rw [h] <;> decide
    omega
  refine ⟨j, r, hj, hj3, hr2, hrr, ?_⟩
  exact bt_round2 (A := A) (D := D) (U := fm_P (fm_b f)) (u := -(fm_P (fm_b f) : Int)) hf hm hs hw hw' hww hD (Nat.le_refl _) hr2 (by omega) hv hr0 hbd hvp hx (by omega) hN hY hy
theorem cv_10 (K : Nat) (h : K ≤ 101) : (10 : Nat) ^ K ≤ 2 ^ 340 := by
  have h1 : (10 : Nat) ^ K ≤ 10 ^ (3 * 34) := dg_pow_le (by decide) (by omega)
  rw [Nat.pow_mul] at h1
  have h2 : ((10 : Nat) ^ 3) ^ 34 ≤ (2 ^ 10) ^ 34 := Nat.pow_le_pow_left (by decide) 34
  rw [← Nat.pow_mul 2] at h2
  exact Nat.le_trans h1 h2
theorem cv_90 (K : Nat) (h : K ≤ 90) : (10 : Nat) ^ K ≤ 2 ^ 300 := by
  have h1 : (10 : Nat) ^ K ≤ 10 ^ (3 * 30) := dg_pow_le (by decide) (by omega)
  rw [Nat.pow_mul] at h1
  have h2 : ((10 : Nat) ^ 3) ^ 30 ≤ (2 ^ 10) ^ 30 := Nat.pow_le_pow_left (by decide) 30
  rw [← Nat.pow_mul 2] at h2
  exact Nat.le_trans h1 h2
theorem cv_2 (K : Nat) (h : K ≤ 149) : (2 : Nat) ^ K ≤ 10 ^ 50 := by
  have h1 : (2 : Nat) ^ K ≤ 2 ^ (3 * 50) := dg_pow_le (by decide) (by omega)
  rw [Nat.pow_mul] at h1
  exact Nat.le_trans h1 (Nat.pow_le_pow_left (by decide) 50)
theorem cv_div {a b c : Nat} (hc : 0 < c) : a * c / (b * c) = a / b ∧ (a * c % (b * c) = 0 ↔ a % b = 0) := by
  refine ⟨Nat.mul_div_mul_right _ _ hc, ?_⟩
  rw [Nat.mul_mod_mul_right]
  constructor
  · intro h
    rcases Nat.mul_eq_zero.mp h with h1 | h1
    · exact h1
    · omega
  · intro h
    rw [h, Nat.zero_mul]
end
section
/-! conversions: both sides at one, their whole -/
theorem yr_R_b {b b' u N : Nat} {row : Nat → Int32} (h : b = b') (hr : yr_R b' row u N) : yr_R b row u N := by
  rw [h]
  exact hr
theorem ys_conv2 {f m K M C : Nat} {E : Int} {fl pt : Int32} (hf : f < 4) (hb2 : fm_b f = 2) (hM : M < 2) (v : C < 10000000 ∧ -101 ≤ E ∧ E ≤ 90) (hpos : 0 ≤ E → bt_YR f m M (C * 2 ^ 450 * 10 ^ E.toNat) 0 E fl pt) (hneg : E < 0 → bt_YR f m M (C * 2 ^ 450 / 10 ^ (-E).toNat) (if C * 2 ^ 450 % 10 ^ (-E).toNat = 0 then 0 else 1) E fl pt) : un_Y (fun post u => wpY_converted post u (nI f) (nI 10)) f m K M C E fl pt := by
  intro f_raised f_trapped f_more f_made a_format a_pattern a_kind a_exponent a_coefficient a_minus a_row post S0 HO
  have hNl : C * 2 ^ 450 < 2 ^ 800 := by
    have h4 : C * 2 ^ 450 < 2 ^ 24 * 2 ^ 450 := Nat.mul_lt_mul_of_pos_right (by omega) (Nat.pow_pos (by decide))
    rw [← Nat.pow_add] at h4
    exact Nat.lt_of_lt_of_le h4 (dg_pow_le (by decide) (by decide))
  unfold wpY_converted
  dsimp only
  refine yw_base hf ?_
  rw [hb2]
  refine nm_r S0.2.2.2 ?_
  refine yw_clear ?_
  intro row1 hz1
  dsimp only
  refine br_f (by decide) ?_
  rw [S0.2.2.1]
  refine yw_clay (b := 2) (E := 0) (C := C) (Or.inl rfl) (by omega) (by decide) (by decide) hNl hz1 ?_
  intro row2 hr2 _
  change yr_R 2 row2 0 (C * 2 ^ 450) at hr2
  dsimp only
  by_cases h0 : 0 ≤ E
  · have eE : zz_I E = nI E.toNat := by
      rw [zz_nI]
      congr 1
      omega
    have RY := hpos h0
    refine ⟨E.toNat + 1, ?_⟩
    have hl := yv_48 (post := post) (f := f) (fr := 10) (to := 2) (N1 := C * 2 ^ 450) (E := E.toNat) (f_attribute := nI m) (f_raised := f_raised) (f_trapped := f_trapped) (f_more := 0) (f_made := f_made) (a_format := a_format) (a_pattern := a_pattern) (a_kind := a_kind) (a_exponent := a_exponent) (a_coefficient := a_coefficient) (a_minus := a_minus) (Or.inl rfl) (Or.inr rfl) (by omega) ?_ E.toNat 0 (by omega) (E.toNat + 1) (by omega) row2 (by rw [Nat.pow_zero, Nat.mul_one]; exact hr2)
    · rw [← eE] at hl
      exact hl
    · intro row hr
      refine br_f (by decide) ?_
      rw [S0.2.1, ← eE]
      exact RY _ _ _ _ _ _ _ _ _ _ _ (yr_R_b hb2 hr) (fun u' h1 h2 => HO u' h1 h2)
  · obtain ⟨Kn, hKn⟩ : ∃ Kn : Nat, Kn = (-E).toNat := ⟨_, rfl⟩
    have RY := hneg (by omega)
    rw [← hKn] at RY
    have eE : E = -(Kn : Int) := by omega
    refine ⟨0 + 1, ?_⟩
    refine br_t (by rw [show (0 : Int32) = zz_I 0 by decide, zz_Ile (by unfold zz_R; omega) (by unfold zz_R; omega)]; omega) ⟨Kn + 1, ?_⟩
    have hl := yv_71o (post := post) (f := f) (N1 := C * 2 ^ 450) (K := Kn) (x4 := zz_I E) (f_attribute := nI m) (f_raised := f_raised) (f_trapped := f_trapped) (f_made := f_made) (a_format := a_format) (a_pattern := a_pattern) (a_kind := a_kind) (a_exponent := a_exponent) (a_coefficient := a_coefficient) (a_minus := a_minus) (by omega) hNl ?_ Kn 0 (by omega) (Kn + 1) (by omega) row2 0 (by decide) (by rw [Nat.pow_zero, Nat.mod_one]; simp) (by rw [Nat.pow_zero, Nat.div_one]; exact hr2)
    · rw [← eE] at hl
      exact hl
    · intro row mo hmo hm0 hr
      have emo : (if C * 2 ^ 450 % 10 ^ Kn = 0 then 0 else 1) = mo := by
        by_cases hz : C * 2 ^ 450 % 10 ^ Kn = 0
        · rw [if_pos hz]
          exact (hm0.mpr hz).symm
        · rw [if_neg hz]
          have : ¬ mo = 0 := fun h => hz (hm0.mp h)
          omega
      rw [emo] at RY
      rw [S0.2.1]
      exact RY _ _ _ _ _ _ _ _ _ _ _ (yr_R_b hb2 hr) (fun u' h1 h2 => HO u' h1 h2)
theorem ys_conv10 {f m K M C : Nat} {E : Int} {fl pt : Int32} (hf : f < 4) (hb10 : fm_b f = 10) (hM : M < 2) (v : C < 16777216 ∧ -149 ≤ E ∧ E ≤ 104) (hpos : 0 ≤ E → bt_YR f m M (C * 10 ^ 230 * 2 ^ E.toNat) 0 0 fl pt) (hneg : E < 0 → bt_YR f m M (C * 10 ^ (E + 230).toNat * 5 ^ (-E).toNat) 0 0 fl pt) : un_Y (fun post u => wpY_converted post u (nI f) (nI 2)) f m K M C E fl pt := by
  intro f_raised f_trapped f_more f_made a_format a_pattern a_kind a_exponent a_coefficient a_minus a_row post S0 HO
  have hNl : ∀ e : Nat, e ≤ 230 → C * 10 ^ e < 10 ^ 800 := by
    intro e he
    have h4 : C * 10 ^ e < 10 ^ 8 * 10 ^ e := Nat.mul_lt_mul_of_pos_right (by omega) (Nat.pow_pos (by decide))
    rw [← Nat.pow_add] at h4
    exact Nat.lt_of_lt_of_le h4 (dg_pow_le (by decide) (by omega))
  unfold wpY_converted
  dsimp only
  refine yw_base hf ?_
  rw [hb10]
  refine nm_r S0.2.2.2 ?_
  refine yw_clear ?_
  intro row1 hz1
  dsimp only
  refine br_t rfl ?_
  rw [S0.2.2.1]
  refine zz_le 0 E (fun h0 => ?_) (fun h0 => ?_)
  · refine yw_clay (b := 10) (E := 0) (C := C) (Or.inr rfl) (by omega) (by decide) (by decide) (hNl 230 (by decide)) hz1 ?_
    intro row2 hr2 _
    change yr_R 10 row2 0 (C * 10 ^ 230) at hr2
    dsimp only
    have eE : zz_I E = nI E.toNat := by
      rw [zz_nI]
      congr 1
      omega
    have RY := hpos h0
    refine ⟨E.toNat + 1, ?_⟩
    have hl := yv_48 (post := post) (f := f) (fr := 2) (to := 10) (N1 := C * 10 ^ 230) (E := E.toNat) (f_attribute := nI m) (f_raised := f_raised) (f_trapped := f_trapped) (f_more := 0) (f_made := f_made) (a_format := a_format) (a_pattern := a_pattern) (a_kind := a_kind) (a_exponent := a_exponent) (a_coefficient := a_coefficient) (a_minus := a_minus) (Or.inr rfl) (Or.inl rfl) (by omega) ?_ E.toNat 0 (by omega) (E.toNat + 1) (by omega) row2 (by rw [Nat.pow_zero, Nat.mul_one]; exact hr2)
    · rw [← eE] at hl
      exact hl
    · intro row hr
      refine br_t rfl ?_
      rw [S0.2.1]
      exact RY _ _ _ _ _ _ _ _ _ _ _ (yr_R_b hb10 hr) (fun u' h1 h2 => HO u' h1 h2)
  · have hP : fm_P 10 = 230 := rfl
    refine yw_clay (b := 10) (E := E) (C := C) (Or.inr rfl) (by omega) (by omega) (by omega) (hNl _ (by omega)) hz1 ?_
    intro row2 hr2 _
    change yr_R 10 row2 0 (C * 10 ^ (E + 230).toNat) at hr2
    dsimp only
    obtain ⟨Kn, hKn⟩ : ∃ Kn : Nat, Kn = (-E).toNat := ⟨_, rfl⟩
    have RY := hneg h0
    rw [← hKn] at RY
    have eE : E = -(Kn : Int) := by omega
    refine ⟨0 + 1, ?_⟩
    refine br_t (by rw [show (0 : Int32) = zz_I 0 by decide, zz_Ile (by unfold zz_R; omega) (by unfold zz_R; omega)]; omega) ⟨Kn + 1, ?_⟩
    have hl := yv_71t (post := post) (f := f) (N1 := C * 10 ^ (E + 230).toNat) (K := Kn) (x4 := zz_I E) (f_attribute := nI m) (f_raised := f_raised) (f_trapped := f_trapped) (f_more := 0) (f_made := f_made) (a_format := a_format) (a_pattern := a_pattern) (a_kind := a_kind) (a_exponent := a_exponent) (a_coefficient := a_coefficient) (a_minus := a_minus) (by omega) ?_ Kn 0 (by omega) (Kn + 1) (by omega) row2 (by rw [Nat.pow_zero, Nat.mul_one]; exact hr2)
    · rw [← eE] at hl
      exact hl
    · intro row hr
      rw [S0.2.1]
      exact RY _ _ _ _ _ _ _ _ _ _ _ (yr_R_b hb10 hr) (fun u' h1 h2 => HO u' h1 h2)
/-- the component's convert, between bases -/
theorem xs_conv0 {f fg m M : Nat} {E : Int} {fl pt : Int32} (hf : f < 4) (hfg : fg < 4) (R : ∀ pw, bt_XR f m M 0 0 pw (if fm_b fg = 2 then 0 else E) fl pt) : un_X (fun post u d => wpX_convert post u d (nI fg)) f m M 0 E fl pt := by
  intro f_raised f_trapped f_exact a_format a_bits a_kind a_minus a_coefficient a_exponent a_wide post d hd ef HD
  have hb := fm_b2 f
  have hbg := fm_b2 fg
  have h27 : wX_convert_27 post (nI d) (nI fg) f_raised f_trapped (nI m) (nI M) (lN 0) (zz_I E) 0 (zz_I E) f_exact a_format a_bits a_kind a_minus a_coefficient a_exponent a_wide := by
    rw [wX_convert_27]
    refine xw_baseOf hfg ?_
    refine pk_eq (fm_b fg) 2 (fun h => ?_) (fun h => ?_) (ha := by omega)
    · rw [if_pos h] at R
      exact R E _ _ _ _ _ _ _ _ _ _ _ d hd ef (fun u' h => HD u' h)
    · rw [if_neg h] at R
      exact R E _ _ _ _ _ _ _ _ _ _ _ d hd ef (fun u' h => HD u' h)
  refine And.intro (vp_in_nI hd (by decide)) ?_
  rw [nI_clamp (show d < 2 ^ 31 by omega), ef]
  refine xw_baseOf hf ?_
  refine xw_baseOf hfg ?_
  exact br_c (fun _ => h27) (fun _ => br_t rfl h27)
theorem bo_conv2 {f fg m K M C : Nat} {E : Int} (hf : f < 4) (hfg : fg < 4) (hm : m < 5) (hb2 : fm_b f = 2) (hg : fm_b fg = 10) (V : op_V (fm_b fg) K M C E) : ∃ fl pt : Int32, bt_ok f fl pt ∧ un_X (fun post u d => wpX_convert post u d (nI fg)) f m M C E fl pt ∧ un_Y (fun post u => wpY_converted post u (nI f) (nI (fm_b fg))) f m K M C E fl pt := by
  obtain ⟨hK, hM, v⟩ := id V
  rw [hg] at v
  have hv : C < 10000000 ∧ -101 ≤ E ∧ E ≤ 90 := by omega
  rw [hg]
  by_cases hz : C = 0
  · obtain ⟨pt, ok, RX, RY⟩ := bt_zero (m := m) (s := M) (w := E) hf hM (by omega)
    refine ⟨0, pt, ok, ?_, ys_conv2 hf hb2 hM hv (fun _ => ?_) (fun _ => ?_)⟩
    · rw [hz]
      refine xs_conv0 hf hfg (fun pw => ?_)
      rw [if_neg (by omega)]
      exact RX pw
    · rw [hz, Nat.zero_mul, Nat.zero_mul]
      exact RY
    · rw [hz, Nat.zero_mul, Nat.zero_div, Nat.zero_mod, if_pos rfl]
      exact RY
  have hC0 : 0 < C := by omega
  have hP : fm_P (fm_b f) = 450 := by rw [hb2]; rfl
  have e12 : (4294967296 : Nat) ^ 12 = 2 ^ 384 := by
    have e : (4294967296 : Nat) = 2 ^ 32 := by decide
    rw [e, ← Nat.pow_mul]
  have hC24 : C < 2 ^ 24 := by omega
  have hp24 : fm_b f ^ fm_p f ≤ 2 ^ 24 := by
    have hff := fm_facts hf
    rw [hb2]
    exact dg_pow_le (by decide) (by omega)
  -- the two pictures
  have main : ∀ (A D N0 N mo : Nat) (pw0 : Int), 0 < D → N0 = A / rn_M D 2 450 pw0 → N0 < 4294967296 ^ 14 → (-400 < pw0 ∧ pw0 ≤ 0) → (A % rn_M D 2 450 pw0 = 0 ∨ 2 ^ 24 ≤ N0) → 0 < N0 → yr_Y A D 2 450 N mo (-450) → N < 2 ^ 800 → 2 ^ 24 ≤ A / rn_M D 2 450 (-450) → (0 ≤ E → N0 = C * 10 ^ E.toNat ∧ pw0 = 0) → (E < 0 → N0 = C * 4294967296 ^ 12 / 10 ^ (-E).toNat ∧ pw0 = -384 ∧ C * 4294967296 ^ 12 < 4294967296 ^ 14) → (A % rn_M D 2 450 pw0 = 0 ↔ (E < 0 → C * 4294967296 ^ 12 % 10 ^ (-E).toNat = 0)) → (0 ≤ E → N = C * 2 ^ 450 * 10 ^ E.toNat ∧ mo = 0) → (E < 0 → N = C * 2 ^ 450 / 10 ^ (-E).toNat ∧ mo = (if C * 2 ^ 450 % 10 ^ (-E).toNat = 0 then 0 else 1)) → ∃ fl pt : Int32, bt_ok f fl pt ∧ un_X (fun post u d => wpX_convert post u d (nI fg)) f m M C E fl pt ∧ un_Y (fun post u => wpY_converted post u (nI f) (nI 10)) f m K M C E fl pt := by
    intro A D N0 N mo pw0 hD hN0 h448 hpw hbig hN0p hYY hN hyy hpos hneg hrem hYpos hYneg
    have hYY' : yr_Y A D (fm_b f) (fm_P (fm_b f)) N mo (-(fm_P (fm_b f) : Int)) := by
      rw [hb2]
      exact hYY
    have hj := bt_conv (A := A) (D := D) (N0 := N0) (N := N) (mo := mo) (pw0 := pw0) (m := m) (s := M) (w := 0) (w' := E) hf hm hM (by omega) (by omega) (Or.inr hb2) hD (by rw [hP, hb2]; exact hN0) h448 (by omega) (by
      rw [hP]
      rcases hbig with h | h
      · left
        rw [hb2]
        exact h
      · right
        omega) hN0p hYY' (by rw [hb2]; exact hN) (by rw [hP, hb2] at *; exact Nat.le_trans hp24 hyy)
    obtain ⟨j, r, j1, j2, j3, j4, fl, pt, ok, RX, RY⟩ := hj
    rw [hP, hb2] at j4
    rw [hb2] at j1 j2 RX
    refine ⟨fl, pt, ok, ?_, ys_conv2 hf hb2 hM hv (fun h => ?_) (fun h => ?_)⟩
    · intro f_raised f_trapped f_exact a_format a_bits a_kind a_minus a_coefficient a_exponent a_wide post d hd ef HD
      refine And.intro (vp_in_nI hd (by decide)) ?_
      rw [nI_clamp (show d < 2 ^ 31 by omega), ef]
      refine xw_baseOf hf ?_
      refine xw_baseOf hfg ?_
      rw [hb2, hg]
      refine br_f (by decide) (zz_leq C 0 (fun h => absurd h hz) (fun _ => ?_))
      refine wd_spread (C := C) rfl (by omega) ?_
      intro w hw
      dsimp only
      refine br_t rfl ?_
      refine xw_toBin (C := C) (j := j) (N0 := N0) (pw0 := pw0) (by omega) (by omega) h448 j1 j2 hpos hneg hw ?_
      intro w2 r2 hr2 hr20
      have er : r2 = r := by
        have := (hr20.trans (and_congr_left' hrem.symm)).trans j4.symm
        omega
      rw [er]
      exact RX _ _ _ _ _ _ _ _ _ _ _ d hd ef (fun u' h => HD u' h)
    · obtain ⟨a1, a2⟩ := hYpos h
      rw [← a1, ← a2]
      exact RY
    · obtain ⟨a1, a2⟩ := hYneg h
      rw [← a1, ← a2]
      exact RY
  by_cases h0 : 0 ≤ E
  · have e90 := cv_90 E.toNat (by omega)
    have p0 : 0 < 10 ^ E.toNat := Nat.pow_pos (by decide)
    have q0 : (0 : Nat) < 2 ^ 450 := Nat.pow_pos (by decide)
    have eM : rn_M 1 2 450 0 = 2 ^ 450 := rfl
    have eMm : rn_M 1 2 450 (-450) = 1 := rfl
    have eA : C * 2 ^ 450 * 10 ^ E.toNat = C * 10 ^ E.toNat * 2 ^ 450 := by
      rw [Nat.mul_assoc, Nat.mul_comm (2 ^ 450), ← Nat.mul_assoc]
    have hlt : C * 10 ^ E.toNat < 2 ^ 324 := by
      have h1 : C * 10 ^ E.toNat ≤ C * 2 ^ 300 := Nat.mul_le_mul_left _ e90
      have h2 : C * 2 ^ 300 < 2 ^ 24 * 2 ^ 300 := Nat.mul_lt_mul_of_pos_right hC24 (Nat.pow_pos (by decide))
      rw [← Nat.pow_add] at h2
      exact Nat.lt_of_le_of_lt h1 h2
    have hdv : C * 2 ^ 450 * 10 ^ E.toNat / rn_M 1 2 450 0 = C * 10 ^ E.toNat := by
      rw [eM, eA, Nat.mul_div_cancel _ q0]
    have hmd : C * 2 ^ 450 * 10 ^ E.toNat % rn_M 1 2 450 0 = 0 := by
      rw [eM, eA, Nat.mul_mod_left]
    refine main (C * 2 ^ 450 * 10 ^ E.toNat) 1 (C * 10 ^ E.toNat) (C * 2 ^ 450 * 10 ^ E.toNat) 0 0 (by decide) hdv.symm ?_ (by omega) (Or.inl hmd) (Nat.mul_pos hC0 p0) (yr_Yx (b := 2) (by decide)) ?_ ?_ (fun _ => ⟨rfl, rfl⟩) (fun h => absurd h (by omega)) ⟨fun _ h => absurd h (by omega), fun _ => hmd⟩ (fun _ => ⟨rfl, rfl⟩) (fun h => absurd h (by omega))
    · rw [wd_B]
      exact Nat.lt_of_lt_of_le hlt (dg_pow_le (by decide) (by decide))
    · rw [eA]
      have h3 : C * 10 ^ E.toNat * 2 ^ 450 < 2 ^ 324 * 2 ^ 450 := Nat.mul_lt_mul_of_pos_right hlt q0
      rw [← Nat.pow_add] at h3
      exact Nat.lt_of_lt_of_le h3 (dg_pow_le (by decide) (by decide))
    · rw [eMm, Nat.div_one, eA]
      have h4 : (2 : Nat) ^ 24 ≤ 2 ^ 450 := dg_pow_le (by decide) (by decide)
      exact Nat.le_trans h4 (Nat.le_mul_of_pos_left _ (Nat.mul_pos hC0 p0))
  · have eK := cv_10 (-E).toNat (by omega)
    have p0 : 0 < 10 ^ (-E).toNat := Nat.pow_pos (by decide)
    have q66 : (0 : Nat) < 2 ^ 66 := Nat.pow_pos (by decide)
    have eM : rn_M (10 ^ (-E).toNat) 2 450 (-384) = 10 ^ (-E).toNat * 2 ^ 66 := rfl
    have eMm : rn_M (10 ^ (-E).toNat) 2 450 (-450) = 10 ^ (-E).toNat := by
      show 10 ^ (-E).toNat * 2 ^ 0 = 10 ^ (-E).toNat
      rw [Nat.pow_zero, Nat.mul_one]
    have eA : C * 2 ^ 450 = C * 2 ^ 384 * 2 ^ 66 := by rw [Nat.mul_assoc, ← Nat.pow_add]
    obtain ⟨d1, d2⟩ := cv_div (a := C * 2 ^ 384) (b := 10 ^ (-E).toNat) q66
    have hdv : C * 2 ^ 450 / rn_M (10 ^ (-E).toNat) 2 450 (-384) = C * 4294967296 ^ 12 / 10 ^ (-E).toNat := by
      rw [eM, eA, d1, e12]
    have hmd : C * 2 ^ 450 % rn_M (10 ^ (-E).toNat) 2 450 (-384) = 0 ↔ C * 4294967296 ^ 12 % 10 ^ (-E).toNat = 0 := by
      rw [eM, eA, d2, e12]
    have hbigN : 2 ^ 24 ≤ C * 4294967296 ^ 12 / 10 ^ (-E).toNat := by
      rw [Nat.le_div_iff_mul_le p0, e12]
      have h1 : 2 ^ 24 * 10 ^ (-E).toNat ≤ 2 ^ 24 * 2 ^ 340 := Nat.mul_le_mul_left _ eK
      rw [← Nat.pow_add] at h1
      have h2 : (2 : Nat) ^ (24 + 340) ≤ 2 ^ 384 := dg_pow_le (by decide) (by decide)
      exact Nat.le_trans h1 (Nat.le_trans h2 (Nat.le_mul_of_pos_left _ hC0))
    have h408 : C * 4294967296 ^ 12 < 4294967296 ^ 14 := by
      rw [e12, wd_B]
      have h2 : C * 2 ^ 384 < 2 ^ 24 * 2 ^ 384 := Nat.mul_lt_mul_of_pos_right hC24 (Nat.pow_pos (by decide))
      rw [← Nat.pow_add] at h2
      exact Nat.lt_of_lt_of_le h2 (dg_pow_le (by decide) (by decide))
    have hp24' : 0 < 2 ^ 24 := by decide
    refine main (C * 2 ^ 450) (10 ^ (-E).toNat) (C * 4294967296 ^ 12 / 10 ^ (-E).toNat) (C * 2 ^ 450 / 10 ^ (-E).toNat) (if C * 2 ^ 450 % 10 ^ (-E).toNat = 0 then 0 else 1) (-384) p0 hdv.symm (Nat.lt_of_le_of_lt (Nat.div_le_self _ _) h408) (by omega) (Or.inr hbigN) (by omega) (qu_Y (b := 2)) ?_ ?_ (fun h => absurd h h0) (fun _ => ⟨rfl, rfl, h408⟩) ⟨fun h _ => hmd.mp h, fun h => hmd.mpr (h (by omega))⟩ (fun h => absurd h h0) (fun _ => ⟨rfl, rfl⟩)
    · have h2 : C * 2 ^ 450 < 2 ^ 24 * 2 ^ 450 := Nat.mul_lt_mul_of_pos_right hC24 (Nat.pow_pos (by decide))
      rw [← Nat.pow_add] at h2
      exact Nat.lt_of_le_of_lt (Nat.div_le_self _ _) (Nat.lt_of_lt_of_le h2 (dg_pow_le (by decide) (by decide)))
    · rw [eMm, Nat.le_div_iff_mul_le p0]
      have h1 : 2 ^ 24 * 10 ^ (-E).toNat ≤ 2 ^ 24 * 2 ^ 340 := Nat.mul_le_mul_left _ eK
      rw [← Nat.pow_add] at h1
      have h2 : (2 : Nat) ^ (24 + 340) ≤ 2 ^ 450 := dg_pow_le (by decide) (by decide)
      exact Nat.le_trans h1 (Nat.le_trans h2 (Nat.le_mul_of_pos_left _ hC0))
end
section
/-! conversions to base ten -/
theorem bo_conv10 {f fg m K M C : Nat} {E : Int} (hf : f < 4) (hfg : fg < 4) (hm : m < 5) (hb2 : fm_b f = 10) (hg : fm_b fg = 2) (V : op_V (fm_b fg) K M C E) : ∃ fl pt : Int32, bt_ok f fl pt ∧ un_X (fun post u d => wpX_convert post u d (nI fg)) f m M C E fl pt ∧ un_Y (fun post u => wpY_converted post u (nI f) (nI (fm_b fg))) f m K M C E fl pt := by
  obtain ⟨hK, hM, v⟩ := id V
  rw [hg] at v
  have hv : C < 16777216 ∧ -149 ≤ E ∧ E ≤ 104 := by omega
  rw [hg]
  by_cases hz : C = 0
  · obtain ⟨pt, ok, RX, RY⟩ := bt_zero (m := m) (s := M) (w := 0) hf hM (by omega)
    refine ⟨0, pt, ok, ?_, ys_conv10 hf hb2 hM hv (fun _ => ?_) (fun _ => ?_)⟩
    · rw [hz]
      refine xs_conv0 hf hfg (fun pw => ?_)
      rw [if_pos hg]
      exact RX pw
    · rw [hz, Nat.zero_mul]
      exact RY
    · rw [hz, Nat.zero_mul, Nat.zero_mul]
      exact RY
  have hC0 : 0 < C := by omega
  have hP : fm_P (fm_b f) = 230 := by rw [hb2]; rfl
  have hC24 : C < 2 ^ 24 := by omega
  have hC8 : C < 10 ^ 8 := by omega
  have hp7 : fm_b f ^ fm_p f ≤ 10 ^ 7 := by
    have hff := fm_facts hf
    rw [hb2]
    exact dg_pow_le (by decide) (by omega)
  -- the two pictures
  have main : ∀ (A D N0 N : Nat) (pw0 : Int), 0 < D → N0 = A / rn_M D 10 230 pw0 → N0 < 4294967296 ^ 14 → (-200 < pw0 ∧ pw0 ≤ 0) → (A % rn_M D 10 230 pw0 = 0 ∨ 10 ^ 7 ≤ N0) → 0 < N0 → yr_Y A D 10 230 N 0 (-230) → N < 10 ^ 800 → 10 ^ 7 ≤ A / rn_M D 10 230 (-230) → (0 ≤ E → N0 = C * 2 ^ E.toNat ∧ pw0 = 0) → (E < 0 → N0 = C * 10 ^ 60 / 2 ^ (-E).toNat ∧ pw0 = -60 ∧ C * 10 ^ 60 < 4294967296 ^ 14) → (A % rn_M D 10 230 pw0 = 0 ↔ (E < 0 → C * 10 ^ 60 % 2 ^ (-E).toNat = 0)) → (0 ≤ E → N = C * 10 ^ 230 * 2 ^ E.toNat) → (E < 0 → N = C * 10 ^ (E + 230).toNat * 5 ^ (-E).toNat) → ∃ fl pt : Int32, bt_ok f fl pt ∧ un_X (fun post u d => wpX_convert post u d (nI fg)) f m M C E fl pt ∧ un_Y (fun post u => wpY_converted post u (nI f) (nI 2)) f m K M C E fl pt := by
    intro A D N0 N pw0 hD hN0 h448 hpw hbig hN0p hYY hN hyy hpos hneg hrem hYpos hYneg
    have hYY' : yr_Y A D (fm_b f) (fm_P (fm_b f)) N 0 (-(fm_P (fm_b f) : Int)) := by
      rw [hb2]
      exact hYY
    have hj := bt_conv (A := A) (D := D) (N0 := N0) (N := N) (mo := 0) (pw0 := pw0) (m := m) (s := M) (w := 0) (w' := 0) hf hm hM (by omega) (by omega) (Or.inl rfl) hD (by rw [hP, hb2]; exact hN0) h448 (by omega) (by
      rw [hP]
      rcases hbig with h | h
      · left
        rw [hb2]
        exact h
      · right
        exact Nat.le_trans hp7 h) hN0p hYY' (by rw [hb2]; exact hN) (by rw [hP, hb2] at *; exact Nat.le_trans hp7 hyy)
    obtain ⟨j, r, j1, j2, j3, j4, fl, pt, ok, RX, RY⟩ := hj
    rw [hP, hb2] at j4
    rw [hb2] at j1 j2 RX
    refine ⟨fl, pt, ok, ?_, ys_conv10 hf hb2 hM hv (fun h => ?_) (fun h => ?_)⟩
    · intro f_raised f_trapped f_exact a_format a_bits a_kind a_minus a_coefficient a_exponent a_wide post d hd ef HD
      refine And.intro (vp_in_nI hd (by decide)) ?_
      rw [nI_clamp (show d < 2 ^ 31 by omega), ef]
      refine xw_baseOf hf ?_
      refine xw_baseOf hfg ?_
      rw [hb2, hg]
      refine br_f (by decide) (zz_leq C 0 (fun h => absurd h hz) (fun _ => ?_))
      refine wd_spread (C := C) rfl (by omega) ?_
      intro w hw
      dsimp only
      refine br_f (by decide) ?_
      refine xw_toDec (C := C) (j := j) (N0 := N0) (pw0 := pw0) (by omega) h448 j1 j2 hpos hneg hw ?_
      intro w2 r2 hr2 hr20
      have er : r2 = r := by
        have := (hr20.trans (and_congr_left' hrem.symm)).trans j4.symm
        omega
      rw [er]
      exact RX _ _ _ _ _ _ _ _ _ _ _ d hd ef (fun u' h => HD u' h)
    · rw [← hYpos h]
      exact RY
    · rw [← hYneg h]
      exact RY
  by_cases h0 : 0 ≤ E
  · have e104 := cv_2 E.toNat (by omega)
    have p0 : 0 < 2 ^ E.toNat := Nat.pow_pos (by decide)
    have q0 : (0 : Nat) < 10 ^ 230 := Nat.pow_pos (by decide)
    have eM : rn_M 1 10 230 0 = 10 ^ 230 := by
      show 1 * 10 ^ 230 = 10 ^ 230
      rw [Nat.one_mul]
    have eMm : rn_M 1 10 230 (-230) = 1 := rfl
    have eA : C * 10 ^ 230 * 2 ^ E.toNat = C * 2 ^ E.toNat * 10 ^ 230 := by
      rw [Nat.mul_assoc, Nat.mul_comm (10 ^ 230), ← Nat.mul_assoc]
    have hlt : C * 2 ^ E.toNat < 10 ^ 58 := by
      have h1 : C * 2 ^ E.toNat ≤ C * 10 ^ 50 := Nat.mul_le_mul_left _ e104
      have h2 : C * 10 ^ 50 < 10 ^ 8 * 10 ^ 50 := Nat.mul_lt_mul_of_pos_right hC8 (Nat.pow_pos (by decide))
      rw [← Nat.pow_add] at h2
      exact Nat.lt_of_le_of_lt h1 h2
    have hdv : C * 10 ^ 230 * 2 ^ E.toNat / rn_M 1 10 230 0 = C * 2 ^ E.toNat := by
      rw [eM, eA, Nat.mul_div_cancel _ q0]
    have hmd : C * 10 ^ 230 * 2 ^ E.toNat % rn_M 1 10 230 0 = 0 := by
      rw [eM, eA, Nat.mul_mod_left]
    refine main (C * 10 ^ 230 * 2 ^ E.toNat) 1 (C * 2 ^ E.toNat) (C * 10 ^ 230 * 2 ^ E.toNat) 0 (by decide) hdv.symm ?_ (by omega) (Or.inl hmd) (Nat.mul_pos hC0 p0) (yr_Yx (b := 10) (by decide)) ?_ ?_ (fun _ => ⟨rfl, rfl⟩) (fun h => absurd h (by omega)) ⟨fun _ h => absurd h (by omega), fun _ => hmd⟩ (fun _ => rfl) (fun h => absurd h (by omega))
    · rw [wd_B]
      exact Nat.lt_of_lt_of_le hlt (Nat.le_trans (cv_90 58 (by decide)) (dg_pow_le (by decide) (by decide)))
    · rw [eA]
      have h3 : C * 2 ^ E.toNat * 10 ^ 230 < 10 ^ 58 * 10 ^ 230 := Nat.mul_lt_mul_of_pos_right hlt q0
      rw [← Nat.pow_add] at h3
      exact Nat.lt_of_lt_of_le h3 (dg_pow_le (by decide) (by decide))
    · rw [eMm, Nat.div_one, eA]
      have h4 : (10 : Nat) ^ 7 ≤ 10 ^ 230 := dg_pow_le (by decide) (by decide)
      exact Nat.le_trans h4 (Nat.le_mul_of_pos_left _ (Nat.mul_pos hC0 p0))
  · obtain ⟨Kn, hKn⟩ : ∃ Kn : Nat, Kn = (-E).toNat := ⟨_, rfl⟩
    have eE2 : (E + 230).toNat = 230 - Kn := by omega
    rw [← hKn, eE2] at main
    have eK := cv_2 Kn (by omega)
    have p0 : 0 < 2 ^ Kn := Nat.pow_pos (by decide)
    have q66 : (0 : Nat) < 10 ^ 170 := Nat.pow_pos (by decide)
    have eM : rn_M (2 ^ Kn) 10 230 (-60) = 2 ^ Kn * 10 ^ 170 := rfl
    have eMm : rn_M (2 ^ Kn) 10 230 (-230) = 2 ^ Kn := by
      show 2 ^ Kn * 10 ^ 0 = 2 ^ Kn
      rw [Nat.pow_zero, Nat.mul_one]
    have eA : C * 10 ^ 230 = C * 10 ^ 60 * 10 ^ 170 := by rw [Nat.mul_assoc, ← Nat.pow_add]
    have e10 : (10 : Nat) ^ 230 = 10 ^ (230 - Kn) * (5 ^ Kn * 2 ^ Kn) := by
      rw [← Nat.mul_pow, ← Nat.pow_add]
      congr 1
      omega
    have eN : C * 10 ^ 230 = C * 10 ^ (230 - Kn) * 5 ^ Kn * 2 ^ Kn := by
      rw [e10, ← Nat.mul_assoc, ← Nat.mul_assoc]
    obtain ⟨d1, d2⟩ := cv_div (a := C * 10 ^ 60) (b := 2 ^ Kn) q66
    have hdv : C * 10 ^ 230 / rn_M (2 ^ Kn) 10 230 (-60) = C * 10 ^ 60 / 2 ^ Kn := by
      rw [eM, eA, d1]
    have hmd : C * 10 ^ 230 % rn_M (2 ^ Kn) 10 230 (-60) = 0 ↔ C * 10 ^ 60 % 2 ^ Kn = 0 := by
      rw [eM, eA, d2]
    have hbigN : 10 ^ 7 ≤ C * 10 ^ 60 / 2 ^ Kn := by
      rw [Nat.le_div_iff_mul_le p0]
      have h1 : 10 ^ 7 * 2 ^ Kn ≤ 10 ^ 7 * 10 ^ 50 := Nat.mul_le_mul_left _ eK
      rw [← Nat.pow_add] at h1
      have h2 : (10 : Nat) ^ (7 + 50) ≤ 10 ^ 60 := dg_pow_le (by decide) (by decide)
      exact Nat.le_trans h1 (Nat.le_trans h2 (Nat.le_mul_of_pos_left _ hC0))
    have h408 : C * 10 ^ 60 < 4294967296 ^ 14 := by
      rw [wd_B]
      have h1 : C * 10 ^ 60 ≤ C * 2 ^ 300 := Nat.mul_le_mul_left _ (cv_90 60 (by decide))
      have h2 : C * 2 ^ 300 < 2 ^ 24 * 2 ^ 300 := Nat.mul_lt_mul_of_pos_right hC24 (Nat.pow_pos (by decide))
      rw [← Nat.pow_add] at h2
      exact Nat.lt_of_lt_of_le (Nat.lt_of_le_of_lt h1 h2) (dg_pow_le (by decide) (by decide))
    have h7 : 0 < 10 ^ 7 := by decide
    have hNd : C * 10 ^ 230 / 2 ^ Kn = C * 10 ^ (230 - Kn) * 5 ^ Kn := by
      rw [eN, Nat.mul_div_cancel _ p0]
    have hNm : C * 10 ^ 230 % 2 ^ Kn = 0 := by
      rw [eN, Nat.mul_mod_left]
    have hYq := qu_Y (A := C * 10 ^ 230) (D := 2 ^ Kn) (b := 10)
    rw [if_pos hNm, hNd] at hYq
    refine main (C * 10 ^ 230) (2 ^ Kn) (C * 10 ^ 60 / 2 ^ Kn) (C * 10 ^ (230 - Kn) * 5 ^ Kn) (-60) p0 hdv.symm (Nat.lt_of_le_of_lt (Nat.div_le_self _ _) h408) (by omega) (Or.inr hbigN) (by omega) hYq ?_ ?_ (fun h => absurd h h0) (fun _ => ⟨rfl, rfl, h408⟩) ⟨fun h _ => hmd.mp h, fun h => hmd.mpr (h (by omega))⟩ (fun h => absurd h h0) (fun _ => rfl)
    · rw [← hNd]
      have h2 : C * 10 ^ 230 < 10 ^ 8 * 10 ^ 230 := Nat.mul_lt_mul_of_pos_right hC8 (Nat.pow_pos (by decide))
      rw [← Nat.pow_add] at h2
      exact Nat.lt_of_le_of_lt (Nat.div_le_self _ _) (Nat.lt_of_lt_of_le h2 (dg_pow_le (by decide) (by decide)))
    · rw [eMm, Nat.le_div_iff_mul_le p0]
      have h1 : 10 ^ 7 * 2 ^ Kn ≤ 10 ^ 7 * 10 ^ 50 := Nat.mul_le_mul_left _ eK
      rw [← Nat.pow_add] at h1
      have h2 : (10 : Nat) ^ (7 + 50) ≤ 10 ^ 230 := dg_pow_le (by decide) (by decide)
      exact Nat.le_trans h1 (Nat.le_trans h2 (Nat.le_mul_of_pos_left _ hC0))
end
section
/-! unary: same-base conversion, opening, dispatch -/
theorem bo_same {f fg m K M C : Nat} {E : Int} (hf : f < 4) (hfg : fg < 4) (hm : m < 5) (hg : fm_b fg = fm_b f) (V : op_V (fm_b f) K M C E) : ∃ fl pt : Int32, bt_ok f fl pt ∧ un_X (fun post u d => wpX_convert post u d (nI fg)) f m M C E fl pt ∧ (∀ (f_raised : Int32) (f_trapped : Int32) (f_more : Int32) (f_made : Int32) (a_format : Nat → Int32) (a_pattern : Nat → Int32) (a_kind : Nat → Int32) (a_exponent : Nat → Int32) (a_coefficient : Nat → Int64) (a_minus : Nat → Int32) (a_row : Nat → Int32) (post : Int32 → SY → Prop) (d : Nat) (v4 : Int32), d < 8 → a_format d = nI f → op_Sl a_kind a_minus a_coefficient a_exponent 0 K M C E → ys_D post f_raised f_trapped (nI m) a_format a_pattern d fl pt → wY_unary_224 post 0 (nI d) v4 (nI f) (nI (fm_b f)) (nI m) f_raised f_trapped f_more f_made a_format a_pattern a_kind a_exponent a_coefficient a_minus a_row) := by
  obtain ⟨hK, hM, v⟩ := id V
  obtain ⟨hb, q1, q2, q3, q4, q5⟩ := sm_Vb (op_Vs V)
  obtain ⟨l0, g0⟩ := sm_N_lt (op_Vs V)
  have l0' := sm_799 hb l0
  obtain ⟨w, hw⟩ : ∃ w : Int, w = if fm_b fg = 2 then 0 else E := ⟨_, rfl⟩
  have hwr : -100000 < w ∧ w < 100000 := by
    rw [hw]
    split <;> omega
  have hww : w = E ∨ fm_b f = 2 := by
    rw [hw]
    split <;> omega
  obtain ⟨fl, pt, ok, RX, RY⟩ := bt_sum2 (m := m) (s := M) (w := w) (w' := E) hf hm hM hwr (by omega) hww (sm_FN (op_Vs V)) l0'
  refine ⟨fl, pt, ok, ?_, ?_⟩
  · intro f_raised f_trapped f_exact a_format a_bits a_kind a_minus a_coefficient a_exponent a_wide post d hd ef HD
    have hb' := fm_b2 fg
    have h27 : wX_convert_27 post (nI d) (nI fg) f_raised f_trapped (nI m) (nI M) (lN C) (zz_I E) 0 (zz_I E) f_exact a_format a_bits a_kind a_minus a_coefficient a_exponent a_wide := by
      rw [wX_convert_27]
      refine xw_baseOf hfg ?_
      refine pk_eq (fm_b fg) 2 (fun h => ?_) (fun h => ?_) (ha := by omega)
      · rw [if_pos h] at hw
        rw [hw] at RX
        exact RX _ _ _ _ _ _ _ _ _ _ _ d hd ef (fun u' h => HD u' h)
      · rw [if_neg h] at hw
        rw [hw] at RX
        exact RX _ _ _ _ _ _ _ _ _ _ _ d hd ef (fun u' h => HD u' h)
    refine And.intro (vp_in_nI hd (by decide)) ?_
    rw [nI_clamp (show d < 2 ^ 31 by omega), ef]
    refine xw_baseOf hf ?_
    refine xw_baseOf hfg ?_
    rw [hg]
    exact br_t rfl h27
  · intro f_raised f_trapped f_more f_made a_format a_pattern a_kind a_exponent a_coefficient a_minus a_row post d v4 hd ef S0 HD
    rw [wY_unary_224]
    refine br_t rfl ?_
    refine yw_clear ?_
    intro row1 hz1
    dsimp only
    rw [S0.2.2.1, S0.2.2.2]
    refine yw_clay hb q5 q1 g0 l0' hz1 ?_
    intro row2 hr2 _
    dsimp only
    rw [S0.2.1, S0.2.2.2]
    refine RY _ _ _ _ _ _ _ _ _ _ _ hr2 ?_
    intro u' h1 h2
    exact yw_finish h1 hd hf ef ok h2 (fun v' hv => HD v' hv)
def un_lo (K : Nat) : Nat := if K = 0 then 1 else 0
theorem un_lo_of {K lo : Nat} (h1 : lo < 2) (h2 : lo = 0 ↔ ∀ j, j < 1 → ¬ (fun _ => K) j = 0) : lo = un_lo K := by
  unfold un_lo
  by_cases h : K = 0
  · rw [if_pos h]
    have : ¬ lo = 0 := fun h3 => h2.mp h3 0 (by decide) h
    omega
  · rw [if_neg h]
    exact h2.mpr (fun _ _ => h)
theorem un_kk {K : Nat} {ak : Nat → Int32} (hK : K < 4) (h : ak 0 = nI K) : ∀ j, j < 1 → ak j = nI ((fun _ => K) j) ∧ (fun _ => K) j < 4 := by
  intro j hj
  obtain rfl : j = 0 := by omega
  exact ⟨h, hK⟩
theorem xw_75 {f_raised : Int32} {f_trapped : Int32} {f_mode : Int32} {f_below : Int32} {f_value : Int64} {f_power : Int32} {f_rest : Int32} {f_wish : Int32} {f_exact : Int32} {a_format : Nat → Int32} {a_bits : Nat → Int32} {a_kind : Nat → Int32} {a_minus : Nat → Int32} {a_coefficient : Nat → Int64} {a_exponent : Nat → Int32} {a_wide : Nat → Int32} {post : Int32 → SX → Prop} {op d a f fa : Nat} {v4 : Int32} (hop : op < 6) (hd : d < 8) (ha : a < 8) (hf : f < 4) (hfa : fa < 4) (ef : a_format d = nI f) (efa : a_format a = nI fa) (HN : op_K fa (a_bits a) < 2 → xs_D post f_raised f_trapped f_mode a_format a_bits d (nI (un_lo (op_K fa (a_bits a)))) (pa_nan f)) (H : ¬ op_K fa (a_bits a) < 2 → ∀ (ak am : Nat → Int32) (ac : Nat → Int64) (ae : Nat → Int32), op_Sl ak am ac ae 0 (op_K fa (a_bits a)) (op_M fa (a_bits a)) (op_C fa (a_bits a)) (op_E fa (a_bits a)) → ((op = 3 ∨ op = 4) → wX_unary_107 post (nI op) (nI d) f_raised f_trapped f_mode f_below f_value f_power f_rest f_wish f_exact a_format a_bits ak am ac ae a_wide) ∧ (¬ (op = 3 ∨ op = 4) → (op = 1 ∧ ¬ op_M fa (a_bits a) = 0 ∧ ¬ (op_K fa (a_bits a) = 3 ∧ op_C fa (a_bits a) = 0)) → wpX_invalid post (f_raised, f_trapped, f_mode, f_below, f_value, f_power, f_rest, f_wish, f_exact, a_format, a_bits, ak, am, ac, ae, a_wide) (nI d)) ∧ (¬ (op = 3 ∨ op = 4) → ¬ (op = 1 ∧ ¬ op_M fa (a_bits a) = 0 ∧ ¬ (op_K fa (a_bits a) = 3 ∧ op_C fa (a_bits a) = 0)) → wX_unary_155 post (nI op) (nI d) (nI a) v4 f_raised f_trapped f_mode f_below f_value f_power f_rest f_wish f_exact a_format a_bits ak am ac ae a_wide)) : wX_unary_75 post (nI op) (nI d) (nI a) v4 f_raised f_trapped f_mode f_below f_value f_power f_rest f_wish f_exact a_format a_bits a_kind a_minus a_coefficient a_exponent a_wide := by
  have V := op_Vof hfa rfl (a_bits a)
  obtain ⟨hK, hM, v⟩ := id V
  rw [wX_unary_75]
  refine xw_open (k := 0) ha (by decide) hfa efa ?_
  intro ak am ac ae S0 _
  dsimp only
  refine xw_nans (many := 1) hd hf ef (by decide) (un_kk hK S0.1) (fun hn => ?_) (fun lo h1 h2 h3 => ?_)
  · obtain ⟨A, B, D⟩ := H (hn 0 (by decide)) ak am ac ae S0
    dsimp only
    refine br_t (by decide) (pk_eq op 3 (fun h => A (Or.inl h)) (fun h3 => pk_eq op 4 (fun h => A (Or.inr h)) (fun h4 => ?_)))
    refine xw_isZero (k := 0) (by decide) hK (by omega) S0 ?_
    refine pk_eq op 1 (fun h1 => ?_) (fun h1 => D (by omega) (fun h => h1 h.1))
    rw [S0.2.1]
    have hZ := bo_Z_lt (op_K fa (a_bits a)) (op_C fa (a_bits a))
    refine pk_eq (op_M fa (a_bits a)) 0 (fun hM0 => D (by omega) (fun h => h.2.1 hM0)) (fun hM0 => pk_eq (bo_Z (op_K fa (a_bits a)) (op_C fa (a_bits a))) 0 (fun hz => B (by omega) ⟨h1, hM0, fun h => ?_⟩) (fun hz => D (by omega) (fun h => hz ?_)))
    · unfold bo_Z at hz
      rw [if_pos h] at hz
      exact absurd hz (by decide)
    · unfold bo_Z
      rw [if_neg h.2.2]
  · intro u' hu
    rw [un_lo_of h1 h2] at hu ⊢
    have hl : un_lo (op_K fa (a_bits a)) < 2 := by
      rw [← un_lo_of h1 h2]
      exact h1
    obtain ⟨z1, z2, z3, z4, z5, z6, z7, z8, z9, z10, z11, z12, z13, z14, z15, z16⟩ := u'
    refine br_f (nI_pos (by omega)) (HN ?_ _ hu)
    rcases Nat.lt_or_ge (op_K fa (a_bits a)) 2 with h | h
    · exact h
    · exact absurd (fun j _ => show ¬ op_K fa (a_bits a) < 2 by omega) h3
theorem yw_85 {f_attribute : Int32} {f_raised : Int32} {f_trapped : Int32} {f_more : Int32} {f_made : Int32} {a_format : Nat → Int32} {a_pattern : Nat → Int32} {a_kind : Nat → Int32} {a_exponent : Nat → Int32} {a_coefficient : Nat → Int64} {a_minus : Nat → Int32} {a_row : Nat → Int32} {post : Int32 → SY → Prop} {op d a f fa : Nat} {v4 : Int32} (hop : op < 6) (hd : d < 8) (ha : a < 8) (hf : f < 4) (hfa : fa < 4) (ef : a_format d = nI f) (efa : a_format a = nI fa) (HN : op_K fa (a_pattern a) < 2 → ys_D post f_raised f_trapped f_attribute a_format a_pattern d (nI (un_lo (op_K fa (a_pattern a)))) (pa_nan f)) (H : ¬ op_K fa (a_pattern a) < 2 → ∀ (ak am : Nat → Int32) (ac : Nat → Int64) (ae : Nat → Int32), op_Sl ak am ac ae 0 (op_K fa (a_pattern a)) (op_M fa (a_pattern a)) (op_C fa (a_pattern a)) (op_E fa (a_pattern a)) → ((op = 3 ∨ op = 4) → wY_unary_133 post (nI op) (nI d) (nI f) 0 f_attribute f_raised f_trapped f_more f_made a_format a_pattern ak ae ac am a_row) ∧ (¬ (op = 3 ∨ op = 4) → op_K fa (a_pattern a) = 2 → wY_unary_314 post (nI d) (nI (if op = 1 ∧ ¬ op_M fa (a_pattern a) = 0 then 1 else 0)) f_attribute f_raised f_trapped f_more (pa_inf f (op_M fa (a_pattern a))) a_format a_pattern ak ae ac am a_row) ∧ (¬ (op = 3 ∨ op = 4) → op_K fa (a_pattern a) = 3 → ((op = 0 ∧ ¬ fm_b fa = fm_b f) → wpY_converted (fun r u => match u with | (f_attribute, f_raised, f_trapped, f_more, f_made, a_format, a_pattern, a_kind, a_exponent, a_coefficient, a_minus, a_row) => wY_unary_314 post (nI d) r f_attribute f_raised f_trapped f_more f_made a_format a_pattern a_kind a_exponent a_coefficient a_minus a_row) (f_attribute, f_raised, f_trapped, f_more, f_made, a_format, a_pattern, ak, ae, ac, am, a_row) (nI f) (nI (fm_b fa))) ∧ (¬ (op = 0 ∧ ¬ fm_b fa = fm_b f) → wY_unary_224 post (nI op) (nI d) v4 (nI f) (nI (fm_b fa)) f_attribute f_raised f_trapped f_more f_made a_format a_pattern ak ae ac am a_row))) : wY_unary_85 post (nI op) (nI d) (nI a) v4 (nI f) (nI (fm_b fa)) f_attribute f_raised f_trapped f_more f_made a_format a_pattern a_kind a_exponent a_coefficient a_minus a_row := by
  have V := op_Vof hfa rfl (a_pattern a)
  obtain ⟨hK, hM, v⟩ := id V
  have hba := fm_b2 fa
  have hbf := fm_b2 f
  rw [wY_unary_85]
  refine yw_open (k := 0) ha (by decide) hfa efa ?_
  intro ak am ac ae S0 _
  dsimp only
  refine yw_nans (many := 1) (by decide) (un_kk hK S0.1) (fun hn => ?_) (fun lo h1 h2 h3 => ?_)
  · obtain ⟨A, B, D⟩ := H (hn 0 (by decide)) ak am ac ae S0
    have hn0 : ¬ op_K fa (a_pattern a) < 2 := hn 0 (by decide)
    refine br_t (by decide) (pk_eq op 3 (fun h => A (Or.inl h)) (fun h3 => pk_eq op 4 (fun h => A (Or.inr h)) (fun h4 => ?_)))
    rw [S0.1, S0.2.1]
    refine pk_eq (op_K fa (a_pattern a)) 2 (fun hk2 => ?_) (fun hk2 => ?_)
    · refine pa_winfY hf hM ?_
      have B' := B (by omega) hk2
      refine pk_eq op 1 (fun h1 => ?_) (fun h1 => ?_)
      · refine pk_eq (op_M fa (a_pattern a)) 0 (fun hM0 => ?_) (fun hM0 => ?_)
        · rw [if_neg (fun h => h.2 hM0)] at B'
          exact B'
        · rw [if_pos ⟨h1, hM0⟩] at B'
          exact B'
      · rw [if_neg (fun h => h1 h.1)] at B'
        exact B'
    · obtain ⟨D1, D2⟩ := D (by omega) (by omega)
      refine pk_eq op 0 (fun h0 => ?_) (fun h0 => D2 (fun h => h0 h.1))
      refine yw_base hf ?_
      exact pk_eq (fm_b fa) (fm_b f) (fun h => D2 (fun h' => h'.2 h)) (fun h => D1 ⟨h0, h⟩)
  · have e := un_lo_of h1 h2
    refine br_f (nI_pos (by omega)) ?_
    refine pa_wnanY hf ?_
    have hK2 : op_K fa (a_pattern a) < 2 := by
      rcases Nat.lt_or_ge (op_K fa (a_pattern a)) 2 with h | h
      · exact h
      · exact absurd (fun j _ => show ¬ op_K fa (a_pattern a) < 2 by omega) h3
    have HN' := HN hK2
    rw [← e] at HN'
    refine yw_finishT hd hf ef ?_ (Or.inr rfl) (fun v' hv => HN' v' hv)
    rcases (show lo = 0 ∨ lo = 1 by omega) with rfl | rfl
    · exact Or.inr (by decide)
    · exact Or.inl ⟨rfl, rfl⟩
end
section
/-! unary: every operation at one -/
theorem xw_155 {f_raised : Int32} {f_trapped : Int32} {f_mode : Int32} {f_below : Int32} {f_value : Int64} {f_power : Int32} {f_rest : Int32} {f_wish : Int32} {f_exact : Int32} {a_format : Nat → Int32} {a_bits : Nat → Int32} {a_kind : Nat → Int32} {a_minus : Nat → Int32} {a_coefficient : Nat → Int64} {a_exponent : Nat → Int32} {a_wide : Nat → Int32} {post : Int32 → SX → Prop} {op d a fa M C : Nat} {E n : Int} (hop : op < 6) (h3 : ¬ (op = 3 ∨ op = 4)) (hd : d < 8) (ha : a < 8) (hM : M < 2) (efa : a_format a = nI fa) (hn : -2147483648 ≤ n ∧ n < 2147483648) (S0 : op_Sl a_kind a_minus a_coefficient a_exponent 0 3 M C E) (h0 : op = 0 → wpX_convert (fun r u => match u with | (f_raised, f_trapped, f_mode, f_below, f_value, f_power, f_rest, f_wish, f_exact, a_format, a_bits, a_kind, a_minus, a_coefficient, a_exponent, a_wide) => post r (f_raised, f_trapped, f_mode, f_below, f_value, f_power, f_rest, f_wish, f_exact, a_format, a_bits, a_kind, a_minus, a_coefficient, a_exponent, a_wide)) (f_raised, f_trapped, f_mode, nI M, lN C, zz_I E, 0, zz_I E, f_exact, a_format, a_bits, a_kind, a_minus, a_coefficient, a_exponent, a_wide) (nI d) (nI fa)) (h1 : op = 1 → wpX_root (fun r u => match u with | (f_raised, f_trapped, f_mode, f_below, f_value, f_power, f_rest, f_wish, f_exact, a_format, a_bits, a_kind, a_minus, a_coefficient, a_exponent, a_wide) => post r (f_raised, f_trapped, f_mode, f_below, f_value, f_power, f_rest, f_wish, f_exact, a_format, a_bits, a_kind, a_minus, a_coefficient, a_exponent, a_wide)) (f_raised, f_trapped, f_mode, nI M, lN C, zz_I E, 0, zz_I E, f_exact, a_format, a_bits, a_kind, a_minus, a_coefficient, a_exponent, a_wide) (nI d)) (h2 : op = 2 → wpX_wholeNumber (fun r u => match u with | (f_raised, f_trapped, f_mode, f_below, f_value, f_power, f_rest, f_wish, f_exact, a_format, a_bits, a_kind, a_minus, a_coefficient, a_exponent, a_wide) => post r (f_raised, f_trapped, f_mode, f_below, f_value, f_power, f_rest, f_wish, f_exact, a_format, a_bits, a_kind, a_minus, a_coefficient, a_exponent, a_wide)) (f_raised, f_trapped, f_mode, nI M, lN C, zz_I E, 0, zz_I E, f_exact, a_format, a_bits, a_kind, a_minus, a_coefficient, a_exponent, a_wide) (nI d)) (h5 : op = 5 → wX_unary_274 post (nI d) (zz_I (sc_by n)) f_raised f_trapped f_mode (nI M) (lN C) (zz_I E) 0 (zz_I E) f_exact a_format a_bits a_kind a_minus a_coefficient a_exponent a_wide) : wX_unary_155 post (nI op) (nI d) (nI a) (zz_I n) f_raised f_trapped f_mode f_below f_value f_power f_rest f_wish f_exact a_format a_bits a_kind a_minus a_coefficient a_exponent a_wide := by
  rw [wX_unary_155]
  refine br_f (by rw [S0.1]; decide) ?_
  refine xw_take (k := 0) (by decide) hM S0 ?_
  dsimp only
  refine br_f (nI_pos (by omega)) (pk_lt 2 op (fun h => ?_) (fun h => ?_))
  · have h5' := h5 (by omega)
    have e1 : zz_I (-2000) = -2000 := by decide
    have e2 : zz_I 2000 = 2000 := by decide
    refine zz_le n 2000 (fun g1 => zz_le (-2000) n (fun g2 => ?_) (fun g2 => ?_) (hx := e1.symm)) (fun g1 => ?_) (hy := e2.symm)
    · unfold sc_by at h5'
      rw [if_pos g1, if_pos g2] at h5'
      exact h5'
    · unfold sc_by at h5'
      rw [if_pos g1, if_neg (show ¬ -2000 ≤ n by omega), e1] at h5'
      exact h5'
    · unfold sc_by at h5'
      rw [if_neg (show ¬ n ≤ 2000 by omega), e2] at h5'
      exact h5'
  · refine pk_eq op 0 (fun o0 => ⟨vp_in_nI ha (by decide), ?_⟩) (fun o0 => pk_eq op 1 (fun o1 => h1 o1) (fun o1 => pk_eq op 2 (fun o2 => h2 o2) (fun o2 => absurd h (by omega))))
    rw [nI_clamp (show a < 2 ^ 31 by omega), efa]
    exact h0 o0
theorem un_main {op f fa m : Nat} {x : Int32} {n : Int} (hop : op < 6) (hf : f < 4) (hfa : fa < 4) (hm : m < 5) (hn : -2147483648 ≤ n ∧ n < 2147483648) (hs : (op = 2 ∨ op = 3 ∨ op = 4) → fa = f) (hb : ¬ op = 0 → fm_b fa = fm_b f) : ∃ fl pt : Int32, bt_ok f fl pt ∧ (∀ (f_raised : Int32) (f_trapped : Int32) (f_below : Int32) (f_value : Int64) (f_power : Int32) (f_rest : Int32) (f_wish : Int32) (f_exact : Int32) (a_format : Nat → Int32) (a_bits : Nat → Int32) (a_kind : Nat → Int32) (a_minus : Nat → Int32) (a_coefficient : Nat → Int64) (a_exponent : Nat → Int32) (a_wide : Nat → Int32) (post : Int32 → SX → Prop) (d a : Nat), d < 8 → a < 8 → a_format d = nI f → a_format a = nI fa → a_bits a = x → xs_D post f_raised f_trapped (nI m) a_format a_bits d fl pt → wX_unary_75 post (nI op) (nI d) (nI a) (zz_I n) f_raised f_trapped (nI m) f_below f_value f_power f_rest f_wish f_exact a_format a_bits a_kind a_minus a_coefficient a_exponent a_wide) ∧ (∀ (f_raised : Int32) (f_trapped : Int32) (f_more : Int32) (f_made : Int32) (a_format : Nat → Int32) (a_pattern : Nat → Int32) (a_kind : Nat → Int32) (a_exponent : Nat → Int32) (a_coefficient : Nat → Int64) (a_minus : Nat → Int32) (a_row : Nat → Int32) (post : Int32 → SY → Prop) (d a : Nat), d < 8 → a < 8 → a_format d = nI f → a_format a = nI fa → a_pattern a = x → ys_D post f_raised f_trapped (nI m) a_format a_pattern d fl pt → wY_unary_85 post (nI op) (nI d) (nI a) (zz_I n) (nI f) (nI (fm_b fa)) (nI m) f_raised f_trapped f_more f_made a_format a_pattern a_kind a_exponent a_coefficient a_minus a_row) := by
  have V := op_Vof hfa rfl x
  obtain ⟨hK, hM, v⟩ := id V
  have hCl := op_C_lt hfa x
  have hEr := op_E_r hfa x
  have oki : bt_ok f 1 (pa_nan f) := Or.inl ⟨rfl, rfl⟩
  have ok0 : ∀ pt, bt_ok f 0 pt := fun _ => Or.inr (by decide)
  by_cases k2 : op_K fa x < 2
  · have hok : bt_ok f (nI (un_lo (op_K fa x))) (pa_nan f) := by
      unfold un_lo
      split
      · exact Or.inl ⟨rfl, rfl⟩
      · exact Or.inr (by decide)
    refine ⟨nI (un_lo (op_K fa x)), pa_nan f, hok, ?_, ?_⟩
    · intro f_raised f_trapped f_below f_value f_power f_rest f_wish f_exact a_format a_bits a_kind a_minus a_coefficient a_exponent a_wide post d a hd ha ef efa hx HD
      subst hx
      exact xw_75 hop hd ha hf hfa ef efa (fun _ => HD) (fun h => absurd k2 h)
    · intro f_raised f_trapped f_more f_made a_format a_pattern a_kind a_exponent a_coefficient a_minus a_row post d a hd ha ef efa hx HD
      subst hx
      exact yw_85 hop hd ha hf hfa ef efa (fun _ => HD) (fun h => absurd k2 h)
  by_cases o34 : op = 3 ∨ op = 4
  · have efa : fa = f := hs (by omega)
    subst efa
    obtain ⟨pt, HX, HY⟩ := bo_next (m := m) (up := 4 - op) hf hm (by omega) V hCl hEr
    refine ⟨0, pt, ok0 pt, ?_, ?_⟩
    · intro f_raised f_trapped f_below f_value f_power f_rest f_wish f_exact a_format a_bits a_kind a_minus a_coefficient a_exponent a_wide post d a hd ha ef efa hx HD
      subst hx
      refine xw_75 hop hd ha hf hfa ef efa (fun h => absurd h k2) (fun _ ak am ac ae S0 => ⟨fun _ => ?_, fun h => absurd o34 h, fun h => absurd o34 h⟩)
      have HX' := HX f_raised f_trapped f_below f_value f_power f_rest f_wish f_exact a_format a_bits ak am ac ae a_wide post d hd ef S0 HD
      rw [wX_unary_107]
      rcases o34 with rfl | rfl
      · exact br_t rfl HX'
      · exact br_f (by decide) HX'
    · intro f_raised f_trapped f_more f_made a_format a_pattern a_kind a_exponent a_coefficient a_minus a_row post d a hd ha ef efa hx HD
      subst hx
      refine yw_85 hop hd ha hf hfa ef efa (fun h => absurd h k2) (fun _ ak am ac ae S0 => ⟨fun _ => ?_, fun h => absurd o34 h, fun h => absurd o34 h⟩)
      have hfin : wY_unary_314 post (nI d) 0 (nI m) f_raised f_trapped f_more pt a_format a_pattern ak ae ac am a_row := yw_finishT hd hf ef (ok0 pt) (Or.inr rfl) (fun v' hv => HD v' hv)
      have HY' := HY f_raised f_trapped f_more f_made a_format a_pattern ak ae ac am a_row (fun u => match u with | (f_attribute, f_raised, f_trapped, f_more, f_made, a_format, a_pattern, a_kind, a_exponent, a_coefficient, a_minus, a_row) => wY_unary_314 post (nI d) 0 f_attribute f_raised f_trapped f_more f_made a_format a_pattern a_kind a_exponent a_coefficient a_minus a_row) S0 hfin
      rw [wY_unary_133]
      rcases o34 with rfl | rfl
      · exact br_f (by decide) HY'
      · exact br_t rfl HY'
  by_cases k3 : op_K fa x = 2
  · by_cases hneg : op = 1 ∧ ¬ op_M fa x = 0
    · refine ⟨1, pa_nan f, oki, ?_, ?_⟩
      · intro f_raised f_trapped f_below f_value f_power f_rest f_wish f_exact a_format a_bits a_kind a_minus a_coefficient a_exponent a_wide post d a hd ha ef efa hx HD
        subst hx
        refine xw_75 hop hd ha hf hfa ef efa (fun h => absurd h k2) (fun _ ak am ac ae S0 => ⟨fun h => absurd h o34, fun _ _ => ?_, fun _ h => absurd ⟨hneg.1, hneg.2, fun h' => by omega⟩ h⟩)
        exact xw_invalid hd hf ef (fun u' h => HD u' h)
      · intro f_raised f_trapped f_more f_made a_format a_pattern a_kind a_exponent a_coefficient a_minus a_row post d a hd ha ef efa hx HD
        subst hx
        refine yw_85 hop hd ha hf hfa ef efa (fun h => absurd h k2) (fun _ ak am ac ae S0 => ⟨fun h => absurd h o34, fun _ _ => ?_, fun _ h => absurd h (by omega)⟩)
        rw [if_pos hneg]
        exact yw_finishT hd hf ef oki (Or.inl rfl) (fun v' hv => HD v' hv)
    · refine ⟨0, pa_inf f (op_M fa x), ok0 _, ?_, ?_⟩
      · intro f_raised f_trapped f_below f_value f_power f_rest f_wish f_exact a_format a_bits a_kind a_minus a_coefficient a_exponent a_wide post d a hd ha ef efa hx HD
        subst hx
        refine xw_75 hop hd ha hf hfa ef efa (fun h => absurd h k2) (fun _ ak am ac ae S0 => ⟨fun h => absurd h o34, fun _ h => absurd ⟨h.1, h.2.1⟩ hneg, fun _ _ => ?_⟩)
        rw [wX_unary_155]
        refine br_t (by rw [S0.1, k3]; rfl) ?_
        rw [S0.2.1]
        exact xw_infinite hd hf hM ef (fun u' h => HD u' h)
      · intro f_raised f_trapped f_more f_made a_format a_pattern a_kind a_exponent a_coefficient a_minus a_row post d a hd ha ef efa hx HD
        subst hx
        refine yw_85 hop hd ha hf hfa ef efa (fun h => absurd h k2) (fun _ ak am ac ae S0 => ⟨fun h => absurd h o34, fun _ _ => ?_, fun _ h => absurd h (by omega)⟩)
        rw [if_neg hneg]
        exact yw_finishT hd hf ef (ok0 _) (Or.inr rfl) (fun v' hv => HD v' hv)
  have k33 : op_K fa x = 3 := by omega
  by_cases o0 : op = 0
  · by_cases hbb : fm_b fa = fm_b f
    · obtain ⟨fl, pt, ok, HX, HY⟩ := bo_same (m := m) hf hfa hm hbb (K := op_K fa x) (M := op_M fa x) (C := op_C fa x) (E := op_E fa x) (by rw [← hbb]; exact V)
      refine ⟨fl, pt, ok, ?_, ?_⟩
      · intro f_raised f_trapped f_below f_value f_power f_rest f_wish f_exact a_format a_bits a_kind a_minus a_coefficient a_exponent a_wide post d a hd ha ef efa hx HD
        subst hx
        refine xw_75 hop hd ha hf hfa ef efa (fun h => absurd h k2) (fun _ ak am ac ae S0 => ⟨fun h => absurd h o34, fun _ h => absurd h.1 (by omega), fun _ _ => ?_⟩)
        rw [k33] at S0
        exact xw_155 hop o34 hd ha hM efa hn S0 (fun _ => HX _ _ _ _ _ _ _ _ _ _ _ d hd ef (fun u' h => HD u' h)) (fun h => absurd h (by omega)) (fun h => absurd h (by omega)) (fun h => absurd h (by omega))
      · intro f_raised f_trapped f_more f_made a_format a_pattern a_kind a_exponent a_coefficient a_minus a_row post d a hd ha ef efa hx HD
        subst hx
        refine yw_85 hop hd ha hf hfa ef efa (fun h => absurd h k2) (fun _ ak am ac ae S0 => ⟨fun h => absurd h o34, fun _ h => absurd h k3, fun _ _ => ⟨fun h => absurd hbb h.2, fun _ => ?_⟩⟩)
        subst o0
        rw [hbb]
        exact HY _ _ _ _ _ _ _ _ _ _ _ post d _ hd ef S0 HD
    · have hbo : ∃ fl pt : Int32, bt_ok f fl pt ∧ un_X (fun post u d => wpX_convert post u d (nI fa)) f m (op_M fa x) (op_C fa x) (op_E fa x) fl pt ∧ un_Y (fun post u => wpY_converted post u (nI f) (nI (fm_b fa))) f m (op_K fa x) (op_M fa x) (op_C fa x) (op_E fa x) fl pt := by
        have h1 := fm_b2 fa
        have h2 := fm_b2 f
        rcases h2 with h2 | h2
        · exact bo_conv2 hf hfa hm h2 (by omega) V
        · exact bo_conv10 hf hfa hm h2 (by omega) V
      obtain ⟨fl, pt, ok, HX, HY⟩ := hbo
      refine ⟨fl, pt, ok, ?_, ?_⟩
      · intro f_raised f_trapped f_below f_value f_power f_rest f_wish f_exact a_format a_bits a_kind a_minus a_coefficient a_exponent a_wide post d a hd ha ef efa hx HD
        subst hx
        refine xw_75 hop hd ha hf hfa ef efa (fun h => absurd h k2) (fun _ ak am ac ae S0 => ⟨fun h => absurd h o34, fun _ h => absurd h.1 (by omega), fun _ _ => ?_⟩)
        rw [k33] at S0
        exact xw_155 hop o34 hd ha hM efa hn S0 (fun _ => HX _ _ _ _ _ _ _ _ _ _ _ d hd ef (fun u' h => HD u' h)) (fun h => absurd h (by omega)) (fun h => absurd h (by omega)) (fun h => absurd h (by omega))
      · intro f_raised f_trapped f_more f_made a_format a_pattern a_kind a_exponent a_coefficient a_minus a_row post d a hd ha ef efa hx HD
        subst hx
        refine yw_85 hop hd ha hf hfa ef efa (fun h => absurd h k2) (fun _ ak am ac ae S0 => ⟨fun h => absurd h o34, fun _ h => absurd h k3, fun _ _ => ⟨fun _ => ?_, fun h => absurd ⟨o0, hbb⟩ h⟩⟩)
        refine HY _ _ _ _ _ _ _ _ _ _ _ _ S0 ?_
        intro u' h1 h2
        exact yw_finish h1 hd hf ef ok h2 (fun v' hv => HD v' hv)
  have hbb := hb o0
  have Vf : op_V (fm_b f) (op_K fa x) (op_M fa x) (op_C fa x) (op_E fa x) := by
    rw [← hbb]
    exact V
  by_cases o1 : op = 1
  · by_cases hneg : ¬ op_M fa x = 0 ∧ ¬ op_C fa x = 0
    · refine ⟨1, pa_nan f, oki, ?_, ?_⟩
      · intro f_raised f_trapped f_below f_value f_power f_rest f_wish f_exact a_format a_bits a_kind a_minus a_coefficient a_exponent a_wide post d a hd ha ef efa hx HD
        subst hx
        refine xw_75 hop hd ha hf hfa ef efa (fun h => absurd h k2) (fun _ ak am ac ae S0 => ⟨fun h => absurd h o34, fun _ _ => ?_, fun _ h => absurd ⟨o1, hneg.1, fun h' => hneg.2 h'.2⟩ h⟩)
        exact xw_invalid hd hf ef (fun u' h => HD u' h)
      · intro f_raised f_trapped f_more f_made a_format a_pattern a_kind a_exponent a_coefficient a_minus a_row post d a hd ha ef efa hx HD
        subst hx
        refine yw_85 hop hd ha hf hfa ef efa (fun h => absurd h k2) (fun _ ak am ac ae S0 => ⟨fun h => absurd h o34, fun _ h => absurd h k3, fun _ _ => ⟨fun h => absurd h.1 o0, fun _ => ?_⟩⟩)
        rw [k33] at S0 Vf
        subst o1
        rw [wY_unary_224]
        refine br_f (by decide) (br_t rfl ?_)
        refine yw_root_neg hf Vf hneg.2 hneg.1 S0 ?_
        exact yw_finishT hd hf ef oki (Or.inl rfl) (fun v' hv => HD v' hv)
    · rw [k33] at Vf
      obtain ⟨fl, pt, ok, HX, HY⟩ := bo_root (m := m) hf hm Vf (by omega)
      refine ⟨fl, pt, ok, ?_, ?_⟩
      · intro f_raised f_trapped f_below f_value f_power f_rest f_wish f_exact a_format a_bits a_kind a_minus a_coefficient a_exponent a_wide post d a hd ha ef efa hx HD
        subst hx
        refine xw_75 hop hd ha hf hfa ef efa (fun h => absurd h k2) (fun _ ak am ac ae S0 => ⟨fun h => absurd h o34, fun _ h => absurd ⟨h.2.1, fun h' => h.2.2 ⟨k33, h'⟩⟩ hneg, fun _ _ => ?_⟩)
        rw [k33] at S0
        exact xw_155 hop o34 hd ha hM efa hn S0 (fun h => absurd h o0) (fun _ => HX _ _ _ _ _ _ _ _ _ _ _ d hd ef (fun u' h => HD u' h)) (fun h => absurd h (by omega)) (fun h => absurd h (by omega))
      · intro f_raised f_trapped f_more f_made a_format a_pattern a_kind a_exponent a_coefficient a_minus a_row post d a hd ha ef efa hx HD
        subst hx
        refine yw_85 hop hd ha hf hfa ef efa (fun h => absurd h k2) (fun _ ak am ac ae S0 => ⟨fun h => absurd h o34, fun _ h => absurd h k3, fun _ _ => ⟨fun h => absurd h.1 o0, fun _ => ?_⟩⟩)
        rw [k33] at S0
        subst o1
        rw [wY_unary_224]
        refine br_f (by decide) (br_t rfl ?_)
        refine HY _ _ _ _ _ _ _ _ _ _ _ _ S0 ?_
        intro u' h1 h2
        exact yw_finish h1 hd hf ef ok h2 (fun v' hv => HD v' hv)
  by_cases o2 : op = 2
  · have efa : fa = f := hs (by omega)
    subst efa
    obtain ⟨fl, pt, ok, HX, HY⟩ := bo_whole (m := m) hf hm Vf hCl
    refine ⟨fl, pt, ok, ?_, ?_⟩
    · intro f_raised f_trapped f_below f_value f_power f_rest f_wish f_exact a_format a_bits a_kind a_minus a_coefficient a_exponent a_wide post d a hd ha ef efa hx HD
      subst hx
      refine xw_75 hop hd ha hf hfa ef efa (fun h => absurd h k2) (fun _ ak am ac ae S0 => ⟨fun h => absurd h o34, fun _ h => absurd h.1 o1, fun _ _ => ?_⟩)
      rw [k33] at S0
      exact xw_155 hop o34 hd ha hM efa hn S0 (fun h => absurd h o0) (fun h => absurd h o1) (fun _ => HX _ _ _ _ _ _ _ _ _ _ _ d hd ef (fun u' h => HD u' h)) (fun h => absurd h (by omega))
    · intro f_raised f_trapped f_more f_made a_format a_pattern a_kind a_exponent a_coefficient a_minus a_row post d a hd ha ef efa hx HD
      subst hx
      refine yw_85 hop hd ha hf hfa ef efa (fun h => absurd h k2) (fun _ ak am ac ae S0 => ⟨fun h => absurd h o34, fun _ h => absurd h k3, fun _ _ => ⟨fun h => absurd h.1 o0, fun _ => ?_⟩⟩)
      subst o2
      rw [wY_unary_224]
      refine br_f (by decide) (br_f (by decide) (br_t rfl ?_))
      refine HY _ _ _ _ _ _ _ _ _ _ _ _ S0 ?_
      intro u' h1 h2
      exact yw_finish h1 hd hf ef ok h2 (fun v' hv => HD v' hv)
  · have o5 : op = 5 := by omega
    obtain ⟨fl, pt, ok, HX, HY⟩ := bo_scaled (m := m) hf hm Vf hn
    refine ⟨fl, pt, ok, ?_, ?_⟩
    · intro f_raised f_trapped f_below f_value f_power f_rest f_wish f_exact a_format a_bits a_kind a_minus a_coefficient a_exponent a_wide post d a hd ha ef efa hx HD
      subst hx
      refine xw_75 hop hd ha hf hfa ef efa (fun h => absurd h k2) (fun _ ak am ac ae S0 => ⟨fun h => absurd h o34, fun _ h => absurd h.1 o1, fun _ _ => ?_⟩)
      rw [k33] at S0
      exact xw_155 hop o34 hd ha hM efa hn S0 (fun h => absurd h o0) (fun h => absurd h o1) (fun h => absurd h o2) (fun _ => HX _ _ _ _ _ _ _ _ _ _ _ d hd ef (fun u' h => HD u' h))
    · intro f_raised f_trapped f_more f_made a_format a_pattern a_kind a_exponent a_coefficient a_minus a_row post d a hd ha ef efa hx HD
      subst hx
      refine yw_85 hop hd ha hf hfa ef efa (fun h => absurd h k2) (fun _ ak am ac ae S0 => ⟨fun h => absurd h o34, fun _ h => absurd h k3, fun _ _ => ⟨fun h => absurd h.1 o0, fun _ => ?_⟩⟩)
      subst o5
      rw [wY_unary_224]
      refine br_f (by decide) (br_f (by decide) (br_f (by decide) ?_))
      refine HY _ _ _ _ _ _ _ _ _ _ _ _ S0 ?_
      intro u' h1 h2
      exact yw_finish h1 hd hf ef ok h2 (fun v' hv => HD v' hv)
end
section
/-! unary -/
def un_bad (op fa fd : Nat) : Prop := (¬ op = 0 ∧ ¬ fm_b fa = fm_b fd) ∨ ((op = 2 ∨ op = 3 ∨ op = 4) ∧ ¬ fa = fd)
theorem un_bad_b {op fa fd : Nat} (h : ¬ un_bad op fa fd) (h0 : ¬ op = 0) : fm_b fa = fm_b fd := by
  by_cases e : fm_b fa = fm_b fd
  · exact e
  · exact absurd (Or.inl ⟨h0, e⟩) h
theorem un_bad_f {op fa fd : Nat} (h : ¬ un_bad op fa fd) (h0 : op = 2 ∨ op = 3 ∨ op = 4) : fa = fd := by
  by_cases e : fa = fd
  · exact e
  · exact absurd (Or.inr ⟨h0, e⟩) h
theorem xw_unary {f_raised : Int32} {f_trapped : Int32} {f_mode : Int32} {f_below : Int32} {f_value : Int64} {f_power : Int32} {f_rest : Int32} {f_wish : Int32} {f_exact : Int32} {a_format : Nat → Int32} {a_bits : Nat → Int32} {a_kind : Nat → Int32} {a_minus : Nat → Int32} {a_coefficient : Nat → Int64} {a_exponent : Nat → Int32} {a_wide : Nat → Int32} {post : Int32 → SX → Prop} {op d a f fa : Nat} {v4 : Int32} (hop : op < 6) (hd : d < 8) (ha : a < 8) (hf : f < 4) (hfa : fa < 4) (ef : a_format d = nI f) (efa : a_format a = nI fa) (G0 : un_bad op fa f → post (-1) (f_raised, f_trapped, f_mode, f_below, f_value, f_power, f_rest, f_wish, f_exact, a_format, a_bits, a_kind, a_minus, a_coefficient, a_exponent, a_wide)) (G1 : ¬ un_bad op fa f → wX_unary_75 post (nI op) (nI d) (nI a) v4 f_raised f_trapped f_mode f_below f_value f_power f_rest f_wish f_exact a_format a_bits a_kind a_minus a_coefficient a_exponent a_wide) : wpX_unary post (f_raised, f_trapped, f_mode, f_below, f_value, f_power, f_rest, f_wish, f_exact, a_format, a_bits, a_kind, a_minus, a_coefficient, a_exponent, a_wide) (nI op) (nI d) (nI a) v4 := by
  have hin : vp_in (nI d) 8 := vp_in_nI hd (by decide)
  have hina : vp_in (nI a) 8 := vp_in_nI ha (by decide)
  have hcd : (nI d).toNatClampNeg = d := nI_clamp (by omega)
  have hca : (nI a).toNatClampNeg = a := nI_clamp (by omega)
  have h48 : (¬ op = 0 → fm_b fa = fm_b f ∨ (op = 2 ∨ op = 3 ∨ op = 4)) → wX_unary_48 post (nI op) (nI d) (nI a) v4 f_raised f_trapped f_mode f_below f_value f_power f_rest f_wish f_exact a_format a_bits a_kind a_minus a_coefficient a_exponent a_wide := by
    intro hb
    have ok : ¬ (op = 2 ∨ op = 3 ∨ op = 4) → ¬ un_bad op fa f := by
      intro h1 h2
      rcases h2 with h2 | h2
      · rcases hb h2.1 with h3 | h3
        · exact h2.2 h3
        · exact h1 h3
      · exact h1 h2.1
    rw [wX_unary_48]
    refine pk_le op 1 (fun h => G1 (ok (by omega))) (fun h => pk_le 5 op (fun h' => G1 (ok (by omega))) (fun h' => ⟨hina, hin, ?_⟩))
    rw [hcd, hca, ef, efa]
    refine pk_eq fa f (fun e => G1 ?_) (fun e => G0 (Or.inr ⟨by omega, e⟩))
    intro h2
    rcases h2 with h2 | h2
    · exact h2.2 (by rw [e])
    · exact h2.2 e
  unfold wpX_unary
  dsimp only
  refine br_f (nI_pos (by omega)) (pk_lt 5 op (fun h => absurd h (by omega)) (fun _ => ?_))
  refine xw_isReg hd ?_
  refine br_f (by decide) ?_
  refine xw_isReg ha ?_
  refine br_f (by decide) ?_
  refine xw_like ha hd hfa hf efa ef (fun hb => ?_) (fun hb => ?_)
  · have h43 : wX_unary_43 post (nI op) (nI d) (nI a) v4 1 f_raised f_trapped f_mode f_below f_value f_power f_rest f_wish f_exact a_format a_bits a_kind a_minus a_coefficient a_exponent a_wide := by
      rw [wX_unary_43]
      exact br_f (by decide) (h48 (fun _ => Or.inl hb))
    exact pk_eq op 1 (fun _ => h43) (fun _ => pk_eq op 5 (fun _ => h43) (fun _ => h48 (fun _ => Or.inl hb)))
  · have h43 : ¬ op = 0 → wX_unary_43 post (nI op) (nI d) (nI a) v4 0 f_raised f_trapped f_mode f_below f_value f_power f_rest f_wish f_exact a_format a_bits a_kind a_minus a_coefficient a_exponent a_wide := by
      intro h0
      rw [wX_unary_43]
      exact br_t rfl (G0 (Or.inl ⟨h0, hb⟩))
    exact pk_eq op 1 (fun _ => h43 (by omega)) (fun _ => pk_eq op 5 (fun _ => h43 (by omega)) (fun _ => h48 (fun _ => Or.inr (by omega))))
theorem yw_unary {f_attribute : Int32} {f_raised : Int32} {f_trapped : Int32} {f_more : Int32} {f_made : Int32} {a_format : Nat → Int32} {a_pattern : Nat → Int32} {a_kind : Nat → Int32} {a_exponent : Nat → Int32} {a_coefficient : Nat → Int64} {a_minus : Nat → Int32} {a_row : Nat → Int32} {post : Int32 → SY → Prop} {op d a f fa : Nat} {v4 : Int32} (hop : op < 6) (hd : d < 8) (ha : a < 8) (hf : f < 4) (hfa : fa < 4) (ef : a_format d = nI f) (efa : a_format a = nI fa) (G0 : un_bad op fa f → post (-1) (f_attribute, f_raised, f_trapped, f_more, f_made, a_format, a_pattern, a_kind, a_exponent, a_coefficient, a_minus, a_row)) (G1 : ¬ un_bad op fa f → wY_unary_85 post (nI op) (nI d) (nI a) v4 (nI f) (nI (fm_b fa)) f_attribute f_raised f_trapped f_more f_made a_format a_pattern a_kind a_exponent a_coefficient a_minus a_row) : wpY_unary post (f_attribute, f_raised, f_trapped, f_more, f_made, a_format, a_pattern, a_kind, a_exponent, a_coefficient, a_minus, a_row) (nI op) (nI d) (nI a) v4 := by
  have hin : vp_in (nI d) 8 := vp_in_nI hd (by decide)
  have hina : vp_in (nI a) 8 := vp_in_nI ha (by decide)
  have hcd : (nI d).toNatClampNeg = d := nI_clamp (by omega)
  have hca : (nI a).toNatClampNeg = a := nI_clamp (by omega)
  have hba := fm_b2 fa
  have hbf := fm_b2 f
  have h62 : (¬ op = 0 → fm_b fa = fm_b f) → wY_unary_62 post (nI op) (nI d) (nI a) v4 (nI f) (nI (fm_b fa)) f_attribute f_raised f_trapped f_more f_made a_format a_pattern a_kind a_exponent a_coefficient a_minus a_row := by
    intro hb
    have ok : ¬ (op = 2 ∨ op = 3 ∨ op = 4) → ¬ un_bad op fa f := by
      intro h1 h2
      rcases h2 with h2 | h2
      · exact h2.2 (hb h2.1)
      · exact h1 h2.1
    rw [wY_unary_62]
    refine pk_le op 1 (fun h => G1 (ok (by omega))) (fun h => pk_le 5 op (fun h' => G1 (ok (by omega))) (fun h' => ⟨hina, ?_⟩))
    rw [hca, efa]
    refine pk_eq fa f (fun e => G1 ?_) (fun e => G0 (Or.inr ⟨by omega, e⟩))
    intro h2
    rcases h2 with h2 | h2
    · exact h2.2 (by rw [e])
    · exact h2.2 e
  unfold wpY_unary
  dsimp only
  refine yw_in (n := 6) hop (by decide) ?_
  refine br_f (by decide) ?_
  refine yw_in (n := 8) hd (by decide) ?_
  refine br_f (by decide) ?_
  refine yw_in (n := 8) ha (by decide) ?_
  refine br_f (by decide) ⟨hin, nm_r (e' := nI f) (by rw [hcd]; exact ef) ⟨hina, ?_⟩⟩
  rw [hca, efa]
  refine yw_base hfa ?_
  refine pk_le op 0 (fun h => h62 (fun h' => absurd h' (by omega))) (fun h => ?_)
  refine yw_base hf ?_
  exact pk_eq (fm_b fa) (fm_b f) (fun e => h62 (fun _ => e)) (fun e => G0 (Or.inl ⟨by omega, e⟩))
theorem i_vc_unary {k : Nat} {u : SX} {v : SY} (I : i_Rel k u v) (hk : k + 5 ≤ 2560) (v1 : Int32) (v2 : Int32) (v3 : Int32) (v4 : Int32) : wpX_unary (fun r u' => wpY_unary (fun r' v' => r' = r ∧ i_Rel (k + 5) u' v') v v1 v2 v3 v4) u v1 v2 v3 v4 := by
  refine rl_el (P := fun u v => wpX_unary (fun r u' => wpY_unary (fun r' v' => r' = r ∧ i_Rel (k + 5) u' v') v v1 v2 v3 v4) u v1 v2 v3 v4) ?_ I
  intro m f_raised f_trapped f_below f_value f_power f_rest f_wish f_exact a_format a_bits a_kind a_minus a_coefficient a_exponent a_wide y_more y_made y_kind y_exponent y_coefficient y_minus y_row hm hfo
  have R0 : i_Rel (k + 5) (f_raised, f_trapped, nI m, f_below, f_value, f_power, f_rest, f_wish, f_exact, a_format, a_bits, a_kind, a_minus, a_coefficient, a_exponent, a_wide) (nI m, f_raised, f_trapped, y_more, y_made, a_format, a_bits, y_kind, y_exponent, y_coefficient, y_minus, y_row) := rl_in hm hfo ⟨rfl, rfl, rfl, rfl, rfl⟩ ⟨rfl, rfl, rfl, rfl, rfl⟩
  have P0 : (-1 : Int32) = -1 ∧ i_Rel (k + 5) (f_raised, f_trapped, nI m, f_below, f_value, f_power, f_rest, f_wish, f_exact, a_format, a_bits, a_kind, a_minus, a_coefficient, a_exponent, a_wide) (nI m, f_raised, f_trapped, y_more, y_made, a_format, a_bits, y_kind, y_exponent, y_coefficient, y_minus, y_row) := ⟨rfl, R0⟩
  by_cases hop : ∃ op : Nat, op < 6 ∧ v1 = nI op
  · obtain ⟨op, hop, rfl⟩ := hop
    have hX0 : ¬ nI op < 0 := nI_pos (by omega)
    have hX5 : ¬ (5 : Int32) < nI op := fun h => absurd ((nI_ltI (a := 5) (b := op) (by decide) (by omega)).mp h) (by omega)
    by_cases hdd : ∃ d : Nat, d < 8 ∧ v2 = nI d
    · obtain ⟨d, hD, rfl⟩ := hdd
      by_cases haa : ∃ a : Nat, a < 8 ∧ v3 = nI a
      · obtain ⟨a, hA, rfl⟩ := haa
        obtain ⟨fd, hfd, efd⟩ := hfo d hD
        obtain ⟨fa, hfa, efa⟩ := hfo a hA
        obtain ⟨n, hn, rfl⟩ := zz_Iof v4
        refine xw_unary hop hD hA hfd hfa efd efa (fun bad => ?_) (fun good => ?_)
        · exact yw_unary hop hD hA hfd hfa efd efa (fun _ => P0) (fun h => absurd bad h)
        · obtain ⟨fl, pt, ok, HX, HY⟩ := un_main (x := a_bits a) (m := m) (n := n) hop hfd hfa hm hn (un_bad_f good) (un_bad_b good)
          refine HX _ _ _ _ _ _ _ _ _ _ _ _ _ _ _ _ d a hD hA efd efa rfl ?_
          intro u' hu
          refine yw_unary hop hD hA hfd hfa efd efa (fun h => absurd h good) (fun _ => ?_)
          refine HY _ _ _ _ _ _ _ _ _ _ _ _ d a hD hA efd efa rfl ?_
          intro v' hv
          exact ⟨rfl, rl_in hm hfo hu hv⟩
      · refine br_f hX0 (br_f hX5 ?_)
        refine xw_isReg hD ?_
        refine br_f (by decide) ?_
        refine xw_isRegN haa ?_
        refine br_t rfl ?_
        unfold wpY_unary
        dsimp only
        refine yw_in (n := 6) hop (by decide) ?_
        refine br_f (by decide) ?_
        refine yw_in (n := 8) hD (by decide) ?_
        refine br_f (by decide) ?_
        refine yw_inN (n := 8) (by decide) haa ?_
        exact br_t rfl P0
    · refine br_f hX0 (br_f hX5 ?_)
      refine xw_isRegN hdd ?_
      refine br_t rfl ?_
      unfold wpY_unary
      dsimp only
      refine yw_in (n := 6) hop (by decide) ?_
      refine br_f (by decide) ?_
      refine yw_inN (n := 8) (by decide) hdd ?_
      exact br_t rfl P0
  · have hY : wpY_unary (fun r' v' => r' = -1 ∧ i_Rel (k + 5) (f_raised, f_trapped, nI m, f_below, f_value, f_power, f_rest, f_wish, f_exact, a_format, a_bits, a_kind, a_minus, a_coefficient, a_exponent, a_wide) v') (nI m, f_raised, f_trapped, y_more, y_made, a_format, a_bits, y_kind, y_exponent, y_coefficient, y_minus, y_row) v1 v2 v3 v4 := by
      unfold wpY_unary
      dsimp only
      refine yw_inN (n := 6) (by decide) hop ?_
      exact br_t rfl P0
    rcases pk_ix v1 (n := 6) (by decide) with h0 | h8 | hj
    · exact br_t h0 hY
    · refine br_c (fun _ => hY) (fun _ => br_t ?_ hY)
      have e : (5 : Int32) < nI 6 := by decide
      exact Int32.lt_of_lt_of_le e h8
    · exact absurd hj hop
end
