section
/-! pure rows to paste: stores, nI and lN arithmetic, masks, shifts, narrowing, branches by naturals (pk_le, pk_lt, pk_eq), loops (lp1 .. lp16: the measure of the state; rp1 ..: recursion), negatives. Take what you need -/
theorem pk_us {f : Nat → Int32} {k : Nat} {x : Int32} : upd f k x k = x := if_pos rfl
theorem pk_un {f : Nat → Int32} {k j : Nat} {x : Int32} (h : j ≠ k) : upd f k x j = f j := if_neg h
theorem pk_uLs {f : Nat → Int64} {k : Nat} {x : Int64} : vp_updL f k x k = x := if_pos rfl
theorem pk_uLn {f : Nat → Int64} {k j : Nat} {x : Int64} (h : j ≠ k) : vp_updL f k x j = f j := if_neg h
theorem pk_sub {a b : Nat} (h : b ≤ a) : nI a - nI b = nI (a - b) := by
  obtain ⟨c, rfl⟩ : ∃ c, a = c + b := ⟨a - b, by omega⟩
  rw [← nI_add, Int32.add_sub_cancel, Nat.add_sub_cancel]
theorem pk_m1 (n : Nat) : nI (n + 1) + (-1) = nI n := by
  rw [← nI_1, Int32.add_assoc, show (1 : Int32) + (-1) = 0 from rfl, Int32.add_zero]
theorem pk_mul (a b : Nat) : nI a * nI b = nI (a * b) := (Int32.ofNat_mul a b).symm
theorem pk_div {a d : Nat} (ha : a < 2 ^ 31) (h0 : 0 < d) (hd : d < 2 ^ 31) : nI a / nI d = nI (a / d) := by
  apply Int32.toInt_inj.mp
  rw [lg_idiv_nonneg (by rw [nI_toInt ha]; omega) (by rw [nI_toInt hd]; omega), nI_toInt ha, nI_toInt hd, nI_toInt (Nat.lt_of_le_of_lt (Nat.div_le_self a d) ha)]
  first | rfl | exact (Int.natCast_ediv _ _).symm
theorem pk_rem {a d : Nat} (ha : a < 2 ^ 31) (h0 : 0 < d) (hd : d < 2 ^ 31) : nI a - nI a / nI d * nI d = nI (a % d) := by
  rw [pk_div ha h0 hd, pk_mul, pk_sub (Nat.div_mul_le_self a d)]
  exact congrArg nI (by have := Nat.div_add_mod' a d; omega)
theorem pk_sub_toInt {a b : Nat} (ha : a < 2 ^ 30) (hb : b < 2 ^ 30) : (nI a - nI b).toInt = (a : Int) - b := by
  rw [Int32.toInt_sub, nI_toInt (by omega), nI_toInt (by omega)]
  exact Int.bmod_eq_of_le (by omega) (by omega)
theorem pk_sneg {a b : Nat} (hb : b < 2 ^ 30) (h : a < b) : nI a - nI b < 0 := by
  rw [Int32.lt_iff_toInt_lt, pk_sub_toInt (by omega) hb, show (0 : Int32).toInt = 0 from by decide]
  omega
theorem pk_ix (x : Int32) {n : Nat} (hn : n < 2 ^ 31) : x < 0 ∨ nI n ≤ x ∨ ∃ j : Nat, j < n ∧ x = nI j := by
  by_cases h : x < 0
  · exact Or.inl h
  · obtain ⟨j, hj, rfl⟩ := nI_of h
    by_cases h2 : j < n
    · exact Or.inr (Or.inr ⟨j, h2, rfl⟩)
    · exact Or.inr (Or.inl (nI_le (by omega) hj))
theorem pk_le {x y : Int32} {A B : Prop} (a b : Nat) (f : a ≤ b → A) (g : b < a → B) (hx : x = nI a := by rfl) (hy : y = nI b := by rfl) (ha : a < 2 ^ 31 := by omega) (hb : b < 2 ^ 31 := by omega) : (x ≤ y → A) ∧ (¬ x ≤ y → B) := by
  subst hx hy
  rw [nI_leI ha hb]
  exact ⟨f, fun z => g (by omega)⟩
theorem pk_lt {x y : Int32} {A B : Prop} (a b : Nat) (f : a < b → A) (g : b ≤ a → B) (hx : x = nI a := by rfl) (hy : y = nI b := by rfl) (ha : a < 2 ^ 31 := by omega) (hb : b < 2 ^ 31 := by omega) : (x < y → A) ∧ (¬ x < y → B) := by
  subst hx hy
  rw [nI_ltI ha hb]
  exact ⟨f, fun z => g (by omega)⟩
theorem pk_eq {x y : Int32} {A B : Prop} (a b : Nat) (f : a = b → A) (g : a ≠ b → B) (hx : x = nI a := by rfl) (hy : y = nI b := by rfl) (ha : a < 2 ^ 31 := by omega) (hb : b < 2 ^ 31 := by omega) : (x = y → A) ∧ (¬ x = y → B) := by
  subst hx hy
  rw [nI_eq ha hb]
  exact ⟨f, g⟩
theorem pk_in {x : Int32} (n N : Nat) (h : n < N) (hx : x = nI n := by rfl) (hN : N < 2 ^ 31 := by omega) : vp_in x N := by
  subst hx
  exact vp_in_nI h hN
theorem pk_cl {x : Int32} (n : Nat) (hx : x = nI n := by rfl) (h : n < 2 ^ 31 := by omega) : x.toNatClampNeg = n := by
  subst hx
  exact nI_clamp h
theorem pk_tn {n : Nat} (h : n < 2 ^ 32) : (nI n).toBitVec.toNat = n := Nat.mod_eq_of_lt h
theorem pk_and (x : Int32) {m : Int32} (k : Nat) (hm : m.toBitVec.toNat = 2 ^ k - 1) : x &&& m = nI (x.toBitVec.toNat % 2 ^ k) := by
  apply Int32.toBitVec_inj.mp
  apply BitVec.eq_of_toNat_eq
  rw [Int32.toBitVec_and, BitVec.toNat_and, hm, Nat.and_two_pow_sub_one_eq_mod]
  show _ = (BitVec.ofNat 32 _).toNat
  rw [BitVec.toNat_ofNat]
  exact (Nat.mod_eq_of_lt (Nat.lt_of_le_of_lt (Nat.mod_le _ _) x.toBitVec.isLt)).symm
theorem pk_andN {n : Nat} (h : n < 2 ^ 32) {m : Int32} (k : Nat) (hm : m.toBitVec.toNat = 2 ^ k - 1) : nI n &&& m = nI (n % 2 ^ k) := by
  rw [pk_and _ k hm, pk_tn h]
theorem pk_andE (x : Int32) {m : Int32} (k : Nat) (hm : m.toBitVec.toNat = 2 ^ k - 1) : ∃ j : Nat, j < 2 ^ k ∧ x &&& m = nI j := ⟨_, Nat.mod_lt _ (Nat.two_pow_pos k), pk_and x k hm⟩
theorem pk_andIn (x : Int32) {m : Int32} (k : Nat) (hm : m.toBitVec.toNat = 2 ^ k - 1) (hk : k ≤ 30) : vp_in (x &&& m) (2 ^ k) := by
  obtain ⟨j, hj, e⟩ := pk_andE x k hm
  rw [e]
  exact vp_in_nI hj (Nat.lt_of_le_of_lt (Nat.pow_le_pow_right (by decide) hk) (by decide))
theorem pk_shl (a s : Int32) (k : Nat) (hs : (s.toBitVec.smod 32).toNat = k) : (a <<< s).toBitVec.toNat = a.toBitVec.toNat * 2 ^ k % 2 ^ 32 := by
  show (a.toBitVec <<< (s.toBitVec.smod 32).toNat).toNat = _
  rw [hs, BitVec.toNat_shiftLeft, Nat.shiftLeft_eq]
theorem pk_shlN {n : Nat} (s : Int32) (k : Nat) (hs : (s.toBitVec.smod 32).toNat = k) (h : n * 2 ^ k < 2 ^ 32) : nI n <<< s = nI (n * 2 ^ k) := by
  apply Int32.toBitVec_inj.mp
  apply BitVec.eq_of_toNat_eq
  have hn : n < 2 ^ 32 := Nat.lt_of_le_of_lt (Nat.le_mul_of_pos_right n (Nat.two_pow_pos k)) h
  rw [pk_shl _ _ k hs, pk_tn hn, pk_tn h, Nat.mod_eq_of_lt h]
theorem pk_shr (a s : Int32) (k : Nat) (hs : (s.toBitVec.smod 32).toNat = k) : (a >>> s).toInt = a.toInt >>> k := by
  show (a.toBitVec.sshiftRight (s.toBitVec.smod 32).toNat).toInt = _
  rw [hs, BitVec.toInt_sshiftRight]
  rfl
theorem pk_shrN {n : Nat} (h : n < 2 ^ 31) (s : Int32) (k : Nat) (hs : (s.toBitVec.smod 32).toNat = k) : nI n >>> s = nI (n / 2 ^ k) := by
  apply Int32.toInt_inj.mp
  have h2 : n / 2 ^ k ≤ n := Nat.div_le_self _ _
  rw [pk_shr _ _ k hs, nI_toInt h, nI_toInt (by omega), Int.shiftRight_eq_div_pow]
  rfl
theorem pk_ushr (x s : Int32) (k : Nat) (hs : ((s.toUInt32 &&& Int32.toUInt32 31).toBitVec % 32).toNat = k) : (x.toUInt32 >>> (s.toUInt32 &&& Int32.toUInt32 31)).toInt32.toBitVec.toNat = x.toBitVec.toNat / 2 ^ k := by
  have e : (x.toUInt32 >>> (s.toUInt32 &&& Int32.toUInt32 31)).toInt32.toBitVec = x.toBitVec >>> k := by
    rw [← hs]
    exact UInt32.toBitVec_shiftRight _ _
  rw [e, BitVec.toNat_ushiftRight, Nat.shiftRight_eq_div_pow]
theorem pk_ushrN {n : Nat} (hn : n < 2 ^ 32) (s : Int32) (k : Nat) (hs : ((s.toUInt32 &&& Int32.toUInt32 31).toBitVec % 32).toNat = k) : ((nI n).toUInt32 >>> (s.toUInt32 &&& Int32.toUInt32 31)).toInt32 = nI (n / 2 ^ k) := by
  apply Int32.toBitVec_inj.mp
  apply BitVec.eq_of_toNat_eq
  rw [pk_ushr _ s k hs, pk_tn hn, pk_tn (Nat.lt_of_le_of_lt (Nat.div_le_self _ _) hn)]
theorem pk_nb (z : Int32) : narrow .byte (.int z.toInt8.toInt32) = .int z.toInt8.toInt32 := congrArg Value.int (by simp)
theorem pk_ns (z : Int32) : narrow .short (.int z.toInt16.toInt32) = .int z.toInt16.toInt32 := congrArg Value.int (by simp)
theorem pk_fb (r : Int32) : fits .byte (.int r.toInt8.toInt32) = true := by
  have ⟨a, b⟩ := lg_i2b_range r
  have h1 : (-128 : Int32).toInt = -128 := by decide
  have h2 : (127 : Int32).toInt = 127 := by decide
  simp only [fits, Bool.and_eq_true, decide_eq_true_eq, Int32.le_iff_toInt_le, h1, h2]
  omega
theorem pk_fs (r : Int32) : fits .short (.int r.toInt16.toInt32) = true := by
  have ⟨a, b⟩ := lg_i2s_range r
  have h1 : (-32768 : Int32).toInt = -32768 := by decide
  have h2 : (32767 : Int32).toInt = 32767 := by decide
  simp only [fits, Bool.and_eq_true, decide_eq_true_eq, Int32.le_iff_toInt_le, h1, h2]
  omega
theorem pk_charN {q : Nat} (hq : q < 65536) : narrow .char (.int (nI q)) = .int (nI q) ∧ fits .char (.int (nI q)) = true := by
  constructor
  · have e : (nI q).toUInt32.toUInt16.toUInt32.toInt32 = nI q := by
      apply Int32.toBitVec_inj.mp
      apply BitVec.eq_of_toNat_eq
      show (nI q).toUInt32.toUInt16.toUInt32.toNat = q % 2 ^ 32
      rw [UInt16.toNat_toUInt32, UInt32.toNat_toUInt16, show (nI q).toUInt32.toNat = q % 2 ^ 32 from rfl]
      omega
    exact congrArg Value.int e
  · have a : (0 : Int32) ≤ nI q := nI_pos' (by omega)
    have b : nI q ≤ 65535 := nI_le (b := 65535) (by omega) (by decide)
    show (decide ((0 : Int32) ≤ nI q) && decide (nI q ≤ 65535)) = true
    rw [decide_eq_true a, decide_eq_true b]
    rfl
theorem pk_char (x : Int32) : (x.toUInt32 % 65536).toInt32 = nI (x.toBitVec.toNat % 65536) := by
  apply Int32.toBitVec_inj.mp
  apply BitVec.eq_of_toNat_eq
  rw [pk_tn (by omega)]
  show (x.toUInt32 % 65536).toNat = _
  rw [UInt32.toNat_mod]
  rfl
theorem pk_nc (x : Int32) : narrow .char (.int (x.toUInt32 % 65536).toInt32) = .int (x.toUInt32 % 65536).toInt32 := by
  rw [pk_char]
  exact (pk_charN (Nat.mod_lt _ (by decide))).1
theorem pk_fc (x : Int32) : fits .char (.int (x.toUInt32 % 65536).toInt32) = true := by
  rw [pk_char]
  exact (pk_charN (Nat.mod_lt _ (by decide))).2
theorem pk_vb (z : Int32) : vp_nar .byte z.toInt8.toInt32 = z.toInt8.toInt32 := by rw [vp_nar_byte]; simp
theorem pk_vs (z : Int32) : vp_nar .short z.toInt16.toInt32 = z.toInt16.toInt32 := by rw [vp_nar_short]; simp
theorem pk_vc (z : Int32) : vp_nar .char (z.toUInt32 % 65536).toInt32 = (z.toUInt32 % 65536).toInt32 := Value.int.inj (pk_nc z)
theorem pk_lT {n : Nat} (h : n < 2 ^ 63) : (lN n).toInt = (n : Int) := lg_ofNat_toInt h
theorem pk_lLT {a b : Nat} (ha : a < 2 ^ 63) (hb : b < 2 ^ 63) : lN a < lN b ↔ a < b := by
  rw [Int64.lt_iff_toInt_lt, pk_lT ha, pk_lT hb]; omega
theorem pk_lLE {a b : Nat} (ha : a < 2 ^ 63) (hb : b < 2 ^ 63) : lN a ≤ lN b ↔ a ≤ b := by
  rw [Int64.le_iff_toInt_le, pk_lT ha, pk_lT hb]; omega
theorem pk_lEQ {a b : Nat} (ha : a < 2 ^ 63) (hb : b < 2 ^ 63) : lN a = lN b ↔ a = b := by
  rw [← Int64.toInt_inj, pk_lT ha, pk_lT hb]; omega
theorem pk_lOf {x : Int64} (h : ¬ x < 0) : ∃ k : Nat, k < 2 ^ 63 ∧ x = lN k := by
  rw [Int64.lt_iff_toInt_lt] at h
  have h0 : (0 : Int64).toInt = 0 := by decide
  have hx := Int64.toInt_lt x
  refine ⟨x.toInt.toNat, by omega, Int64.toInt_inj.mp ?_⟩
  rw [pk_lT (by omega)]
  omega
theorem pk_lDiv {a b : Nat} (ha : a < 2 ^ 63) (h0 : 0 < b) (hb : b < 2 ^ 63) : lN a / lN b = lN (a / b) := by
  apply Int64.toInt_inj.mp
  rw [lg_ldiv_nonneg (by rw [pk_lT ha]; omega) (by rw [pk_lT hb]; omega), pk_lT ha, pk_lT hb, pk_lT (Nat.lt_of_le_of_lt (Nat.div_le_self a b) ha)]
  rfl
theorem pk_lRem {a b : Nat} (ha : a < 2 ^ 63) (h0 : 0 < b) (hb : b < 2 ^ 63) : lN a - lN a / lN b * lN b = lN (a % b) := by
  rw [pk_lDiv ha h0 hb, lN_mul, lN_sub (Nat.div_mul_le_self a b)]
  exact congrArg lN (by have := Nat.div_add_mod' a b; omega)
theorem pk_loop {σ : Type} (W : Nat → Nat → σ → Prop) (I : Nat → σ → Prop) (e i0 : Nat) (s : σ) (hi : i0 ≤ e) (h0 : I i0 s) (hx : ∀ n s, I e s → W (n + 1) e s)
    (hs : ∀ n i s, i < e → I i s → (∀ s', I (i + 1) s' → W n (i + 1) s') → W (n + 1) i s) : ∃ n, W n i0 s :=
  ⟨e + 1, loop_i W I e hx hs (e + 1) i0 s hi (by omega) h0⟩
theorem pk_loopD {σ : Type} (W : Nat → Nat → σ → Prop) (I : Nat → σ → Prop) (hx : ∀ n s, I 0 s → W (n + 1) 0 s)
    (hs : ∀ n i s, I (i + 1) s → (∀ s', I i s' → W n i s') → W (n + 1) (i + 1) s) : ∀ (e : Nat) (s : σ), I e s → W (e + 1) e s := by
  intro e
  induction e with
  | zero => exact fun s h => hx 0 s h
  | succ e ih => exact fun s h => hs (e + 1) e s h (fun s' h' => ih s' h')
theorem lp1 {A1 : Type} (W : Nat → A1 → Prop) (I : A1 → Prop) (μ : A1 → Nat) (hs : ∀ (n : Nat) (a1 : A1), I a1 → (∀ (b1 : A1), I b1 → μ b1 < μ a1 → W n b1) → W (n + 1) a1) (a1 : A1) (h : I a1) : ∃ n, W n a1 :=
  loop_m (σ := A1) (fun n s => W n s) (fun s => I s) (fun s => μ s) (fun n s hI hk => hs n s hI (fun b1 h9 hm => hk b1 h9 hm)) a1 h
theorem lp2 {A1 A2 : Type} (W : Nat → A1 → A2 → Prop) (I : A1 → A2 → Prop) (μ : A1 → A2 → Nat) (hs : ∀ (n : Nat) (a1 : A1) (a2 : A2), I a1 a2 → (∀ (b1 : A1) (b2 : A2), I b1 b2 → μ b1 b2 < μ a1 a2 → W n b1 b2) → W (n + 1) a1 a2) (a1 : A1) (a2 : A2) (h : I a1 a2) : ∃ n, W n a1 a2 :=
  loop_m (σ := A1 × A2) (fun n s => W n s.1 s.2) (fun s => I s.1 s.2) (fun s => μ s.1 s.2) (fun n s hI hk => hs n s.1 s.2 hI (fun b1 b2 h9 hm => hk (b1, b2) h9 hm)) (a1, a2) h
theorem lp3 {A1 A2 A3 : Type} (W : Nat → A1 → A2 → A3 → Prop) (I : A1 → A2 → A3 → Prop) (μ : A1 → A2 → A3 → Nat) (hs : ∀ (n : Nat) (a1 : A1) (a2 : A2) (a3 : A3), I a1 a2 a3 → (∀ (b1 : A1) (b2 : A2) (b3 : A3), I b1 b2 b3 → μ b1 b2 b3 < μ a1 a2 a3 → W n b1 b2 b3) → W (n + 1) a1 a2 a3) (a1 : A1) (a2 : A2) (a3 : A3) (h : I a1 a2 a3) : ∃ n, W n a1 a2 a3 :=
  loop_m (σ := A1 × A2 × A3) (fun n s => W n s.1 s.2.1 s.2.2) (fun s => I s.1 s.2.1 s.2.2) (fun s => μ s.1 s.2.1 s.2.2) (fun n s hI hk => hs n s.1 s.2.1 s.2.2 hI (fun b1 b2 b3 h9 hm => hk (b1, b2, b3) h9 hm)) (a1, a2, a3) h
theorem lp4 {A1 A2 A3 A4 : Type} (W : Nat → A1 → A2 → A3 → A4 → Prop) (I : A1 → A2 → A3 → A4 → Prop) (μ : A1 → A2 → A3 → A4 → Nat) (hs : ∀ (n : Nat) (a1 : A1) (a2 : A2) (a3 : A3) (a4 : A4), I a1 a2 a3 a4 → (∀ (b1 : A1) (b2 : A2) (b3 : A3) (b4 : A4), I b1 b2 b3 b4 → μ b1 b2 b3 b4 < μ a1 a2 a3 a4 → W n b1 b2 b3 b4) → W (n + 1) a1 a2 a3 a4) (a1 : A1) (a2 : A2) (a3 : A3) (a4 : A4) (h : I a1 a2 a3 a4) : ∃ n, W n a1 a2 a3 a4 :=
  loop_m (σ := A1 × A2 × A3 × A4) (fun n s => W n s.1 s.2.1 s.2.2.1 s.2.2.2) (fun s => I s.1 s.2.1 s.2.2.1 s.2.2.2) (fun s => μ s.1 s.2.1 s.2.2.1 s.2.2.2) (fun n s hI hk => hs n s.1 s.2.1 s.2.2.1 s.2.2.2 hI (fun b1 b2 b3 b4 h9 hm => hk (b1, b2, b3, b4) h9 hm)) (a1, a2, a3, a4) h
theorem lp5 {A1 A2 A3 A4 A5 : Type} (W : Nat → A1 → A2 → A3 → A4 → A5 → Prop) (I : A1 → A2 → A3 → A4 → A5 → Prop) (μ : A1 → A2 → A3 → A4 → A5 → Nat) (hs : ∀ (n : Nat) (a1 : A1) (a2 : A2) (a3 : A3) (a4 : A4) (a5 : A5), I a1 a2 a3 a4 a5 → (∀ (b1 : A1) (b2 : A2) (b3 : A3) (b4 : A4) (b5 : A5), I b1 b2 b3 b4 b5 → μ b1 b2 b3 b4 b5 < μ a1 a2 a3 a4 a5 → W n b1 b2 b3 b4 b5) → W (n + 1) a1 a2 a3 a4 a5) (a1 : A1) (a2 : A2) (a3 : A3) (a4 : A4) (a5 : A5) (h : I a1 a2 a3 a4 a5) : ∃ n, W n a1 a2 a3 a4 a5 :=
  loop_m (σ := A1 × A2 × A3 × A4 × A5) (fun n s => W n s.1 s.2.1 s.2.2.1 s.2.2.2.1 s.2.2.2.2) (fun s => I s.1 s.2.1 s.2.2.1 s.2.2.2.1 s.2.2.2.2) (fun s => μ s.1 s.2.1 s.2.2.1 s.2.2.2.1 s.2.2.2.2) (fun n s hI hk => hs n s.1 s.2.1 s.2.2.1 s.2.2.2.1 s.2.2.2.2 hI (fun b1 b2 b3 b4 b5 h9 hm => hk (b1, b2, b3, b4, b5) h9 hm)) (a1, a2, a3, a4, a5) h
theorem lp6 {A1 A2 A3 A4 A5 A6 : Type} (W : Nat → A1 → A2 → A3 → A4 → A5 → A6 → Prop) (I : A1 → A2 → A3 → A4 → A5 → A6 → Prop) (μ : A1 → A2 → A3 → A4 → A5 → A6 → Nat) (hs : ∀ (n : Nat) (a1 : A1) (a2 : A2) (a3 : A3) (a4 : A4) (a5 : A5) (a6 : A6), I a1 a2 a3 a4 a5 a6 → (∀ (b1 : A1) (b2 : A2) (b3 : A3) (b4 : A4) (b5 : A5) (b6 : A6), I b1 b2 b3 b4 b5 b6 → μ b1 b2 b3 b4 b5 b6 < μ a1 a2 a3 a4 a5 a6 → W n b1 b2 b3 b4 b5 b6) → W (n + 1) a1 a2 a3 a4 a5 a6) (a1 : A1) (a2 : A2) (a3 : A3) (a4 : A4) (a5 : A5) (a6 : A6) (h : I a1 a2 a3 a4 a5 a6) : ∃ n, W n a1 a2 a3 a4 a5 a6 :=
  loop_m (σ := A1 × A2 × A3 × A4 × A5 × A6) (fun n s => W n s.1 s.2.1 s.2.2.1 s.2.2.2.1 s.2.2.2.2.1 s.2.2.2.2.2) (fun s => I s.1 s.2.1 s.2.2.1 s.2.2.2.1 s.2.2.2.2.1 s.2.2.2.2.2) (fun s => μ s.1 s.2.1 s.2.2.1 s.2.2.2.1 s.2.2.2.2.1 s.2.2.2.2.2) (fun n s hI hk => hs n s.1 s.2.1 s.2.2.1 s.2.2.2.1 s.2.2.2.2.1 s.2.2.2.2.2 hI (fun b1 b2 b3 b4 b5 b6 h9 hm => hk (b1, b2, b3, b4, b5, b6) h9 hm)) (a1, a2, a3, a4, a5, a6) h
theorem lp7 {A1 A2 A3 A4 A5 A6 A7 : Type} (W : Nat → A1 → A2 → A3 → A4 → A5 → A6 → A7 → Prop) (I : A1 → A2 → A3 → A4 → A5 → A6 → A7 → Prop) (μ : A1 → A2 → A3 → A4 → A5 → A6 → A7 → Nat) (hs : ∀ (n : Nat) (a1 : A1) (a2 : A2) (a3 : A3) (a4 : A4) (a5 : A5) (a6 : A6) (a7 : A7), I a1 a2 a3 a4 a5 a6 a7 → (∀ (b1 : A1) (b2 : A2) (b3 : A3) (b4 : A4) (b5 : A5) (b6 : A6) (b7 : A7), I b1 b2 b3 b4 b5 b6 b7 → μ b1 b2 b3 b4 b5 b6 b7 < μ a1 a2 a3 a4 a5 a6 a7 → W n b1 b2 b3 b4 b5 b6 b7) → W (n + 1) a1 a2 a3 a4 a5 a6 a7) (a1 : A1) (a2 : A2) (a3 : A3) (a4 : A4) (a5 : A5) (a6 : A6) (a7 : A7) (h : I a1 a2 a3 a4 a5 a6 a7) : ∃ n, W n a1 a2 a3 a4 a5 a6 a7 :=
  loop_m (σ := A1 × A2 × A3 × A4 × A5 × A6 × A7) (fun n s => W n s.1 s.2.1 s.2.2.1 s.2.2.2.1 s.2.2.2.2.1 s.2.2.2.2.2.1 s.2.2.2.2.2.2) (fun s => I s.1 s.2.1 s.2.2.1 s.2.2.2.1 s.2.2.2.2.1 s.2.2.2.2.2.1 s.2.2.2.2.2.2) (fun s => μ s.1 s.2.1 s.2.2.1 s.2.2.2.1 s.2.2.2.2.1 s.2.2.2.2.2.1 s.2.2.2.2.2.2) (fun n s hI hk => hs n s.1 s.2.1 s.2.2.1 s.2.2.2.1 s.2.2.2.2.1 s.2.2.2.2.2.1 s.2.2.2.2.2.2 hI (fun b1 b2 b3 b4 b5 b6 b7 h9 hm => hk (b1, b2, b3, b4, b5, b6, b7) h9 hm)) (a1, a2, a3, a4, a5, a6, a7) h
theorem lp8 {A1 A2 A3 A4 A5 A6 A7 A8 : Type} (W : Nat → A1 → A2 → A3 → A4 → A5 → A6 → A7 → A8 → Prop) (I : A1 → A2 → A3 → A4 → A5 → A6 → A7 → A8 → Prop) (μ : A1 → A2 → A3 → A4 → A5 → A6 → A7 → A8 → Nat) (hs : ∀ (n : Nat) (a1 : A1) (a2 : A2) (a3 : A3) (a4 : A4) (a5 : A5) (a6 : A6) (a7 : A7) (a8 : A8), I a1 a2 a3 a4 a5 a6 a7 a8 → (∀ (b1 : A1) (b2 : A2) (b3 : A3) (b4 : A4) (b5 : A5) (b6 : A6) (b7 : A7) (b8 : A8), I b1 b2 b3 b4 b5 b6 b7 b8 → μ b1 b2 b3 b4 b5 b6 b7 b8 < μ a1 a2 a3 a4 a5 a6 a7 a8 → W n b1 b2 b3 b4 b5 b6 b7 b8) → W (n + 1) a1 a2 a3 a4 a5 a6 a7 a8) (a1 : A1) (a2 : A2) (a3 : A3) (a4 : A4) (a5 : A5) (a6 : A6) (a7 : A7) (a8 : A8) (h : I a1 a2 a3 a4 a5 a6 a7 a8) : ∃ n, W n a1 a2 a3 a4 a5 a6 a7 a8 :=
  loop_m (σ := A1 × A2 × A3 × A4 × A5 × A6 × A7 × A8) (fun n s => W n s.1 s.2.1 s.2.2.1 s.2.2.2.1 s.2.2.2.2.1 s.2.2.2.2.2.1 s.2.2.2.2.2.2.1 s.2.2.2.2.2.2.2) (fun s => I s.1 s.2.1 s.2.2.1 s.2.2.2.1 s.2.2.2.2.1 s.2.2.2.2.2.1 s.2.2.2.2.2.2.1 s.2.2.2.2.2.2.2) (fun s => μ s.1 s.2.1 s.2.2.1 s.2.2.2.1 s.2.2.2.2.1 s.2.2.2.2.2.1 s.2.2.2.2.2.2.1 s.2.2.2.2.2.2.2) (fun n s hI hk => hs n s.1 s.2.1 s.2.2.1 s.2.2.2.1 s.2.2.2.2.1 s.2.2.2.2.2.1 s.2.2.2.2.2.2.1 s.2.2.2.2.2.2.2 hI (fun b1 b2 b3 b4 b5 b6 b7 b8 h9 hm => hk (b1, b2, b3, b4, b5, b6, b7, b8) h9 hm)) (a1, a2, a3, a4, a5, a6, a7, a8) h
theorem lp9 {A1 A2 A3 A4 A5 A6 A7 A8 A9 : Type} (W : Nat → A1 → A2 → A3 → A4 → A5 → A6 → A7 → A8 → A9 → Prop) (I : A1 → A2 → A3 → A4 → A5 → A6 → A7 → A8 → A9 → Prop) (μ : A1 → A2 → A3 → A4 → A5 → A6 → A7 → A8 → A9 → Nat) (hs : ∀ (n : Nat) (a1 : A1) (a2 : A2) (a3 : A3) (a4 : A4) (a5 : A5) (a6 : A6) (a7 : A7) (a8 : A8) (a9 : A9), I a1 a2 a3 a4 a5 a6 a7 a8 a9 → (∀ (b1 : A1) (b2 : A2) (b3 : A3) (b4 : A4) (b5 : A5) (b6 : A6) (b7 : A7) (b8 : A8) (b9 : A9), I b1 b2 b3 b4 b5 b6 b7 b8 b9 → μ b1 b2 b3 b4 b5 b6 b7 b8 b9 < μ a1 a2 a3 a4 a5 a6 a7 a8 a9 → W n b1 b2 b3 b4 b5 b6 b7 b8 b9) → W (n + 1) a1 a2 a3 a4 a5 a6 a7 a8 a9) (a1 : A1) (a2 : A2) (a3 : A3) (a4 : A4) (a5 : A5) (a6 : A6) (a7 : A7) (a8 : A8) (a9 : A9) (h : I a1 a2 a3 a4 a5 a6 a7 a8 a9) : ∃ n, W n a1 a2 a3 a4 a5 a6 a7 a8 a9 :=
  loop_m (σ := A1 × A2 × A3 × A4 × A5 × A6 × A7 × A8 × A9) (fun n s => W n s.1 s.2.1 s.2.2.1 s.2.2.2.1 s.2.2.2.2.1 s.2.2.2.2.2.1 s.2.2.2.2.2.2.1 s.2.2.2.2.2.2.2.1 s.2.2.2.2.2.2.2.2) (fun s => I s.1 s.2.1 s.2.2.1 s.2.2.2.1 s.2.2.2.2.1 s.2.2.2.2.2.1 s.2.2.2.2.2.2.1 s.2.2.2.2.2.2.2.1 s.2.2.2.2.2.2.2.2) (fun s => μ s.1 s.2.1 s.2.2.1 s.2.2.2.1 s.2.2.2.2.1 s.2.2.2.2.2.1 s.2.2.2.2.2.2.1 s.2.2.2.2.2.2.2.1 s.2.2.2.2.2.2.2.2) (fun n s hI hk => hs n s.1 s.2.1 s.2.2.1 s.2.2.2.1 s.2.2.2.2.1 s.2.2.2.2.2.1 s.2.2.2.2.2.2.1 s.2.2.2.2.2.2.2.1 s.2.2.2.2.2.2.2.2 hI (fun b1 b2 b3 b4 b5 b6 b7 b8 b9 h9 hm => hk (b1, b2, b3, b4, b5, b6, b7, b8, b9) h9 hm)) (a1, a2, a3, a4, a5, a6, a7, a8, a9) h
theorem lp10 {A1 A2 A3 A4 A5 A6 A7 A8 A9 A10 : Type} (W : Nat → A1 → A2 → A3 → A4 → A5 → A6 → A7 → A8 → A9 → A10 → Prop) (I : A1 → A2 → A3 → A4 → A5 → A6 → A7 → A8 → A9 → A10 → Prop) (μ : A1 → A2 → A3 → A4 → A5 → A6 → A7 → A8 → A9 → A10 → Nat) (hs : ∀ (n : Nat) (a1 : A1) (a2 : A2) (a3 : A3) (a4 : A4) (a5 : A5) (a6 : A6) (a7 : A7) (a8 : A8) (a9 : A9) (a10 : A10), I a1 a2 a3 a4 a5 a6 a7 a8 a9 a10 → (∀ (b1 : A1) (b2 : A2) (b3 : A3) (b4 : A4) (b5 : A5) (b6 : A6) (b7 : A7) (b8 : A8) (b9 : A9) (b10 : A10), I b1 b2 b3 b4 b5 b6 b7 b8 b9 b10 → μ b1 b2 b3 b4 b5 b6 b7 b8 b9 b10 < μ a1 a2 a3 a4 a5 a6 a7 a8 a9 a10 → W n b1 b2 b3 b4 b5 b6 b7 b8 b9 b10) → W (n + 1) a1 a2 a3 a4 a5 a6 a7 a8 a9 a10) (a1 : A1) (a2 : A2) (a3 : A3) (a4 : A4) (a5 : A5) (a6 : A6) (a7 : A7) (a8 : A8) (a9 : A9) (a10 : A10) (h : I a1 a2 a3 a4 a5 a6 a7 a8 a9 a10) : ∃ n, W n a1 a2 a3 a4 a5 a6 a7 a8 a9 a10 :=
  loop_m (σ := A1 × A2 × A3 × A4 × A5 × A6 × A7 × A8 × A9 × A10) (fun n s => W n s.1 s.2.1 s.2.2.1 s.2.2.2.1 s.2.2.2.2.1 s.2.2.2.2.2.1 s.2.2.2.2.2.2.1 s.2.2.2.2.2.2.2.1 s.2.2.2.2.2.2.2.2.1 s.2.2.2.2.2.2.2.2.2) (fun s => I s.1 s.2.1 s.2.2.1 s.2.2.2.1 s.2.2.2.2.1 s.2.2.2.2.2.1 s.2.2.2.2.2.2.1 s.2.2.2.2.2.2.2.1 s.2.2.2.2.2.2.2.2.1 s.2.2.2.2.2.2.2.2.2) (fun s => μ s.1 s.2.1 s.2.2.1 s.2.2.2.1 s.2.2.2.2.1 s.2.2.2.2.2.1 s.2.2.2.2.2.2.1 s.2.2.2.2.2.2.2.1 s.2.2.2.2.2.2.2.2.1 s.2.2.2.2.2.2.2.2.2) (fun n s hI hk => hs n s.1 s.2.1 s.2.2.1 s.2.2.2.1 s.2.2.2.2.1 s.2.2.2.2.2.1 s.2.2.2.2.2.2.1 s.2.2.2.2.2.2.2.1 s.2.2.2.2.2.2.2.2.1 s.2.2.2.2.2.2.2.2.2 hI (fun b1 b2 b3 b4 b5 b6 b7 b8 b9 b10 h9 hm => hk (b1, b2, b3, b4, b5, b6, b7, b8, b9, b10) h9 hm)) (a1, a2, a3, a4, a5, a6, a7, a8, a9, a10) h
theorem lp11 {A1 A2 A3 A4 A5 A6 A7 A8 A9 A10 A11 : Type} (W : Nat → A1 → A2 → A3 → A4 → A5 → A6 → A7 → A8 → A9 → A10 → A11 → Prop) (I : A1 → A2 → A3 → A4 → A5 → A6 → A7 → A8 → A9 → A10 → A11 → Prop) (μ : A1 → A2 → A3 → A4 → A5 → A6 → A7 → A8 → A9 → A10 → A11 → Nat) (hs : ∀ (n : Nat) (a1 : A1) (a2 : A2) (a3 : A3) (a4 : A4) (a5 : A5) (a6 : A6) (a7 : A7) (a8 : A8) (a9 : A9) (a10 : A10) (a11 : A11), I a1 a2 a3 a4 a5 a6 a7 a8 a9 a10 a11 → (∀ (b1 : A1) (b2 : A2) (b3 : A3) (b4 : A4) (b5 : A5) (b6 : A6) (b7 : A7) (b8 : A8) (b9 : A9) (b10 : A10) (b11 : A11), I b1 b2 b3 b4 b5 b6 b7 b8 b9 b10 b11 → μ b1 b2 b3 b4 b5 b6 b7 b8 b9 b10 b11 < μ a1 a2 a3 a4 a5 a6 a7 a8 a9 a10 a11 → W n b1 b2 b3 b4 b5 b6 b7 b8 b9 b10 b11) → W (n + 1) a1 a2 a3 a4 a5 a6 a7 a8 a9 a10 a11) (a1 : A1) (a2 : A2) (a3 : A3) (a4 : A4) (a5 : A5) (a6 : A6) (a7 : A7) (a8 : A8) (a9 : A9) (a10 : A10) (a11 : A11) (h : I a1 a2 a3 a4 a5 a6 a7 a8 a9 a10 a11) : ∃ n, W n a1 a2 a3 a4 a5 a6 a7 a8 a9 a10 a11 :=
  loop_m (σ := A1 × A2 × A3 × A4 × A5 × A6 × A7 × A8 × A9 × A10 × A11) (fun n s => W n s.1 s.2.1 s.2.2.1 s.2.2.2.1 s.2.2.2.2.1 s.2.2.2.2.2.1 s.2.2.2.2.2.2.1 s.2.2.2.2.2.2.2.1 s.2.2.2.2.2.2.2.2.1 s.2.2.2.2.2.2.2.2.2.1 s.2.2.2.2.2.2.2.2.2.2) (fun s => I s.1 s.2.1 s.2.2.1 s.2.2.2.1 s.2.2.2.2.1 s.2.2.2.2.2.1 s.2.2.2.2.2.2.1 s.2.2.2.2.2.2.2.1 s.2.2.2.2.2.2.2.2.1 s.2.2.2.2.2.2.2.2.2.1 s.2.2.2.2.2.2.2.2.2.2) (fun s => μ s.1 s.2.1 s.2.2.1 s.2.2.2.1 s.2.2.2.2.1 s.2.2.2.2.2.1 s.2.2.2.2.2.2.1 s.2.2.2.2.2.2.2.1 s.2.2.2.2.2.2.2.2.1 s.2.2.2.2.2.2.2.2.2.1 s.2.2.2.2.2.2.2.2.2.2) (fun n s hI hk => hs n s.1 s.2.1 s.2.2.1 s.2.2.2.1 s.2.2.2.2.1 s.2.2.2.2.2.1 s.2.2.2.2.2.2.1 s.2.2.2.2.2.2.2.1 s.2.2.2.2.2.2.2.2.1 s.2.2.2.2.2.2.2.2.2.1 s.2.2.2.2.2.2.2.2.2.2 hI (fun b1 b2 b3 b4 b5 b6 b7 b8 b9 b10 b11 h9 hm => hk (b1, b2, b3, b4, b5, b6, b7, b8, b9, b10, b11) h9 hm)) (a1, a2, a3, a4, a5, a6, a7, a8, a9, a10, a11) h
theorem lp12 {A1 A2 A3 A4 A5 A6 A7 A8 A9 A10 A11 A12 : Type} (W : Nat → A1 → A2 → A3 → A4 → A5 → A6 → A7 → A8 → A9 → A10 → A11 → A12 → Prop) (I : A1 → A2 → A3 → A4 → A5 → A6 → A7 → A8 → A9 → A10 → A11 → A12 → Prop) (μ : A1 → A2 → A3 → A4 → A5 → A6 → A7 → A8 → A9 → A10 → A11 → A12 → Nat) (hs : ∀ (n : Nat) (a1 : A1) (a2 : A2) (a3 : A3) (a4 : A4) (a5 : A5) (a6 : A6) (a7 : A7) (a8 : A8) (a9 : A9) (a10 : A10) (a11 : A11) (a12 : A12), I a1 a2 a3 a4 a5 a6 a7 a8 a9 a10 a11 a12 → (∀ (b1 : A1) (b2 : A2) (b3 : A3) (b4 : A4) (b5 : A5) (b6 : A6) (b7 : A7) (b8 : A8) (b9 : A9) (b10 : A10) (b11 : A11) (b12 : A12), I b1 b2 b3 b4 b5 b6 b7 b8 b9 b10 b11 b12 → μ b1 b2 b3 b4 b5 b6 b7 b8 b9 b10 b11 b12 < μ a1 a2 a3 a4 a5 a6 a7 a8 a9 a10 a11 a12 → W n b1 b2 b3 b4 b5 b6 b7 b8 b9 b10 b11 b12) → W (n + 1) a1 a2 a3 a4 a5 a6 a7 a8 a9 a10 a11 a12) (a1 : A1) (a2 : A2) (a3 : A3) (a4 : A4) (a5 : A5) (a6 : A6) (a7 : A7) (a8 : A8) (a9 : A9) (a10 : A10) (a11 : A11) (a12 : A12) (h : I a1 a2 a3 a4 a5 a6 a7 a8 a9 a10 a11 a12) : ∃ n, W n a1 a2 a3 a4 a5 a6 a7 a8 a9 a10 a11 a12 :=
  loop_m (σ := A1 × A2 × A3 × A4 × A5 × A6 × A7 × A8 × A9 × A10 × A11 × A12) (fun n s => W n s.1 s.2.1 s.2.2.1 s.2.2.2.1 s.2.2.2.2.1 s.2.2.2.2.2.1 s.2.2.2.2.2.2.1 s.2.2.2.2.2.2.2.1 s.2.2.2.2.2.2.2.2.1 s.2.2.2.2.2.2.2.2.2.1 s.2.2.2.2.2.2.2.2.2.2.1 s.2.2.2.2.2.2.2.2.2.2.2) (fun s => I s.1 s.2.1 s.2.2.1 s.2.2.2.1 s.2.2.2.2.1 s.2.2.2.2.2.1 s.2.2.2.2.2.2.1 s.2.2.2.2.2.2.2.1 s.2.2.2.2.2.2.2.2.1 s.2.2.2.2.2.2.2.2.2.1 s.2.2.2.2.2.2.2.2.2.2.1 s.2.2.2.2.2.2.2.2.2.2.2) (fun s => μ s.1 s.2.1 s.2.2.1 s.2.2.2.1 s.2.2.2.2.1 s.2.2.2.2.2.1 s.2.2.2.2.2.2.1 s.2.2.2.2.2.2.2.1 s.2.2.2.2.2.2.2.2.1 s.2.2.2.2.2.2.2.2.2.1 s.2.2.2.2.2.2.2.2.2.2.1 s.2.2.2.2.2.2.2.2.2.2.2) (fun n s hI hk => hs n s.1 s.2.1 s.2.2.1 s.2.2.2.1 s.2.2.2.2.1 s.2.2.2.2.2.1 s.2.2.2.2.2.2.1 s.2.2.2.2.2.2.2.1 s.2.2.2.2.2.2.2.2.1 s.2.2.2.2.2.2.2.2.2.1 s.2.2.2.2.2.2.2.2.2.2.1 s.2.2.2.2.2.2.2.2.2.2.2 hI (fun b1 b2 b3 b4 b5 b6 b7 b8 b9 b10 b11 b12 h9 hm => hk (b1, b2, b3, b4, b5, b6, b7, b8, b9, b10, b11, b12) h9 hm)) (a1, a2, a3, a4, a5, a6, a7, a8, a9, a10, a11, a12) h
theorem lp13 {A1 A2 A3 A4 A5 A6 A7 A8 A9 A10 A11 A12 A13 : Type} (W : Nat → A1 → A2 → A3 → A4 → A5 → A6 → A7 → A8 → A9 → A10 → A11 → A12 → A13 → Prop) (I : A1 → A2 → A3 → A4 → A5 → A6 → A7 → A8 → A9 → A10 → A11 → A12 → A13 → Prop) (μ : A1 → A2 → A3 → A4 → A5 → A6 → A7 → A8 → A9 → A10 → A11 → A12 → A13 → Nat) (hs : ∀ (n : Nat) (a1 : A1) (a2 : A2) (a3 : A3) (a4 : A4) (a5 : A5) (a6 : A6) (a7 : A7) (a8 : A8) (a9 : A9) (a10 : A10) (a11 : A11) (a12 : A12) (a13 : A13), I a1 a2 a3 a4 a5 a6 a7 a8 a9 a10 a11 a12 a13 → (∀ (b1 : A1) (b2 : A2) (b3 : A3) (b4 : A4) (b5 : A5) (b6 : A6) (b7 : A7) (b8 : A8) (b9 : A9) (b10 : A10) (b11 : A11) (b12 : A12) (b13 : A13), I b1 b2 b3 b4 b5 b6 b7 b8 b9 b10 b11 b12 b13 → μ b1 b2 b3 b4 b5 b6 b7 b8 b9 b10 b11 b12 b13 < μ a1 a2 a3 a4 a5 a6 a7 a8 a9 a10 a11 a12 a13 → W n b1 b2 b3 b4 b5 b6 b7 b8 b9 b10 b11 b12 b13) → W (n + 1) a1 a2 a3 a4 a5 a6 a7 a8 a9 a10 a11 a12 a13) (a1 : A1) (a2 : A2) (a3 : A3) (a4 : A4) (a5 : A5) (a6 : A6) (a7 : A7) (a8 : A8) (a9 : A9) (a10 : A10) (a11 : A11) (a12 : A12) (a13 : A13) (h : I a1 a2 a3 a4 a5 a6 a7 a8 a9 a10 a11 a12 a13) : ∃ n, W n a1 a2 a3 a4 a5 a6 a7 a8 a9 a10 a11 a12 a13 :=
  loop_m (σ := A1 × A2 × A3 × A4 × A5 × A6 × A7 × A8 × A9 × A10 × A11 × A12 × A13) (fun n s => W n s.1 s.2.1 s.2.2.1 s.2.2.2.1 s.2.2.2.2.1 s.2.2.2.2.2.1 s.2.2.2.2.2.2.1 s.2.2.2.2.2.2.2.1 s.2.2.2.2.2.2.2.2.1 s.2.2.2.2.2.2.2.2.2.1 s.2.2.2.2.2.2.2.2.2.2.1 s.2.2.2.2.2.2.2.2.2.2.2.1 s.2.2.2.2.2.2.2.2.2.2.2.2) (fun s => I s.1 s.2.1 s.2.2.1 s.2.2.2.1 s.2.2.2.2.1 s.2.2.2.2.2.1 s.2.2.2.2.2.2.1 s.2.2.2.2.2.2.2.1 s.2.2.2.2.2.2.2.2.1 s.2.2.2.2.2.2.2.2.2.1 s.2.2.2.2.2.2.2.2.2.2.1 s.2.2.2.2.2.2.2.2.2.2.2.1 s.2.2.2.2.2.2.2.2.2.2.2.2) (fun s => μ s.1 s.2.1 s.2.2.1 s.2.2.2.1 s.2.2.2.2.1 s.2.2.2.2.2.1 s.2.2.2.2.2.2.1 s.2.2.2.2.2.2.2.1 s.2.2.2.2.2.2.2.2.1 s.2.2.2.2.2.2.2.2.2.1 s.2.2.2.2.2.2.2.2.2.2.1 s.2.2.2.2.2.2.2.2.2.2.2.1 s.2.2.2.2.2.2.2.2.2.2.2.2) (fun n s hI hk => hs n s.1 s.2.1 s.2.2.1 s.2.2.2.1 s.2.2.2.2.1 s.2.2.2.2.2.1 s.2.2.2.2.2.2.1 s.2.2.2.2.2.2.2.1 s.2.2.2.2.2.2.2.2.1 s.2.2.2.2.2.2.2.2.2.1 s.2.2.2.2.2.2.2.2.2.2.1 s.2.2.2.2.2.2.2.2.2.2.2.1 s.2.2.2.2.2.2.2.2.2.2.2.2 hI (fun b1 b2 b3 b4 b5 b6 b7 b8 b9 b10 b11 b12 b13 h9 hm => hk (b1, b2, b3, b4, b5, b6, b7, b8, b9, b10, b11, b12, b13) h9 hm)) (a1, a2, a3, a4, a5, a6, a7, a8, a9, a10, a11, a12, a13) h
theorem lp14 {A1 A2 A3 A4 A5 A6 A7 A8 A9 A10 A11 A12 A13 A14 : Type} (W : Nat → A1 → A2 → A3 → A4 → A5 → A6 → A7 → A8 → A9 → A10 → A11 → A12 → A13 → A14 → Prop) (I : A1 → A2 → A3 → A4 → A5 → A6 → A7 → A8 → A9 → A10 → A11 → A12 → A13 → A14 → Prop) (μ : A1 → A2 → A3 → A4 → A5 → A6 → A7 → A8 → A9 → A10 → A11 → A12 → A13 → A14 → Nat) (hs : ∀ (n : Nat) (a1 : A1) (a2 : A2) (a3 : A3) (a4 : A4) (a5 : A5) (a6 : A6) (a7 : A7) (a8 : A8) (a9 : A9) (a10 : A10) (a11 : A11) (a12 : A12) (a13 : A13) (a14 : A14), I a1 a2 a3 a4 a5 a6 a7 a8 a9 a10 a11 a12 a13 a14 → (∀ (b1 : A1) (b2 : A2) (b3 : A3) (b4 : A4) (b5 : A5) (b6 : A6) (b7 : A7) (b8 : A8) (b9 : A9) (b10 : A10) (b11 : A11) (b12 : A12) (b13 : A13) (b14 : A14), I b1 b2 b3 b4 b5 b6 b7 b8 b9 b10 b11 b12 b13 b14 → μ b1 b2 b3 b4 b5 b6 b7 b8 b9 b10 b11 b12 b13 b14 < μ a1 a2 a3 a4 a5 a6 a7 a8 a9 a10 a11 a12 a13 a14 → W n b1 b2 b3 b4 b5 b6 b7 b8 b9 b10 b11 b12 b13 b14) → W (n + 1) a1 a2 a3 a4 a5 a6 a7 a8 a9 a10 a11 a12 a13 a14) (a1 : A1) (a2 : A2) (a3 : A3) (a4 : A4) (a5 : A5) (a6 : A6) (a7 : A7) (a8 : A8) (a9 : A9) (a10 : A10) (a11 : A11) (a12 : A12) (a13 : A13) (a14 : A14) (h : I a1 a2 a3 a4 a5 a6 a7 a8 a9 a10 a11 a12 a13 a14) : ∃ n, W n a1 a2 a3 a4 a5 a6 a7 a8 a9 a10 a11 a12 a13 a14 :=
  loop_m (σ := A1 × A2 × A3 × A4 × A5 × A6 × A7 × A8 × A9 × A10 × A11 × A12 × A13 × A14) (fun n s => W n s.1 s.2.1 s.2.2.1 s.2.2.2.1 s.2.2.2.2.1 s.2.2.2.2.2.1 s.2.2.2.2.2.2.1 s.2.2.2.2.2.2.2.1 s.2.2.2.2.2.2.2.2.1 s.2.2.2.2.2.2.2.2.2.1 s.2.2.2.2.2.2.2.2.2.2.1 s.2.2.2.2.2.2.2.2.2.2.2.1 s.2.2.2.2.2.2.2.2.2.2.2.2.1 s.2.2.2.2.2.2.2.2.2.2.2.2.2) (fun s => I s.1 s.2.1 s.2.2.1 s.2.2.2.1 s.2.2.2.2.1 s.2.2.2.2.2.1 s.2.2.2.2.2.2.1 s.2.2.2.2.2.2.2.1 s.2.2.2.2.2.2.2.2.1 s.2.2.2.2.2.2.2.2.2.1 s.2.2.2.2.2.2.2.2.2.2.1 s.2.2.2.2.2.2.2.2.2.2.2.1 s.2.2.2.2.2.2.2.2.2.2.2.2.1 s.2.2.2.2.2.2.2.2.2.2.2.2.2) (fun s => μ s.1 s.2.1 s.2.2.1 s.2.2.2.1 s.2.2.2.2.1 s.2.2.2.2.2.1 s.2.2.2.2.2.2.1 s.2.2.2.2.2.2.2.1 s.2.2.2.2.2.2.2.2.1 s.2.2.2.2.2.2.2.2.2.1 s.2.2.2.2.2.2.2.2.2.2.1 s.2.2.2.2.2.2.2.2.2.2.2.1 s.2.2.2.2.2.2.2.2.2.2.2.2.1 s.2.2.2.2.2.2.2.2.2.2.2.2.2) (fun n s hI hk => hs n s.1 s.2.1 s.2.2.1 s.2.2.2.1 s.2.2.2.2.1 s.2.2.2.2.2.1 s.2.2.2.2.2.2.1 s.2.2.2.2.2.2.2.1 s.2.2.2.2.2.2.2.2.1 s.2.2.2.2.2.2.2.2.2.1 s.2.2.2.2.2.2.2.2.2.2.1 s.2.2.2.2.2.2.2.2.2.2.2.1 s.2.2.2.2.2.2.2.2.2.2.2.2.1 s.2.2.2.2.2.2.2.2.2.2.2.2.2 hI (fun b1 b2 b3 b4 b5 b6 b7 b8 b9 b10 b11 b12 b13 b14 h9 hm => hk (b1, b2, b3, b4, b5, b6, b7, b8, b9, b10, b11, b12, b13, b14) h9 hm)) (a1, a2, a3, a4, a5, a6, a7, a8, a9, a10, a11, a12, a13, a14) h
theorem lp15 {A1 A2 A3 A4 A5 A6 A7 A8 A9 A10 A11 A12 A13 A14 A15 : Type} (W : Nat → A1 → A2 → A3 → A4 → A5 → A6 → A7 → A8 → A9 → A10 → A11 → A12 → A13 → A14 → A15 → Prop) (I : A1 → A2 → A3 → A4 → A5 → A6 → A7 → A8 → A9 → A10 → A11 → A12 → A13 → A14 → A15 → Prop) (μ : A1 → A2 → A3 → A4 → A5 → A6 → A7 → A8 → A9 → A10 → A11 → A12 → A13 → A14 → A15 → Nat) (hs : ∀ (n : Nat) (a1 : A1) (a2 : A2) (a3 : A3) (a4 : A4) (a5 : A5) (a6 : A6) (a7 : A7) (a8 : A8) (a9 : A9) (a10 : A10) (a11 : A11) (a12 : A12) (a13 : A13) (a14 : A14) (a15 : A15), I a1 a2 a3 a4 a5 a6 a7 a8 a9 a10 a11 a12 a13 a14 a15 → (∀ (b1 : A1) (b2 : A2) (b3 : A3) (b4 : A4) (b5 : A5) (b6 : A6) (b7 : A7) (b8 : A8) (b9 : A9) (b10 : A10) (b11 : A11) (b12 : A12) (b13 : A13) (b14 : A14) (b15 : A15), I b1 b2 b3 b4 b5 b6 b7 b8 b9 b10 b11 b12 b13 b14 b15 → μ b1 b2 b3 b4 b5 b6 b7 b8 b9 b10 b11 b12 b13 b14 b15 < μ a1 a2 a3 a4 a5 a6 a7 a8 a9 a10 a11 a12 a13 a14 a15 → W n b1 b2 b3 b4 b5 b6 b7 b8 b9 b10 b11 b12 b13 b14 b15) → W (n + 1) a1 a2 a3 a4 a5 a6 a7 a8 a9 a10 a11 a12 a13 a14 a15) (a1 : A1) (a2 : A2) (a3 : A3) (a4 : A4) (a5 : A5) (a6 : A6) (a7 : A7) (a8 : A8) (a9 : A9) (a10 : A10) (a11 : A11) (a12 : A12) (a13 : A13) (a14 : A14) (a15 : A15) (h : I a1 a2 a3 a4 a5 a6 a7 a8 a9 a10 a11 a12 a13 a14 a15) : ∃ n, W n a1 a2 a3 a4 a5 a6 a7 a8 a9 a10 a11 a12 a13 a14 a15 :=
  loop_m (σ := A1 × A2 × A3 × A4 × A5 × A6 × A7 × A8 × A9 × A10 × A11 × A12 × A13 × A14 × A15) (fun n s => W n s.1 s.2.1 s.2.2.1 s.2.2.2.1 s.2.2.2.2.1 s.2.2.2.2.2.1 s.2.2.2.2.2.2.1 s.2.2.2.2.2.2.2.1 s.2.2.2.2.2.2.2.2.1 s.2.2.2.2.2.2.2.2.2.1 s.2.2.2.2.2.2.2.2.2.2.1 s.2.2.2.2.2.2.2.2.2.2.2.1 s.2.2.2.2.2.2.2.2.2.2.2.2.1 s.2.2.2.2.2.2.2.2.2.2.2.2.2.1 s.2.2.2.2.2.2.2.2.2.2.2.2.2.2) (fun s => I s.1 s.2.1 s.2.2.1 s.2.2.2.1 s.2.2.2.2.1 s.2.2.2.2.2.1 s.2.2.2.2.2.2.1 s.2.2.2.2.2.2.2.1 s.2.2.2.2.2.2.2.2.1 s.2.2.2.2.2.2.2.2.2.1 s.2.2.2.2.2.2.2.2.2.2.1 s.2.2.2.2.2.2.2.2.2.2.2.1 s.2.2.2.2.2.2.2.2.2.2.2.2.1 s.2.2.2.2.2.2.2.2.2.2.2.2.2.1 s.2.2.2.2.2.2.2.2.2.2.2.2.2.2) (fun s => μ s.1 s.2.1 s.2.2.1 s.2.2.2.1 s.2.2.2.2.1 s.2.2.2.2.2.1 s.2.2.2.2.2.2.1 s.2.2.2.2.2.2.2.1 s.2.2.2.2.2.2.2.2.1 s.2.2.2.2.2.2.2.2.2.1 s.2.2.2.2.2.2.2.2.2.2.1 s.2.2.2.2.2.2.2.2.2.2.2.1 s.2.2.2.2.2.2.2.2.2.2.2.2.1 s.2.2.2.2.2.2.2.2.2.2.2.2.2.1 s.2.2.2.2.2.2.2.2.2.2.2.2.2.2) (fun n s hI hk => hs n s.1 s.2.1 s.2.2.1 s.2.2.2.1 s.2.2.2.2.1 s.2.2.2.2.2.1 s.2.2.2.2.2.2.1 s.2.2.2.2.2.2.2.1 s.2.2.2.2.2.2.2.2.1 s.2.2.2.2.2.2.2.2.2.1 s.2.2.2.2.2.2.2.2.2.2.1 s.2.2.2.2.2.2.2.2.2.2.2.1 s.2.2.2.2.2.2.2.2.2.2.2.2.1 s.2.2.2.2.2.2.2.2.2.2.2.2.2.1 s.2.2.2.2.2.2.2.2.2.2.2.2.2.2 hI (fun b1 b2 b3 b4 b5 b6 b7 b8 b9 b10 b11 b12 b13 b14 b15 h9 hm => hk (b1, b2, b3, b4, b5, b6, b7, b8, b9, b10, b11, b12, b13, b14, b15) h9 hm)) (a1, a2, a3, a4, a5, a6, a7, a8, a9, a10, a11, a12, a13, a14, a15) h
theorem lp16 {A1 A2 A3 A4 A5 A6 A7 A8 A9 A10 A11 A12 A13 A14 A15 A16 : Type} (W : Nat → A1 → A2 → A3 → A4 → A5 → A6 → A7 → A8 → A9 → A10 → A11 → A12 → A13 → A14 → A15 → A16 → Prop) (I : A1 → A2 → A3 → A4 → A5 → A6 → A7 → A8 → A9 → A10 → A11 → A12 → A13 → A14 → A15 → A16 → Prop) (μ : A1 → A2 → A3 → A4 → A5 → A6 → A7 → A8 → A9 → A10 → A11 → A12 → A13 → A14 → A15 → A16 → Nat) (hs : ∀ (n : Nat) (a1 : A1) (a2 : A2) (a3 : A3) (a4 : A4) (a5 : A5) (a6 : A6) (a7 : A7) (a8 : A8) (a9 : A9) (a10 : A10) (a11 : A11) (a12 : A12) (a13 : A13) (a14 : A14) (a15 : A15) (a16 : A16), I a1 a2 a3 a4 a5 a6 a7 a8 a9 a10 a11 a12 a13 a14 a15 a16 → (∀ (b1 : A1) (b2 : A2) (b3 : A3) (b4 : A4) (b5 : A5) (b6 : A6) (b7 : A7) (b8 : A8) (b9 : A9) (b10 : A10) (b11 : A11) (b12 : A12) (b13 : A13) (b14 : A14) (b15 : A15) (b16 : A16), I b1 b2 b3 b4 b5 b6 b7 b8 b9 b10 b11 b12 b13 b14 b15 b16 → μ b1 b2 b3 b4 b5 b6 b7 b8 b9 b10 b11 b12 b13 b14 b15 b16 < μ a1 a2 a3 a4 a5 a6 a7 a8 a9 a10 a11 a12 a13 a14 a15 a16 → W n b1 b2 b3 b4 b5 b6 b7 b8 b9 b10 b11 b12 b13 b14 b15 b16) → W (n + 1) a1 a2 a3 a4 a5 a6 a7 a8 a9 a10 a11 a12 a13 a14 a15 a16) (a1 : A1) (a2 : A2) (a3 : A3) (a4 : A4) (a5 : A5) (a6 : A6) (a7 : A7) (a8 : A8) (a9 : A9) (a10 : A10) (a11 : A11) (a12 : A12) (a13 : A13) (a14 : A14) (a15 : A15) (a16 : A16) (h : I a1 a2 a3 a4 a5 a6 a7 a8 a9 a10 a11 a12 a13 a14 a15 a16) : ∃ n, W n a1 a2 a3 a4 a5 a6 a7 a8 a9 a10 a11 a12 a13 a14 a15 a16 :=
  loop_m (σ := A1 × A2 × A3 × A4 × A5 × A6 × A7 × A8 × A9 × A10 × A11 × A12 × A13 × A14 × A15 × A16) (fun n s => W n s.1 s.2.1 s.2.2.1 s.2.2.2.1 s.2.2.2.2.1 s.2.2.2.2.2.1 s.2.2.2.2.2.2.1 s.2.2.2.2.2.2.2.1 s.2.2.2.2.2.2.2.2.1 s.2.2.2.2.2.2.2.2.2.1 s.2.2.2.2.2.2.2.2.2.2.1 s.2.2.2.2.2.2.2.2.2.2.2.1 s.2.2.2.2.2.2.2.2.2.2.2.2.1 s.2.2.2.2.2.2.2.2.2.2.2.2.2.1 s.2.2.2.2.2.2.2.2.2.2.2.2.2.2.1 s.2.2.2.2.2.2.2.2.2.2.2.2.2.2.2) (fun s => I s.1 s.2.1 s.2.2.1 s.2.2.2.1 s.2.2.2.2.1 s.2.2.2.2.2.1 s.2.2.2.2.2.2.1 s.2.2.2.2.2.2.2.1 s.2.2.2.2.2.2.2.2.1 s.2.2.2.2.2.2.2.2.2.1 s.2.2.2.2.2.2.2.2.2.2.1 s.2.2.2.2.2.2.2.2.2.2.2.1 s.2.2.2.2.2.2.2.2.2.2.2.2.1 s.2.2.2.2.2.2.2.2.2.2.2.2.2.1 s.2.2.2.2.2.2.2.2.2.2.2.2.2.2.1 s.2.2.2.2.2.2.2.2.2.2.2.2.2.2.2) (fun s => μ s.1 s.2.1 s.2.2.1 s.2.2.2.1 s.2.2.2.2.1 s.2.2.2.2.2.1 s.2.2.2.2.2.2.1 s.2.2.2.2.2.2.2.1 s.2.2.2.2.2.2.2.2.1 s.2.2.2.2.2.2.2.2.2.1 s.2.2.2.2.2.2.2.2.2.2.1 s.2.2.2.2.2.2.2.2.2.2.2.1 s.2.2.2.2.2.2.2.2.2.2.2.2.1 s.2.2.2.2.2.2.2.2.2.2.2.2.2.1 s.2.2.2.2.2.2.2.2.2.2.2.2.2.2.1 s.2.2.2.2.2.2.2.2.2.2.2.2.2.2.2) (fun n s hI hk => hs n s.1 s.2.1 s.2.2.1 s.2.2.2.1 s.2.2.2.2.1 s.2.2.2.2.2.1 s.2.2.2.2.2.2.1 s.2.2.2.2.2.2.2.1 s.2.2.2.2.2.2.2.2.1 s.2.2.2.2.2.2.2.2.2.1 s.2.2.2.2.2.2.2.2.2.2.1 s.2.2.2.2.2.2.2.2.2.2.2.1 s.2.2.2.2.2.2.2.2.2.2.2.2.1 s.2.2.2.2.2.2.2.2.2.2.2.2.2.1 s.2.2.2.2.2.2.2.2.2.2.2.2.2.2.1 s.2.2.2.2.2.2.2.2.2.2.2.2.2.2.2 hI (fun b1 b2 b3 b4 b5 b6 b7 b8 b9 b10 b11 b12 b13 b14 b15 b16 h9 hm => hk (b1, b2, b3, b4, b5, b6, b7, b8, b9, b10, b11, b12, b13, b14, b15, b16) h9 hm)) (a1, a2, a3, a4, a5, a6, a7, a8, a9, a10, a11, a12, a13, a14, a15, a16) h
theorem pk_least (P : Nat → Prop) (h : ∃ k, P k) : ∃ k, P k ∧ ∀ j, j < k → ¬ P j := by
  obtain ⟨k, hk⟩ := h
  induction k using Nat.strongRecOn with
  | ind k ih =>
    by_cases e : ∃ j, j < k ∧ P j
    · obtain ⟨j, hj, pj⟩ := e
      exact ih j hj pj
    · exact ⟨k, hk, fun j hj pj => e ⟨j, hj, pj⟩⟩
theorem rp1 {ρ A1 : Type} (W : Nat → (ρ → Prop) → A1 → Prop) (ok : A1 → Prop) (μ : A1 → Nat) (val : A1 → ρ)
    (hs : ∀ (d : Nat) (post : ρ → Prop) (a1 : A1), ok a1 → post (val a1) → (∀ (post' : ρ → Prop) (b1 : A1), ok b1 → μ b1 < μ a1 → post' (val b1) → W d post' b1) → W (d + 1) post a1) :
    ∀ (d : Nat) (post : ρ → Prop) (a1 : A1), ok a1 → μ a1 < d → post (val a1) → W d post a1 := by
  intro d
  induction d with
  | zero => intro post a1 _ h; omega
  | succ d ih =>
    intro post a1 ho hm hp
    exact hs d post a1 ho hp (fun post' b1 ho' hm' hp' => ih post' b1 ho' (by omega) hp')
theorem rp2 {ρ A1 A2 : Type} (W : Nat → (ρ → Prop) → A1 → A2 → Prop) (ok : A1 → A2 → Prop) (μ : A1 → A2 → Nat) (val : A1 → A2 → ρ)
    (hs : ∀ (d : Nat) (post : ρ → Prop) (a1 : A1) (a2 : A2), ok a1 a2 → post (val a1 a2) → (∀ (post' : ρ → Prop) (b1 : A1) (b2 : A2), ok b1 b2 → μ b1 b2 < μ a1 a2 → post' (val b1 b2) → W d post' b1 b2) → W (d + 1) post a1 a2) :
    ∀ (d : Nat) (post : ρ → Prop) (a1 : A1) (a2 : A2), ok a1 a2 → μ a1 a2 < d → post (val a1 a2) → W d post a1 a2 := by
  intro d
  induction d with
  | zero => intro post a1 a2 _ h; omega
  | succ d ih =>
    intro post a1 a2 ho hm hp
    exact hs d post a1 a2 ho hp (fun post' b1 b2 ho' hm' hp' => ih post' b1 b2 ho' (by omega) hp')
theorem rp3 {ρ A1 A2 A3 : Type} (W : Nat → (ρ → Prop) → A1 → A2 → A3 → Prop) (ok : A1 → A2 → A3 → Prop) (μ : A1 → A2 → A3 → Nat) (val : A1 → A2 → A3 → ρ)
    (hs : ∀ (d : Nat) (post : ρ → Prop) (a1 : A1) (a2 : A2) (a3 : A3), ok a1 a2 a3 → post (val a1 a2 a3) → (∀ (post' : ρ → Prop) (b1 : A1) (b2 : A2) (b3 : A3), ok b1 b2 b3 → μ b1 b2 b3 < μ a1 a2 a3 → post' (val b1 b2 b3) → W d post' b1 b2 b3) → W (d + 1) post a1 a2 a3) :
    ∀ (d : Nat) (post : ρ → Prop) (a1 : A1) (a2 : A2) (a3 : A3), ok a1 a2 a3 → μ a1 a2 a3 < d → post (val a1 a2 a3) → W d post a1 a2 a3 := by
  intro d
  induction d with
  | zero => intro post a1 a2 a3 _ h; omega
  | succ d ih =>
    intro post a1 a2 a3 ho hm hp
    exact hs d post a1 a2 a3 ho hp (fun post' b1 b2 b3 ho' hm' hp' => ih post' b1 b2 b3 ho' (by omega) hp')
theorem rp4 {ρ A1 A2 A3 A4 : Type} (W : Nat → (ρ → Prop) → A1 → A2 → A3 → A4 → Prop) (ok : A1 → A2 → A3 → A4 → Prop) (μ : A1 → A2 → A3 → A4 → Nat) (val : A1 → A2 → A3 → A4 → ρ)
    (hs : ∀ (d : Nat) (post : ρ → Prop) (a1 : A1) (a2 : A2) (a3 : A3) (a4 : A4), ok a1 a2 a3 a4 → post (val a1 a2 a3 a4) → (∀ (post' : ρ → Prop) (b1 : A1) (b2 : A2) (b3 : A3) (b4 : A4), ok b1 b2 b3 b4 → μ b1 b2 b3 b4 < μ a1 a2 a3 a4 → post' (val b1 b2 b3 b4) → W d post' b1 b2 b3 b4) → W (d + 1) post a1 a2 a3 a4) :
    ∀ (d : Nat) (post : ρ → Prop) (a1 : A1) (a2 : A2) (a3 : A3) (a4 : A4), ok a1 a2 a3 a4 → μ a1 a2 a3 a4 < d → post (val a1 a2 a3 a4) → W d post a1 a2 a3 a4 := by
  intro d
  induction d with
  | zero => intro post a1 a2 a3 a4 _ h; omega
  | succ d ih =>
    intro post a1 a2 a3 a4 ho hm hp
    exact hs d post a1 a2 a3 a4 ho hp (fun post' b1 b2 b3 b4 ho' hm' hp' => ih post' b1 b2 b3 b4 ho' (by omega) hp')
theorem rp5 {ρ A1 A2 A3 A4 A5 : Type} (W : Nat → (ρ → Prop) → A1 → A2 → A3 → A4 → A5 → Prop) (ok : A1 → A2 → A3 → A4 → A5 → Prop) (μ : A1 → A2 → A3 → A4 → A5 → Nat) (val : A1 → A2 → A3 → A4 → A5 → ρ)
    (hs : ∀ (d : Nat) (post : ρ → Prop) (a1 : A1) (a2 : A2) (a3 : A3) (a4 : A4) (a5 : A5), ok a1 a2 a3 a4 a5 → post (val a1 a2 a3 a4 a5) → (∀ (post' : ρ → Prop) (b1 : A1) (b2 : A2) (b3 : A3) (b4 : A4) (b5 : A5), ok b1 b2 b3 b4 b5 → μ b1 b2 b3 b4 b5 < μ a1 a2 a3 a4 a5 → post' (val b1 b2 b3 b4 b5) → W d post' b1 b2 b3 b4 b5) → W (d + 1) post a1 a2 a3 a4 a5) :
    ∀ (d : Nat) (post : ρ → Prop) (a1 : A1) (a2 : A2) (a3 : A3) (a4 : A4) (a5 : A5), ok a1 a2 a3 a4 a5 → μ a1 a2 a3 a4 a5 < d → post (val a1 a2 a3 a4 a5) → W d post a1 a2 a3 a4 a5 := by
  intro d
  induction d with
  | zero => intro post a1 a2 a3 a4 a5 _ h; omega
  | succ d ih =>
    intro post a1 a2 a3 a4 a5 ho hm hp
    exact hs d post a1 a2 a3 a4 a5 ho hp (fun post' b1 b2 b3 b4 b5 ho' hm' hp' => ih post' b1 b2 b3 b4 b5 ho' (by omega) hp')
theorem rp6 {ρ A1 A2 A3 A4 A5 A6 : Type} (W : Nat → (ρ → Prop) → A1 → A2 → A3 → A4 → A5 → A6 → Prop) (ok : A1 → A2 → A3 → A4 → A5 → A6 → Prop) (μ : A1 → A2 → A3 → A4 → A5 → A6 → Nat) (val : A1 → A2 → A3 → A4 → A5 → A6 → ρ)
    (hs : ∀ (d : Nat) (post : ρ → Prop) (a1 : A1) (a2 : A2) (a3 : A3) (a4 : A4) (a5 : A5) (a6 : A6), ok a1 a2 a3 a4 a5 a6 → post (val a1 a2 a3 a4 a5 a6) → (∀ (post' : ρ → Prop) (b1 : A1) (b2 : A2) (b3 : A3) (b4 : A4) (b5 : A5) (b6 : A6), ok b1 b2 b3 b4 b5 b6 → μ b1 b2 b3 b4 b5 b6 < μ a1 a2 a3 a4 a5 a6 → post' (val b1 b2 b3 b4 b5 b6) → W d post' b1 b2 b3 b4 b5 b6) → W (d + 1) post a1 a2 a3 a4 a5 a6) :
    ∀ (d : Nat) (post : ρ → Prop) (a1 : A1) (a2 : A2) (a3 : A3) (a4 : A4) (a5 : A5) (a6 : A6), ok a1 a2 a3 a4 a5 a6 → μ a1 a2 a3 a4 a5 a6 < d → post (val a1 a2 a3 a4 a5 a6) → W d post a1 a2 a3 a4 a5 a6 := by
  intro d
  induction d with
  | zero => intro post a1 a2 a3 a4 a5 a6 _ h; omega
  | succ d ih =>
    intro post a1 a2 a3 a4 a5 a6 ho hm hp
    exact hs d post a1 a2 a3 a4 a5 a6 ho hp (fun post' b1 b2 b3 b4 b5 b6 ho' hm' hp' => ih post' b1 b2 b3 b4 b5 b6 ho' (by omega) hp')
theorem rec_p {σ ρ : Type} (W : Nat → (ρ → Prop) → σ → Prop) (ok : σ → Prop) (μ : σ → Nat) (val : σ → ρ)
    (hs : ∀ d s post, ok s → post (val s) → (∀ s' post', ok s' → μ s' < μ s → post' (val s') → W d post' s') → W (d + 1) post s) :
    ∀ d s post, ok s → μ s < d → post (val s) → W d post s := by
  intro d
  induction d with
  | zero => intro s post _ h; omega
  | succ d ih =>
    intro s post ho hm hp
    exact hs d s post ho hp (fun s' post' ho' hm' hp' => ih s' post' ho' (by omega) hp')
theorem rec_q {σ ρ : Type} (W : Nat → (ρ → Prop) → σ → Prop) (ok : σ → Prop) (μ : σ → Nat) (Q : σ → ρ → Prop)
    (hs : ∀ d s post, ok s → (∀ r, Q s r → post r) → (∀ s' post', ok s' → μ s' < μ s → (∀ r, Q s' r → post' r) → W d post' s') → W (d + 1) post s) :
    ∀ d s post, ok s → μ s < d → (∀ r, Q s r → post r) → W d post s := by
  intro d
  induction d with
  | zero => intro s post _ h; omega
  | succ d ih =>
    intro s post ho hm hp
    exact hs d s post ho hp (fun s' post' ho' hm' hp' => ih s' post' ho' (by omega) hp')
def bx_sum (f : Nat → Int32) : Nat → Int32
  | 0 => 0
  | n + 1 => bx_sum f n + f n
theorem ek_u {A : Prop} {B : Nat → Prop} {k N : Nat} (hk : k < N) (h : B k) : (some k = none → A) ∧ (∀ y : Nat, some k = some y → (y < N ∧ B y)) :=
  ⟨fun z => absurd z (Option.some_ne_none k), fun _ e => (by cases e; exact ⟨hk, h⟩)⟩
theorem ek_nu {A : Prop} {B : Nat → Prop} (h : A) : ((none : Option Nat) = none → A) ∧ (∀ y : Nat, (none : Option Nat) = some y → B y) :=
  ⟨fun _ => h, fun _ e => (by cases e)⟩
theorem ek_if {c d A B : Prop} (e : c ↔ d) (f : d → A) (g : ¬ d → B) : (c → A) ∧ (¬ c → B) :=
  ⟨fun z => f (e.mp z), fun z => g (fun y => z (e.mpr y))⟩
theorem ek_v {α : Sort _} {P : α → Prop} {a b : α} (e : a = b) (h : P b) : P a := e ▸ h
theorem co_some {x : Option Nat} {A : Prop} {B : Nat → Prop} (i : Nat) (h : B i) (hx : x = some i := by rfl) : (x = none → A) ∧ (∀ y : Nat, x = some y → B y) := by
  subst hx
  exact ⟨fun e => (nomatch e), fun y e => Option.some.inj e ▸ h⟩
theorem co_none {x : Option Nat} {A : Prop} {B : Nat → Prop} (h : A) (hx : x = none := by rfl) : (x = none → A) ∧ (∀ y : Nat, x = some y → B y) := by
  subst hx
  exact ⟨fun _ => h, fun y e => (nomatch e)⟩
theorem co_any {x : Option Nat} {A : Prop} {B : Nat → Prop} (hn : x = none → A) (hs : ∀ i : Nat, x = some i → B i) : (x = none → A) ∧ (∀ y : Nat, x = some y → B y) := ⟨hn, hs⟩
theorem co_2 {P : Nat → Prop} (h0 : P 0) (h1 : P 1) {i : Nat} (hi : i < 2) : P i :=
  match i, hi with
  | 0, _ => h0
  | 1, _ => h1
theorem co_3 {P : Nat → Prop} (h0 : P 0) (h1 : P 1) (h2 : P 2) {i : Nat} (hi : i < 3) : P i :=
  match i, hi with
  | 0, _ => h0
  | 1, _ => h1
  | 2, _ => h2
theorem co_4 {P : Nat → Prop} (h0 : P 0) (h1 : P 1) (h2 : P 2) (h3 : P 3) {i : Nat} (hi : i < 4) : P i :=
  match i, hi with
  | 0, _ => h0
  | 1, _ => h1
  | 2, _ => h2
  | 3, _ => h3
theorem co_dec {N : Nat} {P : Nat → Prop} [DecidablePred P] (h : (List.range N).all (fun i => decide (P i)) = true) {i : Nat} (hi : i < N) : P i := by
  have := List.all_eq_true.mp h i (List.mem_range.mpr hi)
  exact of_decide_eq_true this
theorem co_tab {α : Type} {l : List α} {d : α} {P : α → Prop} (h : ∀ a, a ∈ l → P a) {i : Nat} (hi : i < l.length) : P (l.getD i d) := by
  rw [List.getD_eq_getElem?_getD, List.getElem?_eq_getElem hi]
  exact h _ (List.getElem_mem hi)
theorem pk_mu {x : Int32} {L : Nat} (h0 : ¬ x < 0) (h : ¬ nI L ≤ x) (hL : L < 2 ^ 31) : ∃ j : Nat, j < L ∧ x = nI j ∧ x + 1 = nI (j + 1) ∧ x.toNatClampNeg = j ∧ L - (x + 1).toNatClampNeg < L - x.toNatClampNeg := by
  obtain ⟨j, hj, rfl⟩ := nI_of h0
  have hl : j < L := Nat.not_le.mp fun q => h (nI_le q hj)
  refine ⟨j, hl, rfl, nI_1 j, nI_clamp hj, ?_⟩
  rw [nI_1, nI_clamp (by omega), nI_clamp hj]
  omega
theorem op_s {α : Type} {r : Option α} {A : Prop} {B : α → Prop} {y : α} (h : r = some y) (b : B y) : (r = none → A) ∧ ∀ z, r = some z → B z :=
  ⟨fun e => (by rw [h] at e; cases e), fun z e => (by rw [h] at e; cases e; exact b)⟩
def l_holds {α : Type} (a : Nat → Option Nat) (LP : List Nat) (p : Nat → α) (c : Nat) (b : Nat → α) : Prop :=
  ∀ j, j < c → ∃ y, a j = some y ∧ y ∈ LP ∧ p y = b j
theorem l_holds_0 {α : Type} {a : Nat → Option Nat} {LP : List Nat} {p b : Nat → α} : l_holds a LP p 0 b := fun j h => absurd h (Nat.not_lt_zero j)
theorem l_in_new (LP : List Nat) (q : Nat) : q ∈ LP ++ [q] := List.mem_append.mpr (Or.inr (List.mem_singleton.mpr rfl))
def l_sum (b : Nat → Int32) : Nat → Int32
  | 0 => 0
  | k + 1 => l_sum b k + b k
theorem sb_shr0 (x : Int32) : x >>> ((0 : Int32) &&& 31) = x := by
  rw [show ((0 : Int32) &&& 31) = 0 by decide]
  simp
theorem sb_shl0 (x : Int32) : x <<< ((0 : Int32) &&& 31) = x := by
  rw [show ((0 : Int32) &&& 31) = 0 by decide]
  simp
theorem sb_cl0 : (0 : Int32).toNatClampNeg = 0 := by decide
theorem sb_m1 {p : Nat} (h : 0 < p) : nI p + (-1) = nI (p - 1) := by
  obtain ⟨q, rfl⟩ : ∃ q, p = q + 1 := ⟨p - 1, by omega⟩
  exact pk_m1 q
def sb_b (c : Nat) : Int32 := (nI c).toInt8.toInt32
theorem sb_byte : ∀ c, c < 256 → sb_b c &&& 255 = nI c ∧ ((nI c).toUInt32 % 65536).toInt32 = nI c ∧ nI c ≤ 255 := by decide +kernel
def sb_Fit (a : Nat → Int32) : Prop := ∀ j, fits .byte (.int (a j)) = true
def sb_Lat (t : Nat → Nat) (n : Nat) (a : Nat → Int32) : Prop := ∀ j, j < n → t j < 256 ∧ a j = sb_b (t j)
theorem sb_fitB (c : Nat) : fits .byte (.int (sb_b c)) = true := pk_fb _
theorem sb_fit0 : sb_Fit (fun _ => 0) := fun _ => by
  show fits .byte (.int 0) = true
  decide
theorem sb_fitU {a : Nat → Int32} {k : Nat} {x : Int32} (h : sb_Fit a) (hx : fits .byte (.int x) = true) : sb_Fit (upd a k x) := by
  intro j
  by_cases e : j = k
  · subst e
    rw [pk_us]
    exact hx
  · rw [pk_un e]
    exact h j
def sb_cat (t : Nat → Nat) (n : Nat) (s : Nat → Nat) : Nat → Nat := fun j => if j < n then t j else s (j - n)
theorem sb_cat_lo {t s : Nat → Nat} {n j : Nat} (h : j < n) : sb_cat t n s j = t j := if_pos h
theorem sb_cat_hi {t s : Nat → Nat} {n j : Nat} : sb_cat t n s (n + j) = s j := by
  show (if n + j < n then t (n + j) else s (n + j - n)) = s j
  rw [if_neg (by omega), Nat.add_sub_cancel_left]
theorem sb_latPut {t s : Nat → Nat} {n w : Nat} {a a' : Nat → Int32} (h : sb_Lat t n a) (hk : ∀ j, j < n → a' j = a j) (hs : ∀ i, i < w → s i < 256 ∧ a' (n + i) = sb_b (s i)) : sb_Lat (sb_cat t n s) (n + w) a' := by
  intro j hj
  by_cases e : j < n
  · rw [sb_cat_lo e, hk j e]
    exact h j e
  · obtain ⟨i, rfl⟩ : ∃ i, j = n + i := ⟨j - n, by omega⟩
    rw [sb_cat_hi]
    exact hs i (by omega)
theorem sb_latKeep {t : Nat → Nat} {n : Nat} {a a' : Nat → Int32} (h : sb_Lat t n a) (hk : ∀ j, j < n → a' j = a j) : sb_Lat t n a' := fun j hj => by
  rw [hk j hj]
  exact h j hj
def sb_cap (q m : Nat) : Nat := if q ≤ m then m else if 2 * m + 2 < q then q else 2 * m + 2
def sb_Room (q m mc ms : Nat) : Prop := q ≤ m ∨ (1 ≤ mc ∧ sb_cap q m ≤ ms ∧ sb_cap q m ≤ 65536)
theorem sb_cap_ge (q m : Nat) : q ≤ sb_cap q m := by
  unfold sb_cap
  split
  · omega
  · split <;> omega
theorem sb_cap_gem (q m : Nat) : m ≤ sb_cap q m := by
  unfold sb_cap
  split
  · omega
  · split <;> omega
theorem sb_cap_le {q m mc ms : Nat} (hm : m ≤ 65536) (hr : sb_Room q m mc ms) : sb_cap q m ≤ 65536 := by
  rcases hr with h | h
  · rw [sb_cap, if_pos h]
    exact hm
  · exact h.2.2
theorem sb_at {P : Int32 → Prop} {x y : Int32} (e : x = y) (h : P y) : P x := e ▸ h
def sb_dg (w : Nat) : Nat := if w < 10 then 1 else if w < 100 then 2 else if w < 1000 then 3 else if w < 10000 then 4 else if w < 100000 then 5 else if w < 1000000 then 6 else if w < 10000000 then 7 else if w < 100000000 then 8 else if w < 1000000000 then 9 else 10
def sb_dec (v : Nat) : Nat → Nat := fun i => 48 + v / 10 ^ (sb_dg v - 1 - i) % 10
theorem sb_dg_in (w : Nat) : 1 ≤ sb_dg w ∧ sb_dg w ≤ 10 := by
  unfold sb_dg
  constructor <;> (repeat' split) <;> omega
theorem sb_dg100 {w : Nat} (h : 100 ≤ w) (hw : w < 2 ^ 31) : sb_dg w = sb_dg (w / 100) + 2 := by
  rw [sb_dg, sb_dg, if_neg (show ¬ w < 10 by omega), if_neg (show ¬ w < 100 by omega)]
  by_cases h3 : w < 1000
  · rw [if_pos h3, if_pos (show w / 100 < 10 by omega)]
  rw [if_neg h3, if_neg (show ¬ w / 100 < 10 by omega)]
  by_cases h4 : w < 10000
  · rw [if_pos h4, if_pos (show w / 100 < 100 by omega)]
  rw [if_neg h4, if_neg (show ¬ w / 100 < 100 by omega)]
  by_cases h5 : w < 100000
  · rw [if_pos h5, if_pos (show w / 100 < 1000 by omega)]
  rw [if_neg h5, if_neg (show ¬ w / 100 < 1000 by omega)]
  by_cases h6 : w < 1000000
  · rw [if_pos h6, if_pos (show w / 100 < 10000 by omega)]
  rw [if_neg h6, if_neg (show ¬ w / 100 < 10000 by omega)]
  by_cases h7 : w < 10000000
  · rw [if_pos h7, if_pos (show w / 100 < 100000 by omega)]
  rw [if_neg h7, if_neg (show ¬ w / 100 < 100000 by omega)]
  by_cases h8 : w < 100000000
  · rw [if_pos h8, if_pos (show w / 100 < 1000000 by omega)]
  rw [if_neg h8, if_neg (show ¬ w / 100 < 1000000 by omega)]
  by_cases h9 : w < 1000000000
  · rw [if_pos h9, if_pos (show w / 100 < 10000000 by omega)]
  rw [if_neg h9, if_neg (show ¬ w / 100 < 10000000 by omega)]
  rw [if_pos (show w / 100 < 100000000 by omega)]
theorem sb_negT {w : Nat} (h : w < 2 ^ 31) : (-nI w).toInt = -(w : Int) := by
  rw [Int32.toInt_neg, nI_toInt h]
  exact Int.bmod_eq_of_le (by omega) (by omega)
theorem sb_nle {a b : Nat} (ha : a < 2 ^ 31) (hb : b < 2 ^ 31) : -nI a ≤ -nI b ↔ b ≤ a := by
  rw [Int32.le_iff_toInt_le, sb_negT ha, sb_negT hb]
  omega
theorem sb_nlt {a b : Nat} (ha : a < 2 ^ 31) (hb : b < 2 ^ 31) : -nI a < -nI b ↔ b < a := by
  rw [Int32.lt_iff_toInt_lt, sb_negT ha, sb_negT hb]
  omega
theorem sb_cmp {A B : Prop} {x : Int32} (v c : Nat) (f : c ≤ v → A) (g : v < c → B) (hv : v < 2 ^ 31) (hx : x = -nI c := by rfl) (hc : c < 2 ^ 31 := by omega) : (-nI v ≤ x → A) ∧ (¬ -nI v ≤ x → B) := by
  subst hx
  rw [sb_nle hv hc]
  exact ⟨f, fun z => g (by omega)⟩
theorem sb_ndiv {w : Nat} (hw : w < 2 ^ 31) : (-nI w) / 100 = -nI (w / 100) := by
  apply Int32.toInt_inj.mp
  have h100 : (100 : Int32).toInt = 100 := by decide
  rw [Int32.toInt_div, sb_negT hw, h100, sb_negT (by omega), Int.neg_tdiv, Int.tdiv_eq_ediv_of_nonneg (by omega), Int.bmod_eq_of_le (by omega) (by omega)]
  omega
theorem sb_nrem {w : Nat} (hw : w < 2 ^ 31) : (-nI (w / 100)) * 100 - (-nI w) = nI (w % 100) := by
  have h := pk_rem (a := w) (d := 100) hw (by decide) (by decide)
  rw [pk_div hw (by decide) (by decide)] at h
  rw [← h]
  show (-nI (w / 100)) * nI 100 - (-nI w) = nI w - nI (w / 100) * nI 100
  rw [Int32.neg_mul, Int32.sub_neg, Int32.add_comm, ← Int32.sub_eq_add_neg]
end
section
/-! sums over a commutative ring, convolution, the ring of polynomials (coefficient functions that end) -/
def zs_m {A : Type} [Lean.Grind.CommRing A] : Nat → (Nat → A) → A
  | 0, _ => 0
  | n + 1, f => zs_m n f + f n
theorem zs_congr {A : Type} [Lean.Grind.CommRing A] {n : Nat} {f g : Nat → A} (h : ∀ i, i < n → f i = g i) : zs_m n f = zs_m n g := by
  induction n with
  | zero => rfl
  | succ n ih => rw [zs_m, zs_m, ih (fun i hi => h i (by omega)), h n (by omega)]
theorem zs_add {A : Type} [Lean.Grind.CommRing A] (n : Nat) (f g : Nat → A) : zs_m n (fun i => f i + g i) = zs_m n f + zs_m n g := by
  induction n with
  | zero => show (0 : A) = 0 + 0; grind
  | succ n ih => rw [zs_m, zs_m, zs_m, ih]; grind
theorem zs_mulL {A : Type} [Lean.Grind.CommRing A] (n : Nat) (c : A) (f : Nat → A) : zs_m n (fun i => c * f i) = c * zs_m n f := by
  induction n with
  | zero => show (0 : A) = c * 0; grind
  | succ n ih => rw [zs_m, zs_m, ih]; grind
theorem zs_mulR {A : Type} [Lean.Grind.CommRing A] (n : Nat) (c : A) (f : Nat → A) : zs_m n (fun i => f i * c) = zs_m n f * c := by
  induction n with
  | zero => show (0 : A) = 0 * c; grind
  | succ n ih => rw [zs_m, zs_m, ih]; grind
theorem zs_zero {A : Type} [Lean.Grind.CommRing A] {n : Nat} {f : Nat → A} (h : ∀ i, i < n → f i = 0) : zs_m n f = 0 := by
  induction n with
  | zero => rfl
  | succ n ih => rw [zs_m, ih (fun i hi => h i (by omega)), h n (by omega)]; grind
theorem zs_one {A : Type} [Lean.Grind.CommRing A] {n : Nat} {f : Nat → A} (k : Nat) (hk : k < n) (h : ∀ i, i < n → i ≠ k → f i = 0) : zs_m n f = f k := by
  induction n with
  | zero => omega
  | succ n ih =>
    rw [zs_m]
    by_cases e : k = n
    · subst e
      rw [zs_zero (fun i hi => h i (by omega) (by omega))]; grind
    · rw [ih (by omega) (fun i hi hn => h i (by omega) hn), h n (by omega) (by omega)]; grind
theorem zs_front {A : Type} [Lean.Grind.CommRing A] (n : Nat) (f : Nat → A) : zs_m (n + 1) f = f 0 + zs_m n (fun i => f (i + 1)) := by
  induction n with
  | zero => show 0 + f 0 = f 0 + 0; grind
  | succ n ih => rw [zs_m, ih, zs_m]; grind
theorem zs_swap {A : Type} [Lean.Grind.CommRing A] (n m : Nat) (f : Nat → Nat → A) : zs_m n (fun i => zs_m m (fun j => f i j)) = zs_m m (fun j => zs_m n (fun i => f i j)) := by
  induction n with
  | zero => exact (zs_zero (fun i _ => rfl)).symm
  | succ n ih =>
    rw [zs_m, ih, ← zs_add]
    exact zs_congr (fun j _ => rfl)
theorem zs_tri {A : Type} [Lean.Grind.CommRing A] (n : Nat) (F : Nat → Nat → A) : zs_m (n + 1) (fun i => zs_m (i + 1) (fun j => F j (i - j))) = zs_m (n + 1) (fun j => zs_m (n - j + 1) (fun k => F j k)) := by
  induction n with
  | zero => rfl
  | succ n ih =>
    have e1 : zs_m (n + 1 + 1) (fun j => zs_m (n + 1 - j + 1) (fun k => F j k)) = zs_m (n + 1) (fun j => zs_m (n + 1 - j + 1) (fun k => F j k)) + zs_m (n + 1 - (n + 1) + 1) (fun k => F (n + 1) k) := rfl
    have e2 : zs_m (n + 1) (fun j => zs_m (n + 1 - j + 1) (fun k => F j k)) = zs_m (n + 1) (fun j => zs_m (n - j + 1) (fun k => F j k)) + zs_m (n + 1) (fun j => F j (n + 1 - j)) := by
      rw [← zs_add]
      refine zs_congr (fun j hj => ?_)
      have e : n + 1 - j = n - j + 1 := by omega
      rw [e]; rfl
    have e3 : zs_m (n + 1 - (n + 1) + 1) (fun k => F (n + 1) k) = F (n + 1) 0 := by
      rw [Nat.sub_self]; show 0 + F (n + 1) 0 = _; grind
    have e4 : zs_m (n + 1 + 1) (fun i => zs_m (i + 1) (fun j => F j (i - j))) = zs_m (n + 1) (fun i => zs_m (i + 1) (fun j => F j (i - j))) + (zs_m (n + 1) (fun j => F j (n + 1 - j)) + F (n + 1) (n + 1 - (n + 1))) := rfl
    rw [e1, e2, e3, e4, ih, Nat.sub_self]; grind
theorem zs_rev {A : Type} [Lean.Grind.CommRing A] (n : Nat) (f : Nat → A) : zs_m (n + 1) f = zs_m (n + 1) (fun i => f (n - i)) := by
  induction n with
  | zero => rfl
  | succ n ih =>
    rw [zs_front (n + 1) (fun i => f (n + 1 - i)), zs_m, ih]
    have e : zs_m (n + 1) (fun i => f (n - i)) = zs_m (n + 1) (fun i => f (n + 1 - (i + 1))) := zs_congr (fun i _ => by rw [show n + 1 - (i + 1) = n - i by omega])
    rw [e]; show _ + f (n + 1) = f (n + 1) + _; grind
/-- more terms that are 0 -/
theorem zs_ext {A : Type} [Lean.Grind.CommRing A] {n : Nat} (m : Nat) {f : Nat → A} (h : ∀ i, n ≤ i → f i = 0) : zs_m (n + m) f = zs_m n f := by
  induction m with
  | zero => rfl
  | succ m ih => rw [← Nat.add_assoc, zs_m, ih, h (n + m) (by omega)]; grind

/-! convolution -/
def cv_m {A : Type} [Lean.Grind.CommRing A] (f g : Nat → A) : Nat → A := fun n => zs_m (n + 1) (fun j => f j * g (n - j))
theorem cv_comm {A : Type} [Lean.Grind.CommRing A] (f g : Nat → A) (n : Nat) : cv_m f g n = cv_m g f n := by
  unfold cv_m
  rw [zs_rev n (fun j => g j * f (n - j))]
  refine zs_congr (fun j hj => ?_)
  rw [show n - (n - j) = j by omega]; grind
theorem cv_assoc {A : Type} [Lean.Grind.CommRing A] (f g h : Nat → A) (n : Nat) : cv_m (cv_m f g) h n = cv_m f (cv_m g h) n := by
  have e1 : cv_m (cv_m f g) h n = zs_m (n + 1) (fun i => zs_m (i + 1) (fun j => (fun j k => f j * g k * h (n - j - k)) j (i - j))) := by
    refine zs_congr (fun i hi => ?_)
    show zs_m (i + 1) (fun j => f j * g (i - j)) * h (n - i) = _
    rw [← zs_mulR]
    refine zs_congr (fun j hj => ?_)
    show _ = f j * g (i - j) * h (n - j - (i - j))
    rw [show n - j - (i - j) = n - i by omega]
  have e2 : cv_m f (cv_m g h) n = zs_m (n + 1) (fun j => zs_m (n - j + 1) (fun k => (fun j k => f j * g k * h (n - j - k)) j k)) := by
    refine zs_congr (fun j hj => ?_)
    show f j * zs_m (n - j + 1) (fun k => g k * h (n - j - k)) = _
    rw [← zs_mulL]
    refine zs_congr (fun k hk => ?_)
    show _ = f j * g k * h (n - j - k); grind
  rw [e1, e2]
  exact zs_tri n (fun j k => f j * g k * h (n - j - k))
theorem cv_addL {A : Type} [Lean.Grind.CommRing A] (f g h : Nat → A) (n : Nat) : cv_m (fun i => f i + g i) h n = cv_m f h n + cv_m g h n := by
  unfold cv_m
  rw [← zs_add]
  exact zs_congr (fun j _ => by grind)
theorem cv_one {A : Type} [Lean.Grind.CommRing A] (f : Nat → A) (n : Nat) : cv_m (fun i => if i = 0 then 1 else 0) f n = f n := by
  unfold cv_m
  rw [zs_one 0 (by omega) (fun i _ hi => by show (if i = 0 then (1 : A) else 0) * f (n - i) = 0; rw [if_neg hi]; grind)]
  show (if 0 = 0 then (1 : A) else 0) * f (n - 0) = f n
  rw [if_pos rfl, Nat.sub_zero]; grind
theorem cv_end {A : Type} [Lean.Grind.CommRing A] {f g : Nat → A} {a b : Nat} (hf : ∀ i, a ≤ i → f i = 0) (hg : ∀ i, b ≤ i → g i = 0) {i : Nat} (h : a + b ≤ i) : cv_m f g i = 0 := by
  refine zs_zero (fun j hj => ?_)
  by_cases c : a ≤ j
  · rw [hf j c]; grind
  · rw [hg (i - j) (by omega)]; grind

/-! the ring -/
abbrev Po (A : Type) [Lean.Grind.CommRing A] : Type := {f : Nat → A // ∃ n, ∀ i, n ≤ i → f i = 0}
def po_add {A : Type} [Lean.Grind.CommRing A] (f g : Po A) : Po A := ⟨fun i => f.1 i + g.1 i, by
  obtain ⟨a, ha⟩ := f.2
  obtain ⟨b, hb⟩ := g.2
  exact ⟨a + b, fun i hi => by show f.1 i + g.1 i = 0; rw [ha i (by omega), hb i (by omega)]; grind⟩⟩
def po_mul {A : Type} [Lean.Grind.CommRing A] (f g : Po A) : Po A := ⟨cv_m f.1 g.1, by
  obtain ⟨a, ha⟩ := f.2
  obtain ⟨b, hb⟩ := g.2
  exact ⟨a + b, fun i hi => cv_end ha hb hi⟩⟩
def po_neg {A : Type} [Lean.Grind.CommRing A] (f : Po A) : Po A := ⟨fun i => - f.1 i, by
  obtain ⟨a, ha⟩ := f.2
  exact ⟨a, fun i hi => by show - f.1 i = 0; rw [ha i hi]; grind⟩⟩
/-- the first n coefficients of a row -/
def po_mk {A : Type} [Lean.Grind.CommRing A] (n : Nat) (c : Nat → A) : Po A := ⟨fun i => if i < n then c i else 0, ⟨n, fun _ hi => if_neg (by omega)⟩⟩
def po_C {A : Type} [Lean.Grind.CommRing A] (c : A) : Po A := ⟨fun i => if i = 0 then c else 0, ⟨1, fun _ hi => if_neg (by omega)⟩⟩
def po_pow {A : Type} [Lean.Grind.CommRing A] (f : Po A) : Nat → Po A
  | 0 => po_C 1
  | n + 1 => po_mul (po_pow f n) f
theorem po_ext {A : Type} [Lean.Grind.CommRing A] {f g : Po A} (h : ∀ i, f.1 i = g.1 i) : f = g := Subtype.ext (funext h)
theorem po_Cz {A : Type} [Lean.Grind.CommRing A] (i : Nat) : (po_C (0 : A)).1 i = 0 := by
  show (if i = 0 then (0 : A) else 0) = 0
  split <;> rfl
theorem po_mul_comm {A : Type} [Lean.Grind.CommRing A] (f g : Po A) : po_mul f g = po_mul g f := po_ext (fun i => cv_comm _ _ i)
theorem po_one_mul {A : Type} [Lean.Grind.CommRing A] (f : Po A) : po_mul (po_C 1) f = f := po_ext (fun i => cv_one f.1 i)
theorem po_distr {A : Type} [Lean.Grind.CommRing A] (f g h : Po A) : po_mul (po_add f g) h = po_add (po_mul f h) (po_mul g h) := po_ext (fun i => cv_addL _ _ _ i)
theorem po_zmul {A : Type} [Lean.Grind.CommRing A] (f : Po A) : po_mul (po_C 0) f = po_C 0 := po_ext (fun i => by
  rw [po_Cz]
  refine zs_zero (fun j _ => ?_)
  rw [po_Cz]; grind)
theorem po_Cadd {A : Type} [Lean.Grind.CommRing A] (a b : A) : po_C (a + b) = po_add (po_C a) (po_C b) := po_ext (fun i => by
  show (if i = 0 then a + b else 0) = (if i = 0 then a else 0) + (if i = 0 then b else 0)
  split
  · rfl
  · grind)
theorem po_Cneg {A : Type} [Lean.Grind.CommRing A] (a : A) : po_C (- a) = po_neg (po_C a) := po_ext (fun i => by
  show (if i = 0 then - a else 0) = - (if i = 0 then a else 0)
  split
  · rfl
  · grind)
theorem po_negm {A : Type} [Lean.Grind.CommRing A] (f g : Po A) : po_mul (po_neg f) g = po_neg (po_mul f g) := po_ext (fun i => by
  show zs_m (i + 1) (fun j => - f.1 j * g.1 (i - j)) = - zs_m (i + 1) (fun j => f.1 j * g.1 (i - j))
  have e : zs_m (i + 1) (fun j => - f.1 j * g.1 (i - j)) = zs_m (i + 1) (fun j => (-1) * (f.1 j * g.1 (i - j))) := zs_congr (fun j _ => by grind)
  rw [e, zs_mulL]; grind)
def poR (A : Type) [iA : Lean.Grind.CommRing A] : Lean.Grind.CommRing (Po A) where
  add := po_add
  mul := po_mul
  neg := po_neg
  sub := fun f g => po_add f (po_neg g)
  natCast := ⟨fun n => po_C (OfNat.ofNat n)⟩
  ofNat := fun n => ⟨po_C (OfNat.ofNat n)⟩
  nsmul := ⟨fun n f => po_mul (po_C (OfNat.ofNat n)) f⟩
  npow := ⟨fun f n => po_pow f n⟩
  intCast := ⟨fun n => po_C (iA.intCast.intCast n)⟩
  zsmul := ⟨fun n f => po_mul (po_C (iA.intCast.intCast n)) f⟩
  add_zero := fun f => po_ext (fun i => by
    show f.1 i + (po_C (0 : A)).1 i = f.1 i
    rw [po_Cz]; grind)
  add_comm := fun f g => po_ext (fun i => by show f.1 i + g.1 i = g.1 i + f.1 i; grind)
  add_assoc := fun f g h => po_ext (fun i => by show f.1 i + g.1 i + h.1 i = f.1 i + (g.1 i + h.1 i); grind)
  mul_assoc := fun f g h => po_ext (fun i => cv_assoc _ _ _ i)
  mul_comm := po_mul_comm
  mul_one := fun f => (po_mul_comm f _).trans (po_one_mul f)
  one_mul := po_one_mul
  left_distrib := fun f g h => by
    show po_mul f (po_add g h) = po_add (po_mul f g) (po_mul f h)
    rw [po_mul_comm f, po_distr, po_mul_comm g, po_mul_comm h]
  right_distrib := po_distr
  zero_mul := po_zmul
  mul_zero := fun f => (po_mul_comm f _).trans (po_zmul f)
  pow_zero := fun _ => rfl
  pow_succ := fun _ _ => rfl
  ofNat_succ := fun n => by
    show po_C (OfNat.ofNat (n + 1)) = po_add (po_C (OfNat.ofNat n)) (po_C 1)
    rw [← po_Cadd, Lean.Grind.Semiring.ofNat_succ]
  ofNat_eq_natCast := fun _ => rfl
  nsmul_eq_natCast_mul := fun _ _ => rfl
  neg_add_cancel := fun f => po_ext (fun i => by
    show - f.1 i + f.1 i = (po_C (0 : A)).1 i
    rw [po_Cz]; grind)
  sub_eq_add_neg := fun _ _ => rfl
  neg_zsmul := fun n f => by
    show po_mul (po_C (iA.intCast.intCast (-n))) f = po_neg (po_mul (po_C (iA.intCast.intCast n)) f)
    rw [← po_negm, ← po_Cneg]
    exact congrArg (fun z => po_mul (po_C z) f) (iA.intCast_neg n)
  zsmul_natCast_eq_nsmul := fun n f => by
    show po_mul (po_C (iA.intCast.intCast (n : Int))) f = po_mul (po_C (OfNat.ofNat n)) f
    exact congrArg (fun z => po_mul (po_C z) f) (iA.intCast_ofNat n)
  intCast_ofNat := fun n => congrArg po_C (iA.intCast_ofNat n)
  intCast_neg := fun n => by
    show po_C (iA.intCast.intCast (-n)) = po_neg (po_C (iA.intCast.intCast n))
    rw [← po_Cneg]
    exact congrArg po_C (iA.intCast_neg n)
end
section
/-! polynomials over Fin (q + 1), q = 1, 2, 4: coefficients, size, division with remainder -/
abbrev Pz (q : Nat) : Type := Po (Fin (q + 1))
def pz_c {q : Nat} (f : Pz q) (i : Nat) : Fin (q + 1) := f.1 i
def PK (q : Nat) (iR : Lean.Grind.CommRing (Pz q)) : Prop := iR = poR (Fin (q + 1)) ∧ (q = 1 ∨ q = 2 ∨ q = 4)
/-- c times X to the n -/
def pz_mo {q : Nat} (c : Fin (q + 1)) (n : Nat) : Pz q := ⟨fun i => if i = n then c else 0, ⟨n + 1, fun _ hi => if_neg (by omega)⟩⟩
section
variable {q : Nat} {iR : Lean.Grind.CommRing (Pz q)}
theorem pz_ext {f g : Pz q} (h : ∀ i, pz_c f i = pz_c g i) : f = g := po_ext h
theorem pz_add (K : PK q iR) (f g : Pz q) (i : Nat) : pz_c (f + g) i = pz_c f i + pz_c g i := by
  obtain ⟨rfl, _⟩ := K; rfl
theorem pz_mul (K : PK q iR) (f g : Pz q) (i : Nat) : pz_c (f * g) i = cv_m (pz_c f) (pz_c g) i := by
  obtain ⟨rfl, _⟩ := K; rfl
theorem pz_neg (K : PK q iR) (f : Pz q) (i : Nat) : pz_c (- f) i = - pz_c f i := by
  obtain ⟨rfl, _⟩ := K; rfl
theorem pz_sub (K : PK q iR) (f g : Pz q) (i : Nat) : pz_c (f - g) i = pz_c f i - pz_c g i := by
  rw [Lean.Grind.Ring.sub_eq_add_neg, pz_add K, pz_neg K, Lean.Grind.Ring.sub_eq_add_neg]
theorem pz_zero (K : PK q iR) (i : Nat) : pz_c (0 : Pz q) i = 0 := by
  obtain ⟨rfl, _⟩ := K
  exact po_Cz i
theorem pz_one (K : PK q iR) (i : Nat) : pz_c (1 : Pz q) i = if i = 0 then 1 else 0 := by
  obtain ⟨rfl, _⟩ := K; rfl
theorem mo_c (c : Fin (q + 1)) (n i : Nat) : pz_c (pz_mo c n) i = if i = n then c else 0 := rfl
theorem mo_mul (K : PK q iR) (c : Fin (q + 1)) (n : Nat) (g : Pz q) (i : Nat) : pz_c (pz_mo c n * g) i = if n ≤ i then c * pz_c g (i - n) else 0 := by
  rw [pz_mul K]
  unfold cv_m
  by_cases h : n ≤ i
  · rw [if_pos h, zs_one n (by omega) (fun j _ hj => by rw [mo_c, if_neg hj]; exact Lean.Grind.Semiring.zero_mul _), mo_c, if_pos rfl]
  · rw [if_neg h]
    exact zs_zero (fun j hj => by rw [mo_c, if_neg (by omega)]; exact Lean.Grind.Semiring.zero_mul _)
/-! the field -/
theorem fq_mul (K : PK q iR) {a b : Fin (q + 1)} (ha : a ≠ 0) (hb : b ≠ 0) : a * b ≠ 0 := by
  obtain ⟨_, rfl | rfl | rfl⟩ := K
  · revert a b; decide
  · revert a b; decide
  · revert a b; decide
theorem fq_inv (K : PK q iR) {a : Fin (q + 1)} (ha : a ≠ 0) : ∃ b, a * b = 1 := by
  obtain ⟨_, rfl | rfl | rfl⟩ := K
  · revert a; decide
  · revert a; decide
  · revert a; decide
theorem fq_1 (K : PK q iR) : (1 : Fin (q + 1)) ≠ 0 := by
  obtain ⟨_, rfl | rfl | rfl⟩ := K <;> decide
/-! size: degree + 1, and 0 for the polynomial 0 -/
theorem sz_ex (f : Pz q) : ∃ n, (∀ i, n ≤ i → pz_c f i = 0) ∧ ∀ m, m < n → ¬ ∀ i, m ≤ i → pz_c f i = 0 := pk_least _ f.2
noncomputable def pz_s (f : Pz q) : Nat := Classical.choose (sz_ex f)
theorem sz_ge {f : Pz q} {i : Nat} (h : pz_s f ≤ i) : pz_c f i = 0 := (Classical.choose_spec (sz_ex f)).1 i h
theorem sz_le {f : Pz q} {n : Nat} (h : ∀ i, n ≤ i → pz_c f i = 0) : pz_s f ≤ n := Nat.le_of_not_lt (fun c => (Classical.choose_spec (sz_ex f)).2 n c h)
theorem sz_lt {f : Pz q} {i : Nat} (h : pz_c f i ≠ 0) : i < pz_s f := Nat.lt_of_not_le (fun c => h (sz_ge c))
theorem sz_top {f : Pz q} {n : Nat} (h : pz_s f = n + 1) : pz_c f n ≠ 0 := fun c => by
  have := sz_le (f := f) (n := n) (fun i hi => by
    rcases Nat.eq_or_lt_of_le hi with e | e
    · rw [← e]; exact c
    · exact sz_ge (by omega))
  omega
theorem sz_eq {f : Pz q} {n : Nat} (h : ∀ i, n + 1 ≤ i → pz_c f i = 0) (h1 : pz_c f n ≠ 0) : pz_s f = n + 1 := by
  have := sz_le h
  have := sz_lt h1
  omega
theorem sz_0 (K : PK q iR) : pz_s (0 : Pz q) = 0 := Nat.le_zero.mp (sz_le (fun i _ => pz_zero K i))
theorem sz_z (K : PK q iR) {f : Pz q} (h : pz_s f = 0) : f = 0 := pz_ext (fun i => by rw [pz_zero K, sz_ge (by omega)])
theorem sz_nz (K : PK q iR) {f : Pz q} (h : f ≠ 0) : ∃ n, pz_s f = n + 1 := by
  cases e : pz_s f with
  | zero => exact absurd (sz_z K e) h
  | succ n => exact ⟨n, rfl⟩
theorem sz_ne (K : PK q iR) {f : Pz q} (h : 0 < pz_s f) : f ≠ 0 := fun e => by
  rw [e, sz_0 K] at h; omega
theorem sz_add (K : PK q iR) {f g : Pz q} {n : Nat} (hf : pz_s f ≤ n) (hg : pz_s g ≤ n) : pz_s (f + g) ≤ n := sz_le (fun i hi => by
  rw [pz_add K, sz_ge (by omega), sz_ge (by omega)]; exact Lean.Grind.Semiring.add_zero _)
theorem sz_sub (K : PK q iR) {f g : Pz q} {n : Nat} (hf : pz_s f ≤ n) (hg : pz_s g ≤ n) : pz_s (f - g) ≤ n := sz_le (fun i hi => by
  rw [pz_sub K, sz_ge (by omega), sz_ge (by omega)]; exact Lean.Grind.AddCommGroup.sub_self _)
theorem sz_neg (K : PK q iR) {f : Pz q} {n : Nat} (hf : pz_s f ≤ n) : pz_s (- f) ≤ n := sz_le (fun i hi => by
  rw [pz_neg K, sz_ge (by omega)]; exact Lean.Grind.AddCommGroup.neg_zero)
theorem sz_mo_le (c : Fin (q + 1)) (n : Nat) : pz_s (pz_mo c n) ≤ n + 1 := sz_le (fun i hi => by
  rw [mo_c, if_neg (by omega)])
theorem sz_mo {c : Fin (q + 1)} (hc : c ≠ 0) (n : Nat) : pz_s (pz_mo c n) = n + 1 := sz_eq (fun i hi => by
  rw [mo_c, if_neg (by omega)]) (by rw [mo_c, if_pos rfl]; exact hc)
theorem sz_1 (K : PK q iR) : pz_s (1 : Pz q) = 1 := sz_eq (fun i hi => by
  rw [pz_one K, if_neg (by omega)]) (by rw [pz_one K, if_pos rfl]; exact fq_1 K)
theorem lc_mul (K : PK q iR) {f g : Pz q} {a b : Nat} (hf : pz_s f ≤ a + 1) (hg : pz_s g ≤ b + 1) : pz_c (f * g) (a + b) = pz_c f a * pz_c g b := by
  rw [pz_mul K]
  unfold cv_m
  rw [zs_one a (by omega) (fun j _ hj => ?_), Nat.add_sub_cancel_left]
  by_cases c : a < j
  · rw [sz_ge (f := f) (by omega)]; exact Lean.Grind.Semiring.zero_mul _
  · rw [sz_ge (f := g) (by omega)]; exact Lean.Grind.Semiring.mul_zero _
theorem sz_mul_le (K : PK q iR) {f g : Pz q} {a b : Nat} (hf : pz_s f ≤ a + 1) (hg : pz_s g ≤ b + 1) : pz_s (f * g) ≤ a + b + 1 := sz_le (fun i hi => by
  rw [pz_mul K]
  refine zs_zero (fun j hj => ?_)
  by_cases c : a < j
  · rw [sz_ge (f := f) (by omega)]; exact Lean.Grind.Semiring.zero_mul _
  · rw [sz_ge (f := g) (by omega)]; exact Lean.Grind.Semiring.mul_zero _)
theorem sz_mul (K : PK q iR) {f g : Pz q} {a b : Nat} (hf : pz_s f = a + 1) (hg : pz_s g = b + 1) : pz_s (f * g) = a + b + 1 := by
  have h1 := sz_mul_le K (Nat.le_of_eq hf) (Nat.le_of_eq hg)
  have h2 : a + b < pz_s (f * g) := sz_lt (by
    rw [lc_mul K (Nat.le_of_eq hf) (Nat.le_of_eq hg)]
    exact fq_mul K (sz_top hf) (sz_top hg))
  omega
theorem sz_mulN (K : PK q iR) {f g : Pz q} (hf : f ≠ 0) (hg : g ≠ 0) : pz_s (f * g) + 1 = pz_s f + pz_s g ∧ 0 < pz_s f ∧ 0 < pz_s g := by
  obtain ⟨a, ha⟩ := sz_nz K hf
  obtain ⟨b, hb⟩ := sz_nz K hg
  have := sz_mul K ha hb
  omega
theorem mul_nz (K : PK q iR) {f g : Pz q} (hf : f ≠ 0) (hg : g ≠ 0) : f * g ≠ 0 := sz_ne K (by have := sz_mulN K hf hg; omega)
theorem nz_of_mul (K : PK q iR) {f g : Pz q} (h : f * g ≠ 0) : f ≠ 0 ∧ g ≠ 0 := by
  constructor
  · intro e; rw [e] at h; exact h (Lean.Grind.Semiring.zero_mul _)
  · intro e; rw [e] at h; exact h (Lean.Grind.Semiring.mul_zero _)
theorem mul_can (K : PK q iR) {f g h : Pz q} (hf : f ≠ 0) (e : f * g = f * h) : g = h := by
  have e1 : f * (g - h) = 0 := by grind
  have e2 : g - h = 0 := Classical.byContradiction (fun c => mul_nz K hf c e1)
  grind
theorem sz_const {f : Pz q} (h : pz_s f ≤ 1) : f = pz_mo (pz_c f 0) 0 := pz_ext (fun i => by
  rw [mo_c]
  by_cases e : i = 0
  · rw [if_pos e, e]
  · rw [if_neg e, sz_ge (by omega)])
theorem mo_one (K : PK q iR) : pz_mo (1 : Fin (q + 1)) 0 = (1 : Pz q) := pz_ext (fun i => by rw [mo_c, pz_one K])
theorem mo_zero (K : PK q iR) (n : Nat) : pz_mo (0 : Fin (q + 1)) n = (0 : Pz q) := pz_ext (fun i => by rw [mo_c, pz_zero K]; split <;> rfl)
theorem mo_mo (K : PK q iR) (a b : Fin (q + 1)) (m n : Nat) : (pz_mo a m * pz_mo b n : Pz q) = pz_mo (a * b) (m + n) := pz_ext (fun i => by
  rw [mo_mul K, mo_c, mo_c]
  by_cases e : i = m + n
  · rw [if_pos e, if_pos (by omega), if_pos (by omega)]
  · rw [if_neg e]
    split
    · rw [if_neg (by omega)]; exact Lean.Grind.Semiring.mul_zero _
    · rfl)
theorem mo_add (K : PK q iR) (a b : Fin (q + 1)) (n : Nat) : (pz_mo (a + b) n : Pz q) = pz_mo a n + pz_mo b n := pz_ext (fun i => by
  rw [pz_add K, mo_c, mo_c, mo_c]
  split
  · rfl
  · exact (Lean.Grind.Semiring.add_zero _).symm)
theorem mo_neg (K : PK q iR) (a : Fin (q + 1)) (n : Nat) : (pz_mo (- a) n : Pz q) = - pz_mo a n := pz_ext (fun i => by
  rw [pz_neg K, mo_c, mo_c]
  split
  · rfl
  · exact (Lean.Grind.AddCommGroup.neg_zero).symm)
/-! division with remainder -/
theorem red_step (K : PK q iR) {f g : Pz q} {k d : Nat} {t : Fin (q + 1)} (hf : pz_s f ≤ k + 1) (hg : pz_s g ≤ d + 1) (hd : d ≤ k) (ht : pz_c g d * t = 1) : pz_s (f - pz_mo (pz_c f k * t) (k - d) * g) ≤ k := sz_le (fun i hi => by
  rw [pz_sub K, mo_mul K, if_pos (by omega)]
  by_cases e : i = k
  · subst e
    rw [show i - (i - d) = d by omega]; grind
  · rw [sz_ge (f := f) (by omega), sz_ge (f := g) (by omega)]; grind)
theorem dv_ex1 (K : PK q iR) {g : Pz q} (hg : g ≠ 0) : ∀ (n : Nat) (f : Pz q), pz_s f ≤ n → ∃ Q r : Pz q, f = g * Q + r ∧ pz_s r < pz_s g := by
  obtain ⟨d, hd⟩ := sz_nz K hg
  obtain ⟨t, ht⟩ := fq_inv K (sz_top hd)
  intro n
  induction n with
  | zero =>
    intro f hf
    exact ⟨0, f, by grind, by omega⟩
  | succ n ih =>
    intro f hf
    by_cases c : pz_s f < pz_s g
    · exact ⟨0, f, by grind, c⟩
    · obtain ⟨Q, r, e, hr⟩ := ih _ (red_step K hf (Nat.le_of_eq hd) (by omega) ht)
      exact ⟨Q + pz_mo (pz_c f n * t) (n - d), r, by grind, hr⟩
theorem dv_ex (K : PK q iR) {g : Pz q} (hg : g ≠ 0) (f : Pz q) : ∃ Q r : Pz q, f = g * Q + r ∧ pz_s r < pz_s g := dv_ex1 K hg _ f (Nat.le_refl _)
theorem dv_un (K : PK q iR) {g Q r Q' r' : Pz q} (e : g * Q + r = g * Q' + r') (hr : pz_s r < pz_s g) (hr' : pz_s r' < pz_s g) : Q = Q' ∧ r = r' := by
  have hQ : Q - Q' = 0 := Classical.byContradiction (fun c => by
    have h1 := sz_mulN K (sz_ne K (by omega) : g ≠ 0) c
    have h2 : g * (Q - Q') = r' - r := by grind
    have h3 := sz_sub K (f := r') (g := r) (n := pz_s g - 1) (by omega) (by omega)
    rw [h2] at h1
    omega)
  have e1 : Q = Q' := by grind
  subst e1
  exact ⟨rfl, by grind⟩
end
end
section
/-! divisors, Bezout, irreducible polynomials, multiplicity -/
def dv_d {R : Type} [Lean.Grind.CommRing R] (a b : R) : Prop := ∃ c, b = a * c
theorem dv_refl {R : Type} [Lean.Grind.CommRing R] (a : R) : dv_d a a := ⟨1, by grind⟩
theorem dv_trans {R : Type} [Lean.Grind.CommRing R] {a b c : R} (h : dv_d a b) (h' : dv_d b c) : dv_d a c := by
  obtain ⟨x, rfl⟩ := h
  obtain ⟨y, rfl⟩ := h'
  exact ⟨x * y, by grind⟩
theorem dv_mulR {R : Type} [Lean.Grind.CommRing R] {a b : R} (c : R) (h : dv_d a b) : dv_d a (b * c) := by
  obtain ⟨x, rfl⟩ := h
  exact ⟨x * c, by grind⟩
theorem dv_mulL {R : Type} [Lean.Grind.CommRing R] {a b : R} (c : R) (h : dv_d a b) : dv_d a (c * b) := by
  obtain ⟨x, rfl⟩ := h
  exact ⟨c * x, by grind⟩
theorem dv_add {R : Type} [Lean.Grind.CommRing R] {a b c : R} (h : dv_d a b) (h' : dv_d a c) : dv_d a (b + c) := by
  obtain ⟨x, rfl⟩ := h
  obtain ⟨y, rfl⟩ := h'
  exact ⟨x + y, by grind⟩
theorem dv_sub {R : Type} [Lean.Grind.CommRing R] {a b c : R} (h : dv_d a b) (h' : dv_d a c) : dv_d a (b - c) := by
  obtain ⟨x, rfl⟩ := h
  obtain ⟨y, rfl⟩ := h'
  exact ⟨x - y, by grind⟩
theorem dv_zero {R : Type} [Lean.Grind.CommRing R] (a : R) : dv_d a 0 := ⟨0, by grind⟩
theorem dv_one {R : Type} [Lean.Grind.CommRing R] (a : R) : dv_d 1 a := ⟨a, by grind⟩
theorem dv_l {R : Type} [Lean.Grind.CommRing R] (a b : R) : dv_d a (a * b) := ⟨b, rfl⟩
theorem dv_r {R : Type} [Lean.Grind.CommRing R] (a b : R) : dv_d b (a * b) := ⟨a, by grind⟩
theorem dv_mm {R : Type} [Lean.Grind.CommRing R] {a b c d : R} (h : dv_d a b) (h' : dv_d c d) : dv_d (a * c) (b * d) := by
  obtain ⟨x, rfl⟩ := h
  obtain ⟨y, rfl⟩ := h'
  exact ⟨x * y, by grind⟩
theorem dv_pw {R : Type} [Lean.Grind.CommRing R] (a : R) {m n : Nat} (h : m ≤ n) : dv_d (a ^ m) (a ^ n) := by
  obtain ⟨k, rfl⟩ : ∃ k, n = m + k := ⟨n - m, by omega⟩
  exact ⟨a ^ k, Lean.Grind.Semiring.pow_add a m k⟩
theorem dv_of_add {R : Type} [Lean.Grind.CommRing R] {a b c : R} (h : dv_d a (b + c)) (h' : dv_d a b) : dv_d a c := by
  have := dv_sub h h'
  have e : b + c - b = c := by grind
  rwa [e] at this
/-- coprime a, b and both divide c -/
theorem dv_cp {R : Type} [Lean.Grind.CommRing R] {a b c u v : R} (h : u * a + v * b = 1) (ha : dv_d a c) (hb : dv_d b c) : dv_d (a * b) c := by
  obtain ⟨x, hx⟩ := ha
  obtain ⟨y, hy⟩ := hb
  refine ⟨u * y + v * x, ?_⟩
  have e1 : c = (u * a + v * b) * c := by rw [h]; grind
  have e2 : (u * a + v * b) * c = u * a * (b * y) + v * b * (a * x) := by rw [← hx, ← hy]; grind
  rw [e1, e2]; grind
section
variable {q : Nat} {iR : Lean.Grind.CommRing (Pz q)}
theorem dv_sz (K : PK q iR) {a b : Pz q} (h : dv_d a b) (hb : b ≠ 0) : a ≠ 0 ∧ pz_s a ≤ pz_s b := by
  obtain ⟨c, rfl⟩ := h
  have h1 := nz_of_mul K hb
  have := sz_mulN K h1.1 h1.2
  exact ⟨h1.1, by omega⟩
theorem dv_small (K : PK q iR) {a b : Pz q} (h : dv_d a b) (hs : pz_s b < pz_s a) : b = 0 := Classical.byContradiction (fun c => by
  have := (dv_sz K h c).2; omega)
theorem bz_ex1 (K : PK q iR) : ∀ (n : Nat) (a b : Pz q), pz_s b ≤ n → ∃ d u v : Pz q, d = u * a + v * b ∧ dv_d d a ∧ dv_d d b := by
  intro n
  induction n with
  | zero =>
    intro a b hb
    have e : b = 0 := sz_z K (by omega)
    subst e
    exact ⟨a, 1, 0, by grind, dv_refl a, dv_zero a⟩
  | succ n ih =>
    intro a b hb
    by_cases c : b = 0
    · subst c
      exact ⟨a, 1, 0, by grind, dv_refl a, dv_zero a⟩
    · obtain ⟨Q, r, e, hr⟩ := dv_ex K c a
      obtain ⟨d, u, v, e1, h1, h2⟩ := ih b r (by omega)
      refine ⟨d, v, u - v * Q, by grind, ?_, h1⟩
      rw [e]
      exact dv_add (dv_mulR Q h1) h2
theorem bz_ex (K : PK q iR) (a b : Pz q) : ∃ d u v : Pz q, d = u * a + v * b ∧ dv_d d a ∧ dv_d d b := bz_ex1 K _ a b (Nat.le_refl _)
theorem un_inv (K : PK q iR) {u : Pz q} (h : pz_s u = 1) : ∃ w, u * w = 1 := by
  obtain ⟨t, ht⟩ := fq_inv K (sz_top h)
  refine ⟨pz_mo t 0, ?_⟩
  rw [sz_const (Nat.le_of_eq h), mo_mo K, ht, mo_one K]
theorem un_sz (K : PK q iR) {u w : Pz q} (h : u * w = 1) : pz_s u = 1 := by
  have h1 := nz_of_mul K (f := u) (g := w) (by rw [h]; exact sz_ne K (by rw [sz_1 K]; omega))
  have h2 := sz_mulN K h1.1 h1.2
  rw [h, sz_1 K] at h2
  omega
/-- irreducible; monic -/
def ir_r {q : Nat} [Lean.Grind.CommRing (Pz q)] (f : Pz q) : Prop := 2 ≤ pz_s f ∧ ∀ a b : Pz q, f = a * b → pz_s a = 1 ∨ pz_s b = 1
def mn_m (f : Pz q) : Prop := pz_c f (pz_s f - 1) = 1
theorem mn_nz (K : PK q iR) {f : Pz q} (h : mn_m f) : f ≠ 0 := fun e => by
  unfold mn_m at h
  rw [e, pz_zero K] at h
  exact fq_1 K h.symm
theorem mn_sz (K : PK q iR) {f : Pz q} (h : mn_m f) : ∃ n, pz_s f = n + 1 ∧ pz_c f n = 1 := by
  obtain ⟨n, hn⟩ := sz_nz K (mn_nz K h)
  unfold mn_m at h
  rw [hn] at h
  exact ⟨n, hn, h⟩
theorem mn_of {f : Pz q} {n : Nat} (h : pz_s f = n + 1) (h1 : pz_c f n = 1) : mn_m f := by
  unfold mn_m
  rw [h]; exact h1
theorem mn_1 (K : PK q iR) : mn_m (1 : Pz q) := mn_of (sz_1 K) (by rw [pz_one K, if_pos rfl])
theorem mn_mul (K : PK q iR) {f g : Pz q} (hf : mn_m f) (hg : mn_m g) : mn_m (f * g) := by
  obtain ⟨a, ha, h1⟩ := mn_sz K hf
  obtain ⟨b, hb, h2⟩ := mn_sz K hg
  refine mn_of (sz_mul K ha hb) ?_
  rw [lc_mul K (Nat.le_of_eq ha) (Nat.le_of_eq hb), h1, h2]
  exact Lean.Grind.Semiring.mul_one _
theorem mn_div (K : PK q iR) {f g : Pz q} (hf : mn_m f) (hg : mn_m (f * g)) : mn_m g := by
  obtain ⟨a, ha, h1⟩ := mn_sz K hf
  obtain ⟨b, hb⟩ := sz_nz K (nz_of_mul K (mn_nz K hg)).2
  refine mn_of hb ?_
  unfold mn_m at hg
  rw [sz_mul K ha hb, Nat.add_sub_cancel, lc_mul K (Nat.le_of_eq ha) (Nat.le_of_eq hb), h1] at hg
  rw [← hg]
  exact (Lean.Grind.Semiring.one_mul _).symm
theorem mn_pow (K : PK q iR) {f : Pz q} (hf : mn_m f) (n : Nat) : mn_m (f ^ n) := by
  induction n with
  | zero => rw [Lean.Grind.Semiring.pow_zero]; exact mn_1 K
  | succ n ih => rw [Lean.Grind.Semiring.pow_succ]; exact mn_mul K ih hf
theorem mn_c (K : PK q iR) {f : Pz q} (hf : mn_m f) (h : pz_s f ≤ 1) : f = 1 := by
  obtain ⟨n, hn, h1⟩ := mn_sz K hf
  have e : n = 0 := by omega
  subst e
  rw [sz_const h, h1, mo_one K]
theorem dv_as (K : PK q iR) {a b : Pz q} (hb : b ≠ 0) (h : dv_d a b) (hs : pz_s b ≤ pz_s a) : dv_d b a := by
  obtain ⟨c, rfl⟩ := h
  have h1 := nz_of_mul K hb
  have h2 := sz_mulN K h1.1 h1.2
  obtain ⟨w, hw⟩ := un_inv K (u := c) (by omega)
  exact ⟨w, by
    have e : a = a * (c * w) := by rw [hw]; grind
    rw [e]; grind⟩
theorem mn_eq (K : PK q iR) {a b : Pz q} (ha : mn_m a) (hb : mn_m b) (h : dv_d a b) (hs : pz_s b ≤ pz_s a) : a = b := by
  obtain ⟨c, rfl⟩ := h
  have h1 := nz_of_mul K (mn_nz K hb)
  have h2 := sz_mulN K h1.1 h1.2
  have h3 := mn_c K (mn_div K ha hb) (by omega)
  rw [h3]; grind
theorem mn_ex (K : PK q iR) {f : Pz q} (hf : f ≠ 0) : ∃ g, mn_m g ∧ pz_s g = pz_s f ∧ dv_d g f ∧ dv_d f g := by
  obtain ⟨n, hn⟩ := sz_nz K hf
  obtain ⟨t, ht⟩ := fq_inv K (sz_top hn)
  have e : pz_mo t 0 * (pz_mo (pz_c f n) 0 * f) = f := by
    rw [← Lean.Grind.Semiring.mul_assoc, mo_mo K, Lean.Grind.CommSemiring.mul_comm t, ht, mo_one K]; grind
  have hs : pz_s (pz_mo t 0 * f) = n + 1 := sz_eq (fun i hi => by
      rw [mo_mul K, if_pos (by omega), sz_ge (by omega)]; exact Lean.Grind.Semiring.mul_zero _) (by
      rw [mo_mul K, if_pos (by omega), Nat.sub_zero, Lean.Grind.CommSemiring.mul_comm t, ht]; exact fq_1 K)
  refine ⟨pz_mo t 0 * f, mn_of hs ?_, by rw [hs, hn], ⟨pz_mo (pz_c f n) 0, ?_⟩, dv_r _ _⟩
  · rw [mo_mul K, if_pos (by omega), Nat.sub_zero, Lean.Grind.CommSemiring.mul_comm t, ht]
  · have e1 : pz_mo t 0 * f * pz_mo (pz_c f n) 0 = pz_mo t 0 * (pz_mo (pz_c f n) 0 * f) := by grind
    rw [e1, e]
theorem ir_as (K : PK q iR) {f g : Pz q} (hf : ir_r f) (h1 : dv_d f g) (h2 : dv_d g f) : ir_r g := by
  have f0 : f ≠ 0 := sz_ne K (by have := hf.1; omega)
  have g0 : g ≠ 0 := (dv_sz K h2 f0).1
  have hs := (dv_sz K h1 g0).2
  refine ⟨by have := hf.1; omega, fun a b e => ?_⟩
  obtain ⟨c, hc⟩ := h2
  have e1 : f = a * (b * c) := by rw [hc, e]; grind
  have h3 := nz_of_mul K (f := a) (g := b) (by rw [← e]; exact g0)
  have h4 := nz_of_mul K (f := g) (g := c) (by rw [← hc]; exact f0)
  have h5 := sz_mulN K h4.1 h4.2
  have h6 := sz_mulN K h3.2 h4.2
  rw [← hc] at h5
  have hs2 := (dv_sz K ⟨c, hc⟩ f0).2
  rcases hf.2 a (b * c) e1 with h | h
  · exact Or.inl h
  · exact Or.inr (by omega)
theorem ir_ex1 (K : PK q iR) : ∀ (n : Nat) (f : Pz q), pz_s f ≤ n → 2 ≤ pz_s f → ∃ g, ir_r g ∧ mn_m g ∧ dv_d g f := by
  intro n
  induction n with
  | zero => intro f h1 h2; omega
  | succ n ih =>
    intro f h1 h2
    have f0 : f ≠ 0 := sz_ne K (by omega)
    by_cases c : ∀ a b : Pz q, f = a * b → pz_s a = 1 ∨ pz_s b = 1
    · obtain ⟨g, hg, _, h3, h4⟩ := mn_ex K f0
      exact ⟨g, ir_as K ⟨h2, c⟩ h4 h3, hg, h3⟩
    · have ⟨a, b, e, ha, hb⟩ : ∃ a b : Pz q, f = a * b ∧ ¬ pz_s a = 1 ∧ ¬ pz_s b = 1 := Classical.byContradiction (fun z => c (fun a b e => by
        by_cases ha : pz_s a = 1
        · exact Or.inl ha
        · exact Or.inr (Classical.byContradiction (fun hb => z ⟨a, b, e, ha, hb⟩))))
      have h3 := nz_of_mul K (f := a) (g := b) (by rw [← e]; exact f0)
      have h4 := sz_mulN K h3.1 h3.2
      rw [← e] at h4
      obtain ⟨g, h5, h6, h7⟩ := ih a (by omega) (by omega)
      exact ⟨g, h5, h6, dv_trans h7 ⟨b, e⟩⟩
theorem ir_ex (K : PK q iR) {f : Pz q} (h : 2 ≤ pz_s f) : ∃ g, ir_r g ∧ mn_m g ∧ dv_d g f := ir_ex1 K _ f (Nat.le_refl _) h
theorem ir_nz (K : PK q iR) {f : Pz q} (hf : ir_r f) : f ≠ 0 := sz_ne K (by have := hf.1; omega)
theorem ir_cp (K : PK q iR) {f a : Pz q} (hf : ir_r f) (h : ¬ dv_d f a) : ∃ u v : Pz q, u * f + v * a = 1 := by
  obtain ⟨d, u, v, e, h1, h2⟩ := bz_ex K f a
  obtain ⟨c, hc⟩ := h1
  rcases hf.2 d c hc with hd | hd
  · obtain ⟨w, hw⟩ := un_inv K hd
    exact ⟨w * u, w * v, by rw [← hw, e]; grind⟩
  · obtain ⟨w, hw⟩ := un_inv K hd
    refine absurd (dv_trans ⟨w, ?_⟩ h2) h
    have e1 : d = d * (c * w) := by rw [hw]; grind
    rw [e1, hc]; grind
theorem ir_pr (K : PK q iR) {f a b : Pz q} (hf : ir_r f) (h : dv_d f (a * b)) : dv_d f a ∨ dv_d f b := by
  by_cases c : dv_d f a
  · exact Or.inl c
  · obtain ⟨u, v, e⟩ := ir_cp K hf c
    have e1 : b = u * b * f + v * (a * b) := by
      have : b = (u * f + v * a) * b := by rw [e]; grind
      rw [this]; grind
    refine Or.inr ?_
    rw [e1]
    exact dv_add (dv_r _ _) (dv_mulL v h)
theorem ir_eq (K : PK q iR) {f g : Pz q} (hf : ir_r f) (hg : ir_r g) (mf : mn_m f) (mg : mn_m g) (h : dv_d f g) : f = g := by
  obtain ⟨c, hc⟩ := h
  have g0 := ir_nz K hg
  have h3 := nz_of_mul K (f := f) (g := c) (by rw [← hc]; exact g0)
  have h4 := sz_mulN K h3.1 h3.2
  rw [← hc] at h4
  have := hf.1
  rcases hg.2 f c hc with h | h
  · omega
  · exact mn_eq K mf mg ⟨c, hc⟩ (by omega)
theorem ir_n1 (K : PK q iR) {f : Pz q} (hf : ir_r f) : ¬ dv_d f 1 := fun h => by
  have h1 := (dv_sz K h (sz_ne K (by rw [sz_1 K]; omega))).2
  rw [sz_1 K] at h1
  have := hf.1
  omega
theorem ir_nc (K : PK q iR) {f g : Pz q} (hf : ir_r f) (h0 : g ≠ 0) (hg : pz_s g ≤ 1) : ¬ dv_d f g := fun h => by
  have h1 := (dv_sz K h h0).2
  have := hf.1
  omega
theorem ir_prp (K : PK q iR) {f a : Pz q} (hf : ir_r f) : ∀ n : Nat, dv_d f (a ^ n) → dv_d f a := by
  intro n
  induction n with
  | zero => intro h; rw [Lean.Grind.Semiring.pow_zero] at h; exact absurd h (ir_n1 K hf)
  | succ n ih =>
    intro h
    rw [Lean.Grind.Semiring.pow_succ] at h
    rcases ir_pr K hf h with h | h
    · exact ih h
    · exact h
/-! multiplicity of f in g -/
def ml_m {q : Nat} [Lean.Grind.CommRing (Pz q)] (f g : Pz q) (e : Nat) : Prop := ∃ u, g = f ^ e * u ∧ ¬ dv_d f u
theorem pw_nz (K : PK q iR) {f : Pz q} (hf : f ≠ 0) (n : Nat) : f ^ n ≠ 0 := by
  induction n with
  | zero => rw [Lean.Grind.Semiring.pow_zero]; exact sz_ne K (by rw [sz_1 K]; omega)
  | succ n ih => rw [Lean.Grind.Semiring.pow_succ]; exact mul_nz K ih hf
theorem ml_ex1 (K : PK q iR) {f : Pz q} (hf : 2 ≤ pz_s f) : ∀ (n : Nat) (g : Pz q), pz_s g ≤ n → g ≠ 0 → ∃ e, ml_m f g e ∧ e < pz_s g := by
  intro n
  induction n with
  | zero => intro g h1 h2; exact absurd (sz_z K (by omega)) h2
  | succ n ih =>
    intro g h1 h2
    obtain ⟨s, hs⟩ := sz_nz K h2
    by_cases c : dv_d f g
    · obtain ⟨w, hw⟩ := c
      have h3 := nz_of_mul K (f := f) (g := w) (by rw [← hw]; exact h2)
      have h4 := sz_mulN K h3.1 h3.2
      rw [← hw] at h4
      obtain ⟨e, ⟨u, hu, hn⟩, he⟩ := ih w (by omega) h3.2
      exact ⟨e + 1, ⟨u, by rw [hw, hu, Lean.Grind.Semiring.pow_succ]; grind, hn⟩, by omega⟩
    · exact ⟨0, ⟨g, by rw [Lean.Grind.Semiring.pow_zero]; grind, c⟩, by omega⟩
theorem ml_ex (K : PK q iR) {f g : Pz q} (hf : ir_r f) (hg : g ≠ 0) : ∃ e, ml_m f g e ∧ e < pz_s g := ml_ex1 K hf.1 _ g (Nat.le_refl _) hg
theorem ml_dv (K : PK q iR) {f g : Pz q} (hf : ir_r f) {e k : Nat} (h : ml_m f g e) : dv_d (f ^ k) g ↔ k ≤ e := by
  obtain ⟨u, rfl, hn⟩ := h
  constructor
  · intro hd
    refine Nat.le_of_not_lt (fun c => hn ?_)
    obtain ⟨w, hw⟩ := hd
    obtain ⟨j, rfl⟩ : ∃ j, k = e + 1 + j := ⟨k - e - 1, by omega⟩
    have e1 : u = f * (f ^ j * w) := mul_can K (pw_nz K (ir_nz K hf) e) (by
      rw [hw, Lean.Grind.Semiring.pow_add, Lean.Grind.Semiring.pow_succ]; grind)
    exact ⟨_, e1⟩
  · intro hk
    exact dv_mulR u (dv_pw f hk)
theorem ml_un (K : PK q iR) {f g : Pz q} (hf : ir_r f) {a b : Nat} (h : ml_m f g a) (h' : ml_m f g b) : a = b := by
  have h1 := (ml_dv K hf h (k := b)).mp ((ml_dv K hf h').mpr (Nat.le_refl _))
  have h2 := (ml_dv K hf h' (k := a)).mp ((ml_dv K hf h).mpr (Nat.le_refl _))
  omega
theorem ml_nz (K : PK q iR) {f g : Pz q} (hf : ir_r f) {a : Nat} (h : ml_m f g a) : g ≠ 0 := fun e => by
  have := (ml_dv K hf h (k := a + 1)).mp (by rw [e]; exact dv_zero _)
  omega
theorem ml_mul (K : PK q iR) {f g h : Pz q} (hf : ir_r f) {a b : Nat} (hg : ml_m f g a) (hh : ml_m f h b) : ml_m f (g * h) (a + b) := by
  obtain ⟨u, rfl, hu⟩ := hg
  obtain ⟨v, rfl, hv⟩ := hh
  refine ⟨u * v, by rw [Lean.Grind.Semiring.pow_add]; grind, fun c => ?_⟩
  rcases ir_pr K hf c with c | c
  · exact hu c
  · exact hv c
theorem ml_0 {f g : Pz q} (h : ¬ dv_d f g) : ml_m f g 0 := ⟨g, by rw [Lean.Grind.Semiring.pow_zero]; grind, h⟩
theorem ml_0' (K : PK q iR) {f g : Pz q} (hf : ir_r f) {e : Nat} (h : ml_m f g e) : dv_d f g ↔ 0 < e := by
  have := ml_dv K hf h (k := 1)
  rw [Lean.Grind.Semiring.pow_one] at this
  rw [this]
  omega
theorem ml_pow (K : PK q iR) {f g : Pz q} (hf : ir_r f) {e : Nat} (h : ml_m f g e) (n : Nat) : ml_m f (g ^ n) (n * e) := by
  induction n with
  | zero =>
    rw [Lean.Grind.Semiring.pow_zero, Nat.zero_mul]
    exact ml_0 (ir_n1 K hf)
  | succ n ih =>
    rw [Lean.Grind.Semiring.pow_succ, Nat.succ_mul]
    exact ml_mul K hf ih h
theorem ml_self (K : PK q iR) {f : Pz q} (hf : ir_r f) : ml_m f f 1 := ⟨1, by rw [Lean.Grind.Semiring.pow_one]; grind, ir_n1 K hf⟩
/-- of a product: what is left -/
theorem ml_quo (K : PK q iR) {f g h : Pz q} (hf : ir_r f) {a b : Nat} (h1 : ml_m f (g * h) a) (h2 : ml_m f g b) : ∃ c, ml_m f h c ∧ a = b + c := by
  have h3 := nz_of_mul K (ml_nz K hf h1)
  obtain ⟨c, hc, _⟩ := ml_ex K hf h3.2
  exact ⟨c, hc, ml_un K hf h1 (ml_mul K hf h2 hc)⟩
end
end
section
/-! numbers in the field; derivative; p-th powers and roots; the part without repeated factors -/
def fq_v {q : Nat} (n : Nat) : Fin (q + 1) := Fin.ofNat (q + 1) n
theorem fv_val {q : Nat} (n : Nat) : (fq_v n : Fin (q + 1)).val = n % (q + 1) := rfl
theorem fv_of {q : Nat} (x : Fin (q + 1)) : fq_v x.val = x := Fin.ext (Nat.mod_eq_of_lt x.isLt)
theorem fv_add {q : Nat} (a b : Nat) : (fq_v (a + b) : Fin (q + 1)) = fq_v a + fq_v b := Fin.ext (by
  rw [Fin.val_add, fv_val, fv_val, fv_val, ← Nat.add_mod])
theorem fv_mul {q : Nat} (a b : Nat) : (fq_v (a * b) : Fin (q + 1)) = fq_v a * fq_v b := Fin.ext (by
  rw [Fin.val_mul, fv_val, fv_val, fv_val, ← Nat.mul_mod])
theorem fv_0 {q : Nat} : (fq_v 0 : Fin (q + 1)) = 0 := rfl
theorem fv_1 {q : Nat} : (fq_v 1 : Fin (q + 1)) = 1 := rfl
theorem fv_z {q : Nat} {n : Nat} : (fq_v n : Fin (q + 1)) = 0 ↔ n % (q + 1) = 0 := by
  constructor
  · intro h
    have := congrArg Fin.val h
    rwa [fv_val] at this
  · intro h
    exact Fin.ext h
def dr_d {q : Nat} (f : Pz q) : Pz q := ⟨fun i => fq_v (i + 1) * f.1 (i + 1), by
  obtain ⟨n, hn⟩ := f.2
  exact ⟨n, fun i hi => by show fq_v (i + 1) * f.1 (i + 1) = 0; rw [hn (i + 1) (by omega)]; exact Lean.Grind.Semiring.mul_zero _⟩⟩
/-- the coefficients at the multiples of p -/
def rt_r {q : Nat} (f : Pz q) : Pz q := ⟨fun i => f.1 ((q + 1) * i), by
  obtain ⟨n, hn⟩ := f.2
  exact ⟨n, fun i hi => hn _ (Nat.le_trans hi (Nat.le_mul_of_pos_left i (by omega)))⟩⟩
/-- f at the p-th power of X -/
def fr_f {q : Nat} (f : Pz q) : Pz q := ⟨fun i => if i % (q + 1) = 0 then f.1 (i / (q + 1)) else 0, by
  obtain ⟨n, hn⟩ := f.2
  exact ⟨n * (q + 1), fun i hi => by
    show (if i % (q + 1) = 0 then f.1 (i / (q + 1)) else 0) = 0
    split
    · exact hn _ ((Nat.le_div_iff_mul_le (by omega)).mpr hi)
    · rfl⟩⟩
theorem rp_2 {R : Type} [Lean.Grind.CommRing R] (h : ∀ x : R, x + x = 0) (a b : R) : (a + b) ^ 2 = a ^ 2 + b ^ 2 := by
  have := h (a * b)
  grind
theorem rp_3 {R : Type} [Lean.Grind.CommRing R] (h : ∀ x : R, x + x + x = 0) (a b : R) : (a + b) ^ 3 = a ^ 3 + b ^ 3 := by
  have := h (a ^ 2 * b + a * b ^ 2)
  grind
theorem rp_5 {R : Type} [Lean.Grind.CommRing R] (h : ∀ x : R, x + x + x + x + x = 0) (a b : R) : (a + b) ^ 5 = a ^ 5 + b ^ 5 := by
  have := h (a ^ 4 * b + 2 * a ^ 3 * b ^ 2 + 2 * a ^ 2 * b ^ 3 + a * b ^ 4)
  grind
theorem rq_2 {R : Type} [Lean.Grind.CommRing R] (a : R) : a ^ 2 - a = a * (a - 1) := by grind
theorem rq_3 {R : Type} [Lean.Grind.CommRing R] (a : R) : a ^ 3 - a = a * ((a - 1) * (a - (- 1))) := by grind
theorem rq_5 {R : Type} [Lean.Grind.CommRing R] (h : ∀ x : R, x + x + x + x + x = 0) (a : R) : a ^ 5 - a = a * ((a - 1) * ((a - (- 1)) * ((a - (1 + 1)) * (a - (- (1 + 1)))))) := by
  have := h (a ^ 3 - a)
  grind
section
variable {q : Nat} {iR : Lean.Grind.CommRing (Pz q)}
theorem dr_c (f : Pz q) (i : Nat) : pz_c (dr_d f) i = fq_v (i + 1) * pz_c f (i + 1) := rfl
theorem rt_c (f : Pz q) (i : Nat) : pz_c (rt_r f) i = pz_c f ((q + 1) * i) := rfl
theorem dr_add (K : PK q iR) (f g : Pz q) : dr_d (f + g) = dr_d f + dr_d g := pz_ext (fun i => by
  rw [pz_add K, dr_c, dr_c, dr_c, pz_add K]
  exact Lean.Grind.Semiring.left_distrib _ _ _)
theorem dr_mul (K : PK q iR) (f g : Pz q) : dr_d (f * g) = dr_d f * g + f * dr_d g := pz_ext (fun n => by
  rw [pz_add K, dr_c, pz_mul K, pz_mul K, pz_mul K]
  have e1 : fq_v (n + 1) * cv_m (pz_c f) (pz_c g) (n + 1) = zs_m (n + 1 + 1) (fun j => fq_v j * pz_c f j * pz_c g (n + 1 - j)) + zs_m (n + 1 + 1) (fun j => pz_c f j * (fq_v (n + 1 - j) * pz_c g (n + 1 - j))) := by
    unfold cv_m
    rw [← zs_mulL, ← zs_add]
    refine zs_congr (fun j hj => ?_)
    have e : (fq_v (n + 1) : Fin (q + 1)) = fq_v j + fq_v (n + 1 - j) := by rw [← fv_add]; exact congrArg fq_v (by omega)
    rw [e]
    generalize pz_c f j = x
    generalize pz_c g (n + 1 - j) = y
    generalize (fq_v j : Fin (q + 1)) = z
    generalize (fq_v (n + 1 - j) : Fin (q + 1)) = t
    rw [Lean.Grind.Semiring.right_distrib, Lean.Grind.Semiring.mul_assoc z, ← Lean.Grind.Semiring.mul_assoc x t y, Lean.Grind.CommSemiring.mul_comm x t, Lean.Grind.Semiring.mul_assoc t]
  have e2 : zs_m (n + 1 + 1) (fun j => fq_v j * pz_c f j * pz_c g (n + 1 - j)) = cv_m (pz_c (dr_d f)) (pz_c g) n := by
    rw [zs_front, fv_0, Lean.Grind.Semiring.zero_mul, Lean.Grind.Semiring.zero_mul, Lean.Grind.AddCommMonoid.zero_add]
    refine zs_congr (fun j hj => ?_)
    rw [dr_c, show n + 1 - (j + 1) = n - j by omega]
  have e3 : zs_m (n + 1 + 1) (fun j => pz_c f j * (fq_v (n + 1 - j) * pz_c g (n + 1 - j))) = cv_m (pz_c f) (pz_c (dr_d g)) n := by
    rw [zs_m, Nat.sub_self, fv_0, Lean.Grind.Semiring.zero_mul, Lean.Grind.Semiring.mul_zero, Lean.Grind.Semiring.add_zero]
    refine zs_congr (fun j hj => ?_)
    rw [dr_c, show n + 1 - j = n - j + 1 by omega]
  rw [e1, e2, e3])
theorem dr_sz {f : Pz q} {n : Nat} (h : pz_s f ≤ n + 1) : pz_s (dr_d f) ≤ n := sz_le (fun i hi => by
  rw [dr_c, sz_ge (by omega)]; exact Lean.Grind.Semiring.mul_zero _)
theorem dr_const (K : PK q iR) {f : Pz q} (h : pz_s f ≤ 1) : dr_d f = 0 := sz_z K (by have := dr_sz (n := 0) h; omega)
theorem dr_pow (K : PK q iR) (f : Pz q) (n : Nat) : dr_d (f ^ (n + 1)) = pz_mo (fq_v (n + 1)) 0 * (f ^ n * dr_d f) := by
  induction n with
  | zero =>
    rw [Lean.Grind.Semiring.pow_succ, Lean.Grind.Semiring.pow_zero, fv_1, mo_one K, Lean.Grind.Semiring.one_mul, Lean.Grind.Semiring.one_mul, Lean.Grind.Semiring.one_mul]
  | succ n ih =>
    rw [Lean.Grind.Semiring.pow_succ, dr_mul K, ih, fv_add (n + 1) 1, mo_add K, fv_1, mo_one K, Lean.Grind.Semiring.pow_succ f n]
    generalize f ^ n = a
    generalize dr_d f = b
    generalize (pz_mo (fq_v (n + 1)) 0 : Pz q) = c
    grind
theorem dr_pw0 (K : PK q iR) (f : Pz q) {e : Nat} (h : (fq_v e : Fin (q + 1)) = 0) : dr_d (f ^ e) = 0 := by
  cases e with
  | zero => rw [Lean.Grind.Semiring.pow_zero]; exact dr_const K (by rw [sz_1 K]; omega)
  | succ n => rw [dr_pow K, h, mo_zero K]; exact Lean.Grind.Semiring.zero_mul _
/-! p-th powers -/
theorem ch_2 {iR : Lean.Grind.CommRing (Pz 1)} (K : PK 1 iR) (x : Pz 1) : x + x = 0 := pz_ext (fun i => by
  rw [pz_add K, pz_zero K]
  generalize pz_c x i = y
  revert y; decide)
theorem ch_3 {iR : Lean.Grind.CommRing (Pz 2)} (K : PK 2 iR) (x : Pz 2) : x + x + x = 0 := pz_ext (fun i => by
  rw [pz_add K, pz_add K, pz_zero K]
  generalize pz_c x i = y
  revert y; decide)
theorem ch_5 {iR : Lean.Grind.CommRing (Pz 4)} (K : PK 4 iR) (x : Pz 4) : x + x + x + x + x = 0 := pz_ext (fun i => by
  rw [pz_add K, pz_add K, pz_add K, pz_add K, pz_zero K]
  generalize pz_c x i = y
  revert y; decide)
theorem fr_add (K : PK q iR) (a b : Pz q) : (a + b) ^ (q + 1) = a ^ (q + 1) + b ^ (q + 1) := by
  rcases K.2 with rfl | rfl | rfl
  · exact rp_2 (ch_2 K) a b
  · exact rp_3 (ch_3 K) a b
  · exact rp_5 (ch_5 K) a b
theorem fr_sub (K : PK q iR) (a b : Pz q) : (a - b) ^ (q + 1) = a ^ (q + 1) - b ^ (q + 1) := by
  have h := fr_add K (a - b) b
  have e : a - b + b = a := by grind
  rw [e] at h
  rw [h]; grind
theorem fr_mo (K : PK q iR) (c : Fin (q + 1)) (n : Nat) : (pz_mo c n : Pz q) ^ (q + 1) = pz_mo c (n * (q + 1)) := by
  rcases K.2 with rfl | rfl | rfl
  · rw [Lean.Grind.Semiring.pow_succ, Lean.Grind.Semiring.pow_one, mo_mo K, show c * c = c by revert c; decide, show n + n = n * (1 + 1) by omega]
  · rw [Lean.Grind.Semiring.pow_succ, Lean.Grind.Semiring.pow_succ, Lean.Grind.Semiring.pow_one, mo_mo K, mo_mo K, show c * c * c = c by revert c; decide, show n + n + n = n * (2 + 1) by omega]
  · rw [Lean.Grind.Semiring.pow_succ, Lean.Grind.Semiring.pow_succ, Lean.Grind.Semiring.pow_succ, Lean.Grind.Semiring.pow_succ, Lean.Grind.Semiring.pow_one, mo_mo K, mo_mo K, mo_mo K, mo_mo K, show c * c * c * c * c = c by revert c; decide, show n + n + n + n + n = n * (4 + 1) by omega]
theorem cut_top (K : PK q iR) {f : Pz q} {n : Nat} (h : pz_s f ≤ n + 1) : ∃ g : Pz q, f = g + pz_mo (pz_c f n) n ∧ pz_s g ≤ n ∧ ∀ i, i < n → pz_c g i = pz_c f i := by
  refine ⟨f - pz_mo (pz_c f n) n, by grind, sz_le (fun i hi => ?_), fun i hi => ?_⟩
  · rw [pz_sub K, mo_c]
    by_cases e : i = n
    · rw [if_pos e, e]; exact Lean.Grind.AddCommGroup.sub_self _
    · rw [if_neg e, sz_ge (by omega)]; exact Lean.Grind.AddCommGroup.sub_self _
  · rw [pz_sub K, mo_c, if_neg (by omega), Lean.Grind.Ring.sub_eq_add_neg, Lean.Grind.AddCommGroup.neg_zero]; exact Lean.Grind.Semiring.add_zero _
theorem fr_eq1 (K : PK q iR) : ∀ (n : Nat) (f : Pz q), pz_s f ≤ n → f ^ (q + 1) = fr_f f := by
  intro n
  induction n with
  | zero =>
    intro f h
    have e : f = 0 := sz_z K (by omega)
    subst e
    rw [Lean.Grind.Semiring.pow_succ, Lean.Grind.Semiring.mul_zero]
    refine pz_ext (fun i => ?_)
    rw [pz_zero K]
    show 0 = if i % (q + 1) = 0 then pz_c (0 : Pz q) (i / (q + 1)) else 0
    rw [pz_zero K]
    split <;> rfl
  | succ n ih =>
    intro f h
    obtain ⟨g, e, hg, _⟩ := cut_top K h
    rw [e, fr_add K, ih g hg, fr_mo K]
    refine pz_ext (fun i => ?_)
    rw [pz_add K, mo_c]
    show (if i % (q + 1) = 0 then pz_c g (i / (q + 1)) else 0) + _ = if i % (q + 1) = 0 then pz_c (g + pz_mo (pz_c f n) n) (i / (q + 1)) else 0
    rw [pz_add K, mo_c]
    by_cases c : i % (q + 1) = 0
    · rw [if_pos c, if_pos c]
      by_cases c2 : i / (q + 1) = n
      · rw [if_pos c2, if_pos (by
          have := Nat.div_add_mod i (q + 1)
          rw [c, c2, Nat.mul_comm] at this; omega)]
      · rw [if_neg c2, if_neg (fun z => c2 (by rw [z]; exact Nat.mul_div_cancel n (by omega)))]
    · rw [if_neg c, if_neg c, if_neg (fun z => c (by rw [z]; exact Nat.mul_mod_left n (q + 1)))]
      exact Lean.Grind.Semiring.add_zero _
theorem fr_eq (K : PK q iR) (f : Pz q) : f ^ (q + 1) = fr_f f := fr_eq1 K _ f (Nat.le_refl _)
theorem rt_pw (K : PK q iR) (f : Pz q) : rt_r (f ^ (q + 1)) = f := pz_ext (fun i => by
  rw [rt_c, fr_eq K]
  show (if (q + 1) * i % (q + 1) = 0 then pz_c f ((q + 1) * i / (q + 1)) else 0) = _
  rw [if_pos (Nat.mul_mod_right (q + 1) i), Nat.mul_div_cancel_left i (by omega)])
theorem rt_dr (K : PK q iR) {f : Pz q} (h : dr_d f = 0) : f = rt_r f ^ (q + 1) := pz_ext (fun i => by
  rw [fr_eq K]
  show _ = if i % (q + 1) = 0 then pz_c (rt_r f) (i / (q + 1)) else 0
  by_cases c : i % (q + 1) = 0
  · rw [if_pos c, rt_c]
    exact congrArg (pz_c f) (by have := Nat.div_add_mod i (q + 1); omega)
  · rw [if_neg c]
    cases i with
    | zero => exact absurd (Nat.zero_mod _) c
    | succ i =>
      have h1 : pz_c (dr_d f) i = 0 := by rw [h, pz_zero K]
      rw [dr_c] at h1
      refine Classical.byContradiction (fun z => fq_mul K (fun y => c (fv_z.mp y)) z h1))
theorem sz_pow (K : PK q iR) {f : Pz q} {a : Nat} (h : pz_s f = a + 1) (n : Nat) : pz_s (f ^ n) = n * a + 1 := by
  induction n with
  | zero => rw [Lean.Grind.Semiring.pow_zero, sz_1 K, Nat.zero_mul]
  | succ n ih => rw [Lean.Grind.Semiring.pow_succ, sz_mul K ih h, Nat.succ_mul]
theorem ir_dr (K : PK q iR) {f : Pz q} (hf : ir_r f) : dr_d f ≠ 0 := fun c => by
  have e := rt_dr K c
  have f0 := ir_nz K hf
  have k0 : rt_r f ≠ 0 := fun z => f0 (by rw [e, z, Lean.Grind.Semiring.pow_succ, Lean.Grind.Semiring.mul_zero])
  obtain ⟨a, ha⟩ := sz_nz K k0
  have h2 := hf.1
  rw [e, sz_pow K ha] at h2
  rw [Lean.Grind.Semiring.pow_succ] at e
  have hq : 1 ≤ q := by have := K.2; omega
  have ha1 : 1 ≤ a := by
    cases a with
    | zero => omega
    | succ a => omega
  have h3 : 1 * 1 ≤ q * a := Nat.mul_le_mul hq ha1
  rcases hf.2 _ _ e with h | h
  · rw [sz_pow K ha] at h; omega
  · omega
/-- an irreducible divisor of V^p - V divides some V - c -/
theorem fr_root (K : PK q iR) {f V : Pz q} (hf : ir_r f) (h : dv_d f (V ^ (q + 1) - V)) : ∃ c : Fin (q + 1), dv_d f (V - pz_mo c 0) := by
  have z0 : V = V - pz_mo 0 0 := by rw [mo_zero K]; grind
  have z1 : V - 1 = V - pz_mo 1 0 := by rw [mo_one K]
  have z2 : V - (- 1) = V - pz_mo (- 1) 0 := by rw [mo_neg K, mo_one K]
  have z3 : V - (1 + 1) = V - pz_mo (1 + 1) 0 := by rw [mo_add K, mo_one K]
  have z4 : V - (- (1 + 1)) = V - pz_mo (- (1 + 1)) 0 := by rw [mo_neg K, mo_add K, mo_one K]
  rcases K.2 with rfl | rfl | rfl
  · rw [rq_2] at h
    rcases ir_pr K hf h with h | h
    · exact ⟨0, by rw [← z0]; exact h⟩
    · exact ⟨1, by rw [← z1]; exact h⟩
  · rw [rq_3] at h
    rcases ir_pr K hf h with h | h
    · exact ⟨0, by rw [← z0]; exact h⟩
    · rcases ir_pr K hf h with h | h
      · exact ⟨1, by rw [← z1]; exact h⟩
      · exact ⟨- 1, by rw [← z2]; exact h⟩
  · rw [rq_5 (ch_5 K)] at h
    rcases ir_pr K hf h with h | h
    · exact ⟨0, by rw [← z0]; exact h⟩
    · rcases ir_pr K hf h with h | h
      · exact ⟨1, by rw [← z1]; exact h⟩
      · rcases ir_pr K hf h with h | h
        · exact ⟨- 1, by rw [← z2]; exact h⟩
        · rcases ir_pr K hf h with h | h
          · exact ⟨1 + 1, by rw [← z3]; exact h⟩
          · exact ⟨- (1 + 1), by rw [← z4]; exact h⟩
/-! common divisor, and the part whose multiplicities aren't divided by p -/
def gd_d {q : Nat} [Lean.Grind.CommRing (Pz q)] (a b d : Pz q) : Prop := dv_d d a ∧ dv_d d b ∧ ∃ u v : Pz q, d = u * a + v * b
theorem gd_dv {a b d e : Pz q} (h : gd_d a b d) (h1 : dv_d e a) (h2 : dv_d e b) : dv_d e d := by
  obtain ⟨_, _, u, v, rfl⟩ := h
  exact dv_add (dv_mulL u h1) (dv_mulL v h2)
theorem sq_part (K : PK q iR) {h g w f : Pz q} (hg : gd_d h (dr_d h) g) (hw : h = g * w) (hf : ir_r f) {e : Nat} (he : ml_m f h e) : ml_m f w (if (fq_v e : Fin (q + 1)) = 0 then 0 else 1) := by
  have h0 := ml_nz K hf he
  have g0 := (nz_of_mul K (f := g) (g := w) (by rw [← hw]; exact h0)).1
  obtain ⟨k, hk, _⟩ := ml_ex K hf g0
  obtain ⟨c, hc, ec⟩ := ml_quo K hf (g := g) (h := w) (by rw [← hw]; exact he) hk
  obtain ⟨u, hu, hn⟩ := id he
  have ed : dr_d h = dr_d (f ^ e) * u + f ^ e * dr_d u := by rw [hu, dr_mul K]
  have d1 : dv_d (f ^ e) h := by rw [hu]; exact dv_l _ _
  by_cases z : (fq_v e : Fin (q + 1)) = 0
  · rw [if_pos z]
    have d2 : dv_d (f ^ e) (dr_d h) := by rw [ed, dr_pw0 K f z, Lean.Grind.Semiring.zero_mul]; exact dv_add (dv_zero _) (dv_l _ _)
    have := (ml_dv K hf hk).mp (gd_dv hg d1 d2)
    have e0 : c = 0 := by omega
    rw [← e0]; exact hc
  · rw [if_neg z]
    cases e with
    | zero => exact absurd fv_0 z
    | succ n =>
      have ed2 : dr_d h = f ^ n * (pz_mo (fq_v (n + 1)) 0 * dr_d f * u + f * dr_d u) := by
        rw [ed, dr_pow K, Lean.Grind.Semiring.pow_succ]
        generalize f ^ n = a
        generalize dr_d f = b
        generalize dr_d u = d
        generalize (pz_mo (fq_v (n + 1)) 0 : Pz q) = c
        grind
      have d2 : dv_d (f ^ n) (dr_d h) := by rw [ed2]; exact dv_l _ _
      have d3 : dv_d (f ^ n) h := dv_trans (dv_pw f (Nat.le_succ n)) d1
      have k1 := (ml_dv K hf hk).mp (gd_dv hg d3 d2)
      have k2 : ¬ n + 1 ≤ k := fun c2 => by
        have d4 : dv_d (f ^ (n + 1)) (dr_d h) := dv_trans ((ml_dv K hf hk).mpr c2) hg.2.1
        obtain ⟨y, hy⟩ := d4
        rw [ed2, Lean.Grind.Semiring.pow_succ, Lean.Grind.Semiring.mul_assoc (f ^ n) f y] at hy
        have hy2 := mul_can K (pw_nz K (ir_nz K hf) n) hy
        have d5 : dv_d f (pz_mo (fq_v (n + 1)) 0 * dr_d f * u) := ⟨y - dr_d u, by
          have : pz_mo (fq_v (n + 1)) 0 * dr_d f * u = f * y - f * dr_d u := by rw [← hy2]; grind
          rw [this]; grind⟩
        rcases ir_pr K hf d5 with d6 | d6
        · rcases ir_pr K hf d6 with d7 | d7
          · exact ir_nc K hf (sz_ne K (by rw [sz_mo z]; omega)) (sz_mo_le _ _) d7
          · obtain ⟨m, hm⟩ := sz_nz K (ir_nz K hf)
            have s1 := dr_sz (Nat.le_of_eq hm)
            have s2 := (dv_sz K d7 (ir_dr K hf)).2
            omega
        · exact hn d6
      have e1 : c = 1 := by omega
      rw [← e1]; exact hc
/-- all multiplicities divided by p: the derivative is 0 -/
theorem dr_all (K : PK q iR) {h : Pz q} (h0 : h ≠ 0) (H : ∀ (f : Pz q) (e : Nat), ir_r f → mn_m f → ml_m f h e → (fq_v e : Fin (q + 1)) = 0) : dr_d h = 0 := by
  obtain ⟨g, u, v, e, h1, h2⟩ := bz_ex K h (dr_d h)
  obtain ⟨w, hw⟩ := id h1
  have hn := nz_of_mul K (f := g) (g := w) (by rw [← hw]; exact h0)
  have hs := sz_mulN K hn.1 hn.2
  rw [← hw] at hs
  by_cases c : 2 ≤ pz_s w
  · obtain ⟨f, hf, mf, df⟩ := ir_ex K c
    obtain ⟨k, hk, _⟩ := ml_ex K hf h0
    have := sq_part K ⟨h1, h2, u, v, e⟩ hw hf hk
    rw [if_pos (H f k hf mf hk)] at this
    have := (ml_0' K hf this).mp df
    omega
  · obtain ⟨n, hn2⟩ := sz_nz K h0
    have s1 := dr_sz (Nat.le_of_eq hn2)
    exact dv_small K h2 (by omega)
end
end
section
/-! elimination, over a commutative ring; then Berlekamp's algebra -/
def st_l {α : Type} (m : Nat → α) (l : Nat) (x : α) : Nat → α := fun j => if j = l then x else m j
theorem st_s {α : Type} {m : Nat → α} {l : Nat} {x : α} : st_l m l x l = x := if_pos rfl
theorem st_n {α : Type} {m : Nat → α} {l j : Nat} {x : α} (h : j ≠ l) : st_l m l x j = m j := if_neg h
theorem st_st {α : Type} (m : Nat → α) (l : Nat) (x y : α) : st_l (st_l m l x) l y = st_l m l y := funext (fun j => by
  by_cases h : j = l
  · rw [h, st_s, st_s]
  · rw [st_n h, st_n h, st_n h])
theorem st_self {α : Type} (m : Nat → α) (l : Nat) : st_l m l (m l) = m := funext (fun j => by
  by_cases h : j = l
  · rw [h, st_s]
  · rw [st_n h])
theorem zs_sub {A : Type} [Lean.Grind.CommRing A] (n : Nat) (f g : Nat → A) : zs_m n (fun i => f i - g i) = zs_m n f - zs_m n g := by
  induction n with
  | zero => show (0 : A) = 0 - 0; grind
  | succ n ih => rw [zs_m, zs_m, zs_m, ih]; grind
/-- v solves all n equations -/
def ga_k {A : Type} [Lean.Grind.CommRing A] (n : Nat) (M : Nat → Nat → A) (v : Nat → A) : Prop := ∀ r, r < n → zs_m n (fun c => M r c * v c) = 0
/-- the matrix at column c, with the rows below 'row' used; pr names the row of a column's pivot -/
def ga_I {A : Type} [Lean.Grind.CommRing A] (n : Nat) (M : Nat → Nat → A) (row c : Nat) (pr : Nat → Option Nat) : Prop :=
  row ≤ c ∧ c ≤ n ∧ (∀ k, k < c → pr k = none → ∀ r, row ≤ r → r < n → M r k = 0) ∧
  (∀ k, k < c → ∀ r, pr k = some r → r < row ∧ M r k = 1 ∧ ∀ r', r' < n → r' ≠ r → M r' k = 0) ∧
  (∀ r, r < row → ∃ k, k < c ∧ pr k = some r ∧ ∀ k', pr k' = some r → k' = k) ∧ (∀ k, c ≤ k → pr k = none)
theorem ga_0 {A : Type} [Lean.Grind.CommRing A] (n : Nat) (M : Nat → Nat → A) : ga_I n M 0 0 (fun _ => none) :=
  ⟨by omega, by omega, fun k h => by omega, fun k h => by omega, fun k h => by omega, fun _ _ => rfl⟩
theorem ga_none {A : Type} [Lean.Grind.CommRing A] {n : Nat} {M : Nat → Nat → A} {row c : Nat} {pr : Nat → Option Nat} (h : ga_I n M row c pr) (hc : c < n) (hz : ∀ r, row ≤ r → r < n → M r c = 0) : ga_I n M row (c + 1) pr := by
  obtain ⟨h1, h2, h3, h4, h5, h6⟩ := h
  refine ⟨by omega, by omega, fun k hk e r hr hn => ?_, fun k hk r e => ?_, fun r hr => ?_, fun k hk => h6 k (by omega)⟩
  · by_cases e1 : k = c
    · subst e1; exact hz r hr hn
    · exact h3 k (by omega) e r hr hn
  · by_cases e1 : k = c
    · subst e1
      rw [h6 k (by omega)] at e
      exact nomatch e
    · exact h4 k (by omega) r e
  · obtain ⟨k, a, b, d⟩ := h5 r hr
    exact ⟨k, by omega, b, d⟩
/-- rows at and row change places, the row is divided by its head, and taken off all others -/
def ga_st {A : Type} [Lean.Grind.CommRing A] (n : Nat) (M M' : Nat → Nat → A) (at' row c : Nat) (t : A) : Prop :=
  ∃ M1 : Nat → Nat → A, (∀ r k, r < n → k < n → M1 r k = if r = at' then M row k else if r = row then M at' k else M r k) ∧
    (∀ k, k < n → M' row k = M1 row k * t) ∧ (∀ r k, r < n → k < n → r ≠ row → M' r k = M1 r k - M1 r c * M' row k)
theorem ga_piv {A : Type} [Lean.Grind.CommRing A] {n : Nat} {M M' : Nat → Nat → A} {row c at' : Nat} {t : A} {pr : Nat → Option Nat} (h : ga_I n M row c pr) (hc : c < n) (ha : row ≤ at') (hn : at' < n) (ht : M at' c * t = 1) (hs : ga_st n M M' at' row c t) : ga_I n M' (row + 1) (c + 1) (st_l pr c (some row)) ∧ ∀ v, ga_k n M' v ↔ ga_k n M v := by
  obtain ⟨h1, h2, h3, h4, h5, h6⟩ := h
  obtain ⟨M1, e1, e2, e3⟩ := hs
  have z1 : ∀ k, k < c → ∀ r, row ≤ r → r < n → M r k = 0 := fun k hk r hr hr2 => by
    cases e : pr k with
    | none => exact h3 k hk e r hr hr2
    | some r' =>
      obtain ⟨a, _, b⟩ := h4 k hk r' e
      exact b r hr2 (by omega)
  have z2 : ∀ k, k < c → ∀ r, r < n → M1 r k = M r k := fun k hk r hr => by
    rw [e1 r k hr (by omega)]
    split
    · next e => rw [e, z1 k hk row (by omega) (by omega), z1 k hk at' ha hn]
    · split
      · next e => rw [e, z1 k hk row (by omega) (by omega), z1 k hk at' ha hn]
      · rfl
  have z3 : ∀ k, k < c → ∀ r, r < n → M' r k = M r k := fun k hk r hr => by
    have a : M' row k = 0 := by
      rw [e2 k (by omega), z2 k hk row (by omega), z1 k hk row (by omega) (by omega)]; exact Lean.Grind.Semiring.zero_mul _
    by_cases e : r = row
    · rw [e, a, z1 k hk row (by omega) (by omega)]
    · rw [e3 r k hr (by omega) e, a, z2 k hk r hr, Lean.Grind.Semiring.mul_zero]; grind
  have hrow : M1 row c = M at' c := by
    rw [e1 row c (by omega) hc]
    split
    · next e => rw [e]
    · rw [if_pos rfl]
  have p1 : M' row c = 1 := by rw [e2 c hc, hrow, ht]
  have p2 : ∀ r, r < n → r ≠ row → M' r c = 0 := fun r hr e => by
    rw [e3 r c hr hc e, p1]; grind
  refine ⟨⟨by omega, by omega, fun k hk e r hr hr2 => ?_, fun k hk r e => ?_, fun r hr => ?_, fun k hk => ?_⟩, fun v => ?_⟩
  · by_cases ek : k = c
    · rw [ek, st_s] at e; exact nomatch e
    · rw [st_n ek] at e
      rw [z3 k (by omega) r hr2]
      exact h3 k (by omega) e r (by omega) hr2
  · by_cases ek : k = c
    · rw [ek, st_s] at e
      have er : row = r := Option.some.inj e
      subst er ek
      exact ⟨by omega, p1, p2⟩
    · rw [st_n ek] at e
      obtain ⟨a, b, d⟩ := h4 k (by omega) r e
      refine ⟨by omega, ?_, fun r' hr' hne => ?_⟩
      · rw [z3 k (by omega) r (by omega)]; exact b
      · rw [z3 k (by omega) r' hr']; exact d r' hr' hne
  · by_cases er : r = row
    · refine ⟨c, by omega, by rw [st_s, er], fun k' hk' => Classical.byContradiction (fun ne => ?_)⟩
      rw [st_n ne] at hk'
      by_cases kc : k' < c
      · have := (h4 k' kc r hk').1
        omega
      · rw [h6 k' (by omega)] at hk'; exact nomatch hk'
    · obtain ⟨k, a, b, d⟩ := h5 r (by omega)
      refine ⟨k, by omega, by rw [st_n (by omega)]; exact b, fun k' hk' => ?_⟩
      by_cases ek : k' = c
      · rw [ek, st_s] at hk'
        exact absurd (Option.some.inj hk').symm er
      · rw [st_n ek] at hk'
        exact d k' hk'
  · rw [st_n (by omega)]
    exact h6 k (by omega)
  · have s0 : ∀ r, r < n → zs_m n (fun k => M1 r k * v k) = if r = at' then zs_m n (fun k => M row k * v k) else if r = row then zs_m n (fun k => M at' k * v k) else zs_m n (fun k => M r k * v k) := fun r hr => by
      split
      · next e => exact zs_congr (fun k hk => by rw [e1 r k hr hk, if_pos e])
      · next ne =>
        split
        · next e => exact zs_congr (fun k hk => by rw [e1 r k hr hk, if_neg ne, if_pos e])
        · next ne2 => exact zs_congr (fun k hk => by rw [e1 r k hr hk, if_neg ne, if_neg ne2])
    have s1 : zs_m n (fun k => M' row k * v k) = zs_m n (fun k => M1 row k * v k) * t := by
      rw [← zs_mulR]
      exact zs_congr (fun k hk => by rw [e2 k hk]; grind)
    have s2 : ∀ r, r < n → r ≠ row → zs_m n (fun k => M' r k * v k) = zs_m n (fun k => M1 r k * v k) - M1 r c * zs_m n (fun k => M' row k * v k) := fun r hr ne => by
      rw [← zs_mulL, ← zs_sub]
      exact zs_congr (fun k hk => by rw [e3 r k hr hk ne]; grind)
    have k1 : ga_k n M1 v ↔ ga_k n M v := by
      constructor
      · intro h r hr
        by_cases ea : r = at'
        · by_cases eb : r = row
          · have := h r hr
            rw [s0 r hr, if_pos ea, ← eb] at this
            exact this
          · have := h row (by omega)
            rw [s0 row (by omega), if_neg (by omega), if_pos rfl, ← ea] at this
            exact this
        · by_cases eb : r = row
          · have := h at' hn
            rw [s0 at' hn, if_pos rfl, ← eb] at this
            exact this
          · have := h r hr
            rw [s0 r hr, if_neg ea, if_neg eb] at this
            exact this
      · intro h r hr
        rw [s0 r hr]
        split
        · exact h row (by omega)
        · split
          · exact h at' hn
          · exact h r hr
    rw [← k1]
    constructor
    · intro h
      have a : zs_m n (fun k => M1 row k * v k) = 0 := by
        have b := h row (by omega)
        have d : zs_m n (fun k => M1 row k * v k) = zs_m n (fun k => M1 row k * v k) * (M at' c * t) := by rw [ht]; grind
        rw [d]
        rw [s1] at b
        grind
      intro r hr
      by_cases e : r = row
      · rw [e]; exact a
      · have b := h r hr
        rw [s2 r hr e, h row (by omega)] at b
        grind
    · intro h r hr
      by_cases e : r = row
      · rw [e, s1, h row (by omega)]; grind
      · rw [s2 r hr e, s1, h row (by omega), h r hr]; grind
section
variable {q : Nat} {iR : Lean.Grind.CommRing (Pz q)}
theorem pz_zs (K : PK q iR) (n : Nat) (F : Nat → Pz q) (k : Nat) : pz_c (zs_m n F) k = zs_m n (fun i => pz_c (F i) k) := by
  induction n with
  | zero => exact pz_zero K k
  | succ n ih => rw [zs_m, zs_m, pz_add K, ih]
theorem C_mul (K : PK q iR) (c : Fin (q + 1)) (g : Pz q) (i : Nat) : pz_c (pz_mo c 0 * g) i = c * pz_c g i := by
  rw [mo_mul K, if_pos (by omega), Nat.sub_zero]
theorem zs_mono (K : PK q iR) {V : Pz q} {n : Nat} (h : pz_s V ≤ n) : zs_m n (fun i => pz_mo (pz_c V i) i) = V := pz_ext (fun k => by
  rw [pz_zs K]
  by_cases hk : k < n
  · rw [zs_one k hk (fun i _ hi => by rw [mo_c, if_neg (by omega)]), mo_c, if_pos rfl]
  · rw [sz_ge (by omega)]
    exact zs_zero (fun i hi => by rw [mo_c, if_neg (by omega)]))
theorem bk_pw (K : PK q iR) {w : Pz q} {L : Nat → Pz q} (v : Nat → Fin (q + 1)) : ∀ n, (∀ i, i < n → dv_d w (pz_mo 1 (i * (q + 1)) - L i)) → dv_d w (zs_m n (fun i => (pz_mo (v i) i : Pz q)) ^ (q + 1) - zs_m n (fun i => pz_mo (v i) 0 * L i)) := by
  intro n
  induction n with
  | zero =>
    intro _
    have e : (zs_m 0 (fun i => (pz_mo (v i) i : Pz q))) ^ (q + 1) - zs_m 0 (fun i => pz_mo (v i) 0 * L i) = 0 := by
      show (0 : Pz q) ^ (q + 1) - 0 = 0
      rw [Lean.Grind.Semiring.pow_succ, Lean.Grind.Semiring.mul_zero]; grind
    rw [e]; exact dv_zero w
  | succ n ih =>
    intro h
    rw [zs_m, zs_m, fr_add K, fr_mo K]
    have e : (pz_mo (v n) (n * (q + 1)) : Pz q) = pz_mo (v n) 0 * pz_mo 1 (n * (q + 1)) := by
      rw [mo_mo K, Nat.zero_add, Lean.Grind.Semiring.mul_one]
    rw [e]
    have h1 := ih (fun i hi => h i (by omega))
    have h2 := dv_mulL (pz_mo (v n) 0) (h n (by omega))
    have h3 := dv_add h1 h2
    generalize zs_m n (fun i => (pz_mo (v i) i : Pz q)) ^ (q + 1) = a at *
    generalize zs_m n (fun i => pz_mo (v i) 0 * L i) = b at *
    have e2 : a - b + pz_mo (v n) 0 * (pz_mo 1 (n * (q + 1)) - L n) = a + pz_mo (v n) 0 * pz_mo 1 (n * (q + 1)) - (b + pz_mo (v n) 0 * L n) := by grind
    rw [e2] at h3
    exact h3
/-- the equations of the matrix say that w divides V^p - V -/
theorem bk_ker (K : PK q iR) {w : Pz q} {n : Nat} (hw : pz_s w = n + 1) {L : Nat → Pz q} (hL : ∀ i, i < n → pz_s (L i) ≤ n ∧ dv_d w (pz_mo 1 (i * (q + 1)) - L i)) {V : Pz q} (hV : pz_s V ≤ n) : dv_d w (V ^ (q + 1) - V) ↔ ga_k n (fun r c => pz_c (L c) r - if c = r then 1 else 0) (pz_c V) := by
  have h1 := bk_pw K (w := w) (L := L) (pz_c V) n (fun i hi => (hL i hi).2)
  rw [zs_mono K hV] at h1
  have hS : pz_s (zs_m n (fun i => pz_mo (pz_c V i) 0 * L i)) ≤ n := sz_le (fun k hk => by
    rw [pz_zs K]
    exact zs_zero (fun i hi => by rw [C_mul K, sz_ge (f := L i) (by have := (hL i hi).1; omega)]; exact Lean.Grind.Semiring.mul_zero _))
  have hrow : ∀ r, r < n → zs_m n (fun c => (pz_c (L c) r - if c = r then 1 else 0) * pz_c V c) = pz_c (zs_m n (fun i => pz_mo (pz_c V i) 0 * L i) - V) r := fun r hr => by
    rw [pz_sub K, pz_zs K]
    have e1 : pz_c V r = zs_m n (fun c => (if c = r then 1 else 0) * pz_c V c) := by
      rw [zs_one r hr (fun i _ hi => by rw [if_neg hi]; exact Lean.Grind.Semiring.zero_mul _), if_pos rfl]
      exact (Lean.Grind.Semiring.one_mul _).symm
    rw [e1, ← zs_sub]
    refine zs_congr (fun c hc => ?_)
    rw [C_mul K]
    generalize pz_c V c = x
    generalize pz_c (L c) r = y
    generalize (if c = r then (1 : Fin (q + 1)) else 0) = z
    rw [Lean.Grind.Ring.sub_eq_add_neg, Lean.Grind.Ring.sub_eq_add_neg, Lean.Grind.Semiring.right_distrib, Lean.Grind.Ring.neg_mul, Lean.Grind.CommSemiring.mul_comm x]
  constructor
  · intro h r hr
    have h2 : dv_d w (zs_m n (fun i => pz_mo (pz_c V i) 0 * L i) - V) := by
      have := dv_sub h h1
      generalize zs_m n (fun i => pz_mo (pz_c V i) 0 * L i) = S at *
      generalize V ^ (q + 1) = T at *
      have e : T - V - (T - S) = S - V := by grind
      rw [e] at this
      exact this
    have h3 := dv_small K h2 (by have := sz_sub K hS hV; omega)
    show zs_m n (fun c => (pz_c (L c) r - if c = r then 1 else 0) * pz_c V c) = 0
    rw [hrow r hr, h3, pz_zero K]
  · intro h
    have h3 : zs_m n (fun i => pz_mo (pz_c V i) 0 * L i) - V = 0 := pz_ext (fun r => by
      by_cases hr : r < n
      · rw [pz_zero K, ← hrow r hr]; exact h r hr
      · rw [pz_zero K]
        exact sz_ge (by have := sz_sub K hS hV; omega))
    have e : V ^ (q + 1) - V = (V ^ (q + 1) - zs_m n (fun i => pz_mo (pz_c V i) 0 * L i)) + (zs_m n (fun i => pz_mo (pz_c V i) 0 * L i) - V) := by grind
    rw [e, h3]
    exact dv_add h1 (dv_zero w)
/-- a basis of the polynomials V below w with w | V^p - V -/
def bk_B {q : Nat} [Lean.Grind.CommRing (Pz q)] (w : Pz q) (s : Nat) (B : Nat → Pz q) : Prop :=
  (∀ j, j < s → pz_s (B j) < pz_s w ∧ dv_d w (B j ^ (q + 1) - B j)) ∧
  (∀ V : Pz q, pz_s V < pz_s w → dv_d w (V ^ (q + 1) - V) → ∃ a : Nat → Fin (q + 1), V = zs_m s (fun j => pz_mo (a j) 0 * B j)) ∧
  (∀ j, j < s → ∃ k, j ≤ k ∧ pz_c (B j) k ≠ 0)
/-- the member of the basis that belongs to the free column c -/
def ga_b {q : Nat} (n : Nat) (M : Nat → Nat → Fin (q + 1)) (pr : Nat → Option Nat) (c k : Nat) : Fin (q + 1) :=
  if k = c then 1 else if k < n then (match pr k with | none => 0 | some r => - M r c) else 0
theorem gb_self {n : Nat} {M : Nat → Nat → Fin (q + 1)} {pr : Nat → Option Nat} (c : Nat) : ga_b n M pr c c = 1 := if_pos rfl
theorem gb_free {n : Nat} {M : Nat → Nat → Fin (q + 1)} {pr : Nat → Option Nat} {c k : Nat} (h : k ≠ c) (hp : pr k = none) : ga_b n M pr c k = 0 := by
  unfold ga_b
  rw [if_neg h, hp]
  split <;> rfl
theorem gb_piv {n : Nat} {M : Nat → Nat → Fin (q + 1)} {pr : Nat → Option Nat} {c k r : Nat} (h : k ≠ c) (hk : k < n) (hp : pr k = some r) : ga_b n M pr c k = - M r c := by
  unfold ga_b
  rw [if_neg h, hp, if_pos hk]
theorem gb_out {n : Nat} {M : Nat → Nat → Fin (q + 1)} {pr : Nat → Option Nat} {c k : Nat} (h : k ≠ c) (hk : ¬ k < n) : ga_b n M pr c k = 0 := by
  unfold ga_b
  rw [if_neg h, if_neg hk]
theorem ga_rows {A : Type} [Lean.Grind.CommRing A] {n row : Nat} {M : Nat → Nat → A} {pr : Nat → Option Nat} (h : ga_I n M row n pr) {r : Nat} (hr : r < n) : (∀ k, k < n → M r k = 0) ∨ ∃ k, k < n ∧ pr k = some r ∧ M r k = 1 ∧ ∀ k', k' < n → k' ≠ k → pr k' ≠ none → M r k' = 0 := by
  obtain ⟨h1, h2, h3, h4, h5, h6⟩ := h
  by_cases c : row ≤ r
  · refine Or.inl (fun k hk => ?_)
    cases e : pr k with
    | none => exact h3 k hk e r c hr
    | some r' =>
      obtain ⟨a, _, b⟩ := h4 k hk r' e
      exact b r hr (by omega)
  · obtain ⟨k, a, b, d⟩ := h5 r (by omega)
    refine Or.inr ⟨k, a, b, (h4 k a r b).2.1, fun k' hk' ne hp => ?_⟩
    cases e : pr k' with
    | none => exact absurd e hp
    | some r' =>
      refine (h4 k' hk' r' e).2.2 r hr (fun er => ne (d k' (by rw [e, er])))
theorem zs_two {A : Type} [Lean.Grind.CommRing A] {n : Nat} {f : Nat → A} (k l : Nat) (hk : k < n) (hl : l < n) (hkl : k ≠ l) (h : ∀ i, i < n → i ≠ k → i ≠ l → f i = 0) : zs_m n f = f k + f l := by
  have e : zs_m n f = zs_m n (fun i => (if i = k then f k else 0) + (if i = l then f l else 0)) := zs_congr (fun i hi => by
    by_cases a : i = k
    · rw [if_pos a, if_neg (by omega), a]; grind
    · by_cases b : i = l
      · rw [if_neg a, if_pos b, b]; grind
      · rw [if_neg a, if_neg b, h i hi a b]; grind)
  rw [e, zs_add, zs_one k hk (fun i _ hi => if_neg hi), zs_one l hl (fun i _ hi => if_neg hi), if_pos rfl, if_pos rfl]
theorem gb_ker {n row : Nat} {M : Nat → Nat → Fin (q + 1)} {pr : Nat → Option Nat} (h : ga_I n M row n pr) {c : Nat} (hc : c < n) (hp : pr c = none) : ga_k n M (ga_b n M pr c) := fun r hr => by
  rcases ga_rows h hr with z | ⟨k, hk, ek, e1, z⟩
  · exact zs_zero (fun i hi => by rw [z i hi]; exact Lean.Grind.Semiring.zero_mul _)
  · have kc : k ≠ c := fun e => by rw [e, hp] at ek; exact nomatch ek
    rw [zs_two k c hk hc kc (fun i hi ik ic => ?_), gb_self, gb_piv kc hk ek, e1, Lean.Grind.Semiring.one_mul, Lean.Grind.Semiring.mul_one]
    · exact Lean.Grind.Ring.neg_add_cancel _
    · by_cases e : pr i = none
      · rw [gb_free ic e]; exact Lean.Grind.Semiring.mul_zero _
      · rw [z i hi ik e]; exact Lean.Grind.Semiring.zero_mul _
/-- what the elimination leaves is a basis -/
theorem ga_fin (K : PK q iR) {w : Pz q} {n : Nat} (hw : pz_s w = n + 1) {L : Nat → Pz q} (hL : ∀ i, i < n → pz_s (L i) ≤ n ∧ dv_d w (pz_mo 1 (i * (q + 1)) - L i)) {M : Nat → Nat → Fin (q + 1)} {row : Nat} {pr : Nat → Option Nat} (hI : ga_I n M row n pr) (hk : ∀ v, ga_k n M v ↔ ga_k n (fun r c => pz_c (L c) r - if c = r then 1 else 0) v) {s : Nat} {fc : Nat → Nat} {B : Nat → Pz q} (hB : ∀ j, j < s → j ≤ fc j ∧ fc j < n ∧ pr (fc j) = none ∧ ∀ k, pz_c (B j) k = ga_b n M pr (fc j) k) (hE : ∀ g : Nat → Fin (q + 1), zs_m n (fun c => if pr c = none then g c else 0) = zs_m s (fun j => g (fc j))) : bk_B w s B := by
  have szB : ∀ j, j < s → pz_s (B j) ≤ n := fun j hj => sz_le (fun i hi => by
    obtain ⟨_, b, _, d⟩ := hB j hj
    rw [d, gb_out (by omega) (by omega)])
  refine ⟨fun j hj => ?_, fun V hV hd => ?_, fun j hj => ?_⟩
  · obtain ⟨_, b, c, d⟩ := hB j hj
    refine ⟨by have := szB j hj; omega, (bk_ker K hw hL (szB j hj)).mpr ((hk _).mp ?_)⟩
    have e : pz_c (B j) = ga_b n M pr (fc j) := funext d
    rw [e]
    exact gb_ker hI b c
  · have hv := (hk _).mpr ((bk_ker K hw hL (by omega)).mp hd)
    refine ⟨fun j => pz_c V (fc j), pz_ext (fun k => ?_)⟩
    rw [pz_zs K]
    have e0 : zs_m s (fun j => pz_c (pz_mo (pz_c V (fc j)) 0 * B j) k) = zs_m s (fun j => (fun c => pz_c V c * ga_b n M pr c k) (fc j)) := zs_congr (fun j hj => by
      rw [C_mul K, (hB j hj).2.2.2])
    rw [e0, ← hE (fun c => pz_c V c * ga_b n M pr c k)]
    by_cases hkn : k < n
    · cases e : pr k with
      | none =>
        rw [zs_one k hkn (fun i _ hi => ?_), if_pos e, gb_self]
        · exact (Lean.Grind.Semiring.mul_one _).symm
        · split
          · rw [gb_free (by omega) e]; exact Lean.Grind.Semiring.mul_zero _
          · rfl
      | some r =>
        have hr : r < n := by
          have := (hI.2.2.2.1 k hkn r e).1
          have := hI.1
          omega
        rcases ga_rows hI hr with z | ⟨k2, hk2, ek2, e1, z⟩
        · have := (hI.2.2.2.1 k hkn r e).2.1
          rw [z k hkn] at this
          exact absurd this.symm (fq_1 K)
        · have kk : k2 = k := by
            obtain ⟨k3, _, _, d⟩ := hI.2.2.2.2.1 r (hI.2.2.2.1 k hkn r e).1
            rw [d k e, d k2 ek2]
          subst kk
          have e2 : zs_m n (fun c => if pr c = none then pz_c V c * ga_b n M pr c k2 else 0) = zs_m n (fun c => (if c = k2 then pz_c V k2 else 0) - M r c * pz_c V c) := zs_congr (fun c hc => by
            by_cases ec : c = k2
            · rw [if_pos ec, ec, e1, if_neg (by rw [e]; exact fun z => nomatch z), Lean.Grind.Semiring.one_mul]
              exact (Lean.Grind.AddCommGroup.sub_self _).symm
            · rw [if_neg ec]
              by_cases ep : pr c = none
              · rw [if_pos ep, gb_piv (by omega) hkn e, Lean.Grind.Ring.mul_neg, Lean.Grind.CommSemiring.mul_comm, Lean.Grind.Ring.sub_eq_add_neg, Lean.Grind.AddCommMonoid.zero_add]
              · rw [if_neg ep, z c hc ec ep, Lean.Grind.Semiring.zero_mul]
                exact (Lean.Grind.AddCommGroup.sub_self _).symm)
          rw [e2, zs_sub, hv r hr, zs_one k2 hkn (fun i _ hi => if_neg hi), if_pos rfl, Lean.Grind.Ring.sub_eq_add_neg, Lean.Grind.AddCommGroup.neg_zero]
          exact (Lean.Grind.Semiring.add_zero _).symm
    · rw [sz_ge (by omega)]
      exact (zs_zero (fun c hc => by
        split
        · rw [gb_out (by omega) hkn]; exact Lean.Grind.Semiring.mul_zero _
        · rfl)).symm
  · obtain ⟨a, b, c, d⟩ := hB j hj
    exact ⟨fc j, a, by rw [d, gb_self]; exact fq_1 K⟩
end
end
section
/-! what a basis separates: irreducible means one member; refined parts are irreducible -/
section
variable {q : Nat} {iR : Lean.Grind.CommRing (Pz q)}
/-- without repeated factors -/
def sq_f {q : Nat} [Lean.Grind.CommRing (Pz q)] (w : Pz q) : Prop := ∀ f : Pz q, ir_r f → ¬ dv_d (f * f) w
theorem sq_dv {w v : Pz q} (h : sq_f w) (hd : dv_d v w) : sq_f v := fun f hf c => h f hf (dv_trans c hd)
theorem bk_crt (K : PK q iR) {w f g : Pz q} (w0 : w ≠ 0) (hw : sq_f w) (hf : ir_r f) (hg : ir_r g) (mf : mn_m f) (mg : mn_m g) (ne : f ≠ g) (df : dv_d f w) (dg : dv_d g w) : ∃ V : Pz q, pz_s V < pz_s w ∧ dv_d w (V ^ (q + 1) - V) ∧ dv_d f V ∧ dv_d g (V - 1) := by
  obtain ⟨u, hu⟩ := df
  have nu : ¬ dv_d f u := fun c => hw f hf (by
    rw [hu]; exact dv_mm (dv_refl f) c)
  obtain ⟨s, t, hst⟩ := ir_cp K hf nu
  have gu : dv_d g u := by
    rw [hu] at dg
    rcases ir_pr K hg dg with c | c
    · exact absurd (ir_eq K hg hf mg mf c).symm ne
    · exact c
  obtain ⟨Q, V, e, hV⟩ := dv_ex K w0 (s * f)
  have eV : V = s * f - w * Q := by rw [e]; grind
  have e1 : s * f = 1 - t * u := by rw [← hst]; grind
  have p1 : (1 : Pz q) ^ (q + 1) = 1 := Lean.Grind.Semiring.one_pow _
  have d1 : dv_d f ((s * f) ^ (q + 1) - s * f) := by
    rw [Lean.Grind.Semiring.pow_succ]
    exact dv_sub (dv_mulL _ (dv_r s f)) (dv_r s f)
  have d2 : dv_d u ((s * f) ^ (q + 1) - s * f) := by
    rw [e1, fr_sub K, p1]
    have e2 : 1 - (t * u) ^ (q + 1) - (1 - t * u) = t * u - (t * u) ^ (q + 1) := by grind
    rw [e2, Lean.Grind.Semiring.pow_succ]
    exact dv_sub (dv_r t u) (dv_mulL _ (dv_r t u))
  have d3 : dv_d w ((s * f) ^ (q + 1) - s * f) := by
    rw [hu]; exact dv_cp hst d1 d2
  refine ⟨V, hV, ?_, ?_, ?_⟩
  · rw [eV, fr_sub K]
    have e3 : (s * f) ^ (q + 1) - (w * Q) ^ (q + 1) - (s * f - w * Q) = ((s * f) ^ (q + 1) - s * f) - ((w * Q) ^ (q + 1) - w * Q) := by grind
    rw [e3]
    refine dv_sub d3 ?_
    rw [Lean.Grind.Semiring.pow_succ]
    exact dv_sub (dv_mulL _ (dv_l w Q)) (dv_l w Q)
  · rw [eV]
    exact dv_sub (dv_r s f) (dv_mulR Q ⟨u, hu⟩)
  · have e4 : V - 1 = - t * u - w * Q := by rw [eV, e1]; grind
    rw [e4]
    refine dv_sub (dv_mulL _ gu) (dv_mulR Q ?_)
    rw [hu]
    exact dv_mulL f gu
/-- not irreducible, without repeated factors: two different irreducible divisors -/
theorem sq_two (K : PK q iR) {w : Pz q} (h2 : 2 ≤ pz_s w) (hw : sq_f w) (n : ¬ ir_r w) : ∃ f g : Pz q, ir_r f ∧ ir_r g ∧ mn_m f ∧ mn_m g ∧ f ≠ g ∧ dv_d f w ∧ dv_d g w := by
  have ⟨a, b, e, ha, hb⟩ : ∃ a b : Pz q, w = a * b ∧ ¬ pz_s a = 1 ∧ ¬ pz_s b = 1 := Classical.byContradiction (fun z => n ⟨h2, fun a b e => by
    by_cases ha : pz_s a = 1
    · exact Or.inl ha
    · exact Or.inr (Classical.byContradiction (fun hb => z ⟨a, b, e, ha, hb⟩))⟩)
  have h3 := nz_of_mul K (f := a) (g := b) (by rw [← e]; exact sz_ne K (by omega))
  have h4 := sz_mulN K h3.1 h3.2
  obtain ⟨f, hf, mf, df⟩ := ir_ex K (f := a) (by omega)
  obtain ⟨g, hg, mg, dg⟩ := ir_ex K (f := b) (by omega)
  refine ⟨f, g, hf, hg, mf, mg, fun c => ?_, ?_, ?_⟩
  · subst c
    exact hw f hf (by rw [e]; exact dv_mm df dg)
  · rw [e]; exact dv_mulR b df
  · rw [e]; exact dv_mulL a dg
theorem C_dv (K : PK q iR) {f : Pz q} (hf : ir_r f) {c : Fin (q + 1)} (h : dv_d f (pz_mo c 0)) : c = 0 := Classical.byContradiction (fun n =>
  ir_nc K hf (sz_ne K (by rw [sz_mo n]; omega)) (sz_mo_le c 0) h)
theorem bk_one (K : PK q iR) {w : Pz q} {s : Nat} {B : Nat → Pz q} (h2 : 2 ≤ pz_s w) (hw : sq_f w) (hB : bk_B w s B) : s = 1 ↔ ir_r w := by
  have w0 : w ≠ 0 := sz_ne K (by omega)
  obtain ⟨b1, b2, b3⟩ := hB
  have k1 : dv_d w ((1 : Pz q) ^ (q + 1) - 1) := by
    rw [Lean.Grind.Semiring.one_pow]
    have e : (1 : Pz q) - 1 = 0 := by grind
    rw [e]; exact dv_zero w
  have s1 := sz_1 K
  constructor
  · intro es
    subst es
    refine Classical.byContradiction (fun n => ?_)
    obtain ⟨f, g, hf, hg, mf, mg, ne, df, dg⟩ := sq_two K h2 hw n
    obtain ⟨V, hV, dV, fV, gV⟩ := bk_crt K w0 hw hf hg mf mg ne df dg
    obtain ⟨a, ha⟩ := b2 1 (by omega) k1
    obtain ⟨a', ha'⟩ := b2 V hV dV
    have e1 : (1 : Pz q) = pz_mo (a 0) 0 * B 0 := by
      rw [ha]; show 0 + _ = _; grind
    have e2 : V = pz_mo (a' 0) 0 * B 0 := by
      rw [ha']; show 0 + _ = _; grind
    have e3 : B 0 * pz_mo (a 0) 0 = 1 := by rw [e1]; grind
    have sB := un_sz K e3
    have sV : pz_s V ≤ 1 := by
      rw [e2]
      exact sz_mul_le K (a := 0) (b := 0) (sz_mo_le _ _) (by omega)
    have eV := sz_const sV
    rw [eV] at fV
    have c0 := C_dv K hf fV
    rw [eV, c0, mo_zero K] at gV
    refine ir_n1 K hg ?_
    have e4 : (1 : Pz q) = 0 - (0 - 1) := by grind
    rw [e4]
    exact dv_sub (dv_zero g) gV
  · intro hi
    have hc : ∀ j, j < s → pz_s (B j) ≤ 1 := fun j hj => by
      obtain ⟨c, hc⟩ := fr_root K hi (b1 j hj).2
      have z : B j - pz_mo c 0 = 0 := dv_small K hc (by
        have := sz_sub K (f := B j) (g := pz_mo c 0) (n := pz_s w - 1) (by have := (b1 j hj).1; omega) (by have := sz_mo_le (q := q) c 0; omega)
        omega)
      have e : B j = pz_mo c 0 := by grind
      rw [e]; exact sz_mo_le c 0
    have u1 : s ≤ 1 := Nat.le_of_not_lt (fun c => by
      obtain ⟨k, hk, nk⟩ := b3 1 c
      have := sz_lt nk
      have := hc 1 c
      omega)
    have u0 : s ≠ 0 := fun c => by
      subst c
      obtain ⟨a, ha⟩ := b2 1 (by omega) k1
      have : (1 : Pz q) = 0 := ha
      rw [this, sz_0 K] at s1
      omega
    omega
theorem bk_lin (K : PK q iR) {f g : Pz q} {B : Nat → Pz q} (a : Nat → Fin (q + 1)) : ∀ s : Nat, (∀ j, j < s → ∃ c : Fin (q + 1), dv_d f (B j - pz_mo c 0) ∧ dv_d g (B j - pz_mo c 0)) → ∃ c : Fin (q + 1), dv_d f (zs_m s (fun j => pz_mo (a j) 0 * B j) - pz_mo c 0) ∧ dv_d g (zs_m s (fun j => pz_mo (a j) 0 * B j) - pz_mo c 0) := by
  intro s
  induction s with
  | zero =>
    intro _
    refine ⟨0, ?_, ?_⟩
    · rw [mo_zero K]
      have e : (zs_m 0 (fun j => pz_mo (a j) 0 * B j) : Pz q) - 0 = 0 := by show (0 : Pz q) - 0 = 0; grind
      rw [e]; exact dv_zero f
    · rw [mo_zero K]
      have e : (zs_m 0 (fun j => pz_mo (a j) 0 * B j) : Pz q) - 0 = 0 := by show (0 : Pz q) - 0 = 0; grind
      rw [e]; exact dv_zero g
  | succ s ih =>
    intro h
    obtain ⟨c, h1, h2⟩ := ih (fun j hj => h j (by omega))
    obtain ⟨d, h3, h4⟩ := h s (by omega)
    refine ⟨c + a s * d, ?_⟩
    have e : zs_m (s + 1) (fun j => pz_mo (a j) 0 * B j) - pz_mo (c + a s * d) 0 = (zs_m s (fun j => pz_mo (a j) 0 * B j) - pz_mo c 0) + pz_mo (a s) 0 * (B s - pz_mo d 0) := by
      rw [zs_m, mo_add K, show (pz_mo (a s * d) 0 : Pz q) = pz_mo (a s) 0 * pz_mo d 0 from (mo_mo K (a s) d 0 0).symm]; grind
    rw [e]
    exact ⟨dv_add h1 (dv_mulL _ h3), dv_add h2 (dv_mulL _ h4)⟩
/-- a part that no member of the basis divides further is irreducible -/
theorem bk_split (K : PK q iR) {w P : Pz q} {s : Nat} {B : Nat → Pz q} (w0 : w ≠ 0) (hw : sq_f w) (hB : bk_B w s B) (hP : dv_d P w) (h2 : 2 ≤ pz_s P) (hS : ∀ j, j < s → ∀ c : Fin (q + 1), ∀ f : Pz q, ir_r f → dv_d f P → dv_d f (B j - pz_mo c 0) → dv_d P (B j - pz_mo c 0)) : ir_r P := by
  refine Classical.byContradiction (fun n => ?_)
  obtain ⟨f, g, hf, hg, mf, mg, ne, df, dg⟩ := sq_two K h2 (sq_dv hw hP) n
  obtain ⟨V, hV, dV, fV, gV⟩ := bk_crt K w0 hw hf hg mf mg ne (dv_trans df hP) (dv_trans dg hP)
  obtain ⟨b1, b2, b3⟩ := hB
  obtain ⟨a, ha⟩ := b2 V hV dV
  obtain ⟨c, h3, h4⟩ := bk_lin K (f := f) (g := g) (B := B) a s (fun j hj => by
    obtain ⟨c, hc⟩ := fr_root K hf (dv_trans (dv_trans df hP) (b1 j hj).2)
    have := hS j hj c f hf df hc
    exact ⟨c, hc, dv_trans dg this⟩)
  rw [← ha] at h3 h4
  have e1 : (pz_mo c 0 : Pz q) = V - (V - pz_mo c 0) := by grind
  have c0 : c = 0 := C_dv K hf (by rw [e1]; exact dv_sub fV h3)
  rw [c0, mo_zero K] at h4
  refine ir_n1 K hg ?_
  have e2 : (1 : Pz q) = (V - 0) - (V - 1) := by grind
  rw [e2]
  exact dv_sub h4 gV
end
end
section
/-! codes: the digits to the base p are the coefficients; lists of factors -/
def ce_d {q : Nat} (c : Nat) : Pz q := po_mk c (fun i => fq_v (c / (q + 1) ^ i))
def ce_v {q : Nat} (f : Pz q) : Nat → Nat
  | 0 => 0
  | n + 1 => ce_v f n + (pz_c f n).val * (q + 1) ^ n
noncomputable def ce_e {q : Nat} (f : Pz q) : Nat := ce_v f (pz_s f)
theorem dg_eq1 {p : Nat} (hp : 2 ≤ p) : ∀ (n a b : Nat), a + b ≤ n → (∀ i, a / p ^ i % p = b / p ^ i % p) → a = b := by
  intro n
  induction n with
  | zero => intro a b h _; omega
  | succ n ih =>
    intro a b h hd
    by_cases z : a + b = 0
    · omega
    · have h0 := hd 0
      rw [Nat.pow_zero, Nat.div_one, Nat.div_one] at h0
      have l1 : ∀ x, x ≠ 0 → x / p < x := fun x hx => Nat.div_lt_self (by omega) (by omega)
      have l2 : ∀ x, x / p ≤ x := fun x => Nat.div_le_self x p
      have lt : a / p + b / p ≤ n := by
        have := l2 a
        have := l2 b
        by_cases za : a = 0
        · have := l1 b (by omega); omega
        · have := l1 a za; omega
      have e := ih (a / p) (b / p) lt (fun i => by
        have := hd (i + 1)
        rw [Nat.pow_succ, Nat.mul_comm, ← Nat.div_div_eq_div_mul, ← Nat.div_div_eq_div_mul] at this
        exact this)
      have d1 := Nat.div_add_mod a p
      have d2 := Nat.div_add_mod b p
      rw [e, h0] at d1
      omega
theorem dg_eq {p : Nat} (hp : 2 ≤ p) {a b : Nat} (h : ∀ i, a / p ^ i % p = b / p ^ i % p) : a = b := dg_eq1 hp _ a b (Nat.le_refl _) h
theorem dg_st {p C k : Nat} : C / p ^ k = C / p ^ (k + 1) * p + C / p ^ k % p := by
  rw [Nat.pow_succ, ← Nat.div_div_eq_div_mul]
  have := Nat.div_add_mod (C / p ^ k) p
  rw [Nat.mul_comm] at this
  omega
section
variable {q : Nat} {iR : Lean.Grind.CommRing (Pz q)}
theorem ce_dc (K : PK q iR) (c i : Nat) : pz_c (ce_d c : Pz q) i = fq_v (c / (q + 1) ^ i) := by
  show (if i < c then fq_v (c / (q + 1) ^ i) else 0) = _
  by_cases h : i < c
  · rw [if_pos h]
  · rw [if_neg h, Nat.div_eq_of_lt]
    · rfl
    · have h2 : 2 ≤ q + 1 := by have := K.2; omega
      exact Nat.lt_of_le_of_lt (Nat.le_of_not_lt h) (Nat.lt_pow_self h2)
theorem ce_vlt (f : Pz q) (n : Nat) : ce_v f n < (q + 1) ^ n := by
  induction n with
  | zero => show 0 < 1; omega
  | succ n ih =>
    rw [ce_v, Nat.pow_succ]
    have h := (pz_c f n).isLt
    have h1 : (pz_c f n).val * (q + 1) ^ n ≤ q * (q + 1) ^ n := Nat.mul_le_mul_right _ (by omega)
    have h2 : (q + 1) ^ n * (q + 1) = q * (q + 1) ^ n + (q + 1) ^ n := by rw [Nat.mul_comm, Nat.succ_mul]
    omega
theorem ce_vext {f : Pz q} (m : Nat) : ce_v f (pz_s f + m) = ce_e f := by
  induction m with
  | zero => rfl
  | succ m ih =>
    rw [← Nat.add_assoc, ce_v, ih, sz_ge (by omega)]
    show ce_e f + 0 * _ = _
    rw [Nat.zero_mul]; rfl
theorem ce_ve {f : Pz q} {n : Nat} (h : pz_s f ≤ n) : ce_v f n = ce_e f := by
  obtain ⟨m, rfl⟩ : ∃ m, n = pz_s f + m := ⟨n - pz_s f, by omega⟩
  exact ce_vext m
theorem ce_lt (f : Pz q) {n : Nat} (h : pz_s f ≤ n) : ce_e f < (q + 1) ^ n := by
  rw [← ce_ve h]; exact ce_vlt f n
theorem ce_vdg (f : Pz q) : ∀ (n i : Nat), i < n → ce_v f n / (q + 1) ^ i % (q + 1) = (pz_c f i).val := by
  intro n
  induction n with
  | zero => intro i h; omega
  | succ n ih =>
    intro i h
    rw [ce_v]
    by_cases e : i = n
    · subst e
      rw [Nat.add_mul_div_right _ _ (Nat.pow_pos (by omega)), Nat.div_eq_of_lt (ce_vlt f i), Nat.zero_add]
      exact Nat.mod_eq_of_lt (pz_c f i).isLt
    · obtain ⟨j, rfl⟩ : ∃ j, n = i + 1 + j := ⟨n - i - 1, by omega⟩
      have e2 : (pz_c f (i + 1 + j)).val * (q + 1) ^ (i + 1 + j) = (pz_c f (i + 1 + j)).val * (q + 1) ^ j * (q + 1) * (q + 1) ^ i := by
        rw [Nat.pow_add, Nat.pow_succ]; ac_rfl
      rw [e2, Nat.add_mul_div_right _ _ (Nat.pow_pos (by omega)), Nat.add_mul_mod_self_right]
      exact ih i (by omega)
theorem ce_dg (f : Pz q) (i : Nat) : ce_e f / (q + 1) ^ i % (q + 1) = (pz_c f i).val := by
  rw [← ce_ve (f := f) (n := pz_s f + i + 1) (by omega)]
  exact ce_vdg f _ i (by omega)
theorem ce_de (K : PK q iR) (f : Pz q) : ce_d (ce_e f) = f := pz_ext (fun i => by
  rw [ce_dc K]
  exact Fin.ext (ce_dg f i))
theorem k_2 (K : PK q iR) : 2 ≤ q + 1 := by have := K.2; omega
theorem ce_ed (K : PK q iR) (c : Nat) : ce_e (ce_d c : Pz q) = c := dg_eq (k_2 K) (fun i => by
  rw [ce_dg, ce_dc K]; rfl)
theorem ce_inj (K : PK q iR) {f g : Pz q} (h : ce_e f = ce_e g) : f = g := by
  rw [← ce_de K f, h, ce_de K]
theorem ce_sz (K : PK q iR) {f : Pz q} {n : Nat} : ce_e f < (q + 1) ^ n ↔ pz_s f ≤ n := by
  constructor
  · intro h
    rw [← ce_de K f]
    refine sz_le (fun i hi => ?_)
    rw [ce_dc K, Nat.div_eq_of_lt (Nat.lt_of_lt_of_le h (Nat.pow_le_pow_right (by omega) hi))]
    rfl
  · exact ce_lt f
theorem ce_dsz (K : PK q iR) {c n : Nat} : c < (q + 1) ^ n ↔ pz_s (ce_d c : Pz q) ≤ n := by
  rw [← ce_sz K, ce_ed K]
theorem ce_0 (K : PK q iR) {f : Pz q} : ce_e f = 0 ↔ pz_s f = 0 := by
  have := ce_sz K (f := f) (n := 0)
  rw [Nat.pow_zero] at this
  omega
theorem ce_z (K : PK q iR) : ce_e (0 : Pz q) = 0 := (ce_0 K).mpr (sz_0 K)
theorem ce_top (K : PK q iR) {f : Pz q} {n : Nat} (h : pz_s f ≤ n + 1) : ce_e f / (q + 1) ^ n = (pz_c f n).val := by
  rw [← ce_dg f n]
  refine (Nat.mod_eq_of_lt ?_).symm
  rw [Nat.div_lt_iff_lt_mul (Nat.pow_pos (by omega)), Nat.mul_comm, ← Nat.pow_succ]
  exact ce_lt f h
theorem ce_mn (K : PK q iR) {f : Pz q} {n : Nat} : (pz_s f = n + 1 ∧ mn_m f) ↔ ((q + 1) ^ n ≤ ce_e f ∧ ce_e f < 2 * (q + 1) ^ n) := by
  have p0 : 0 < (q + 1) ^ n := Nat.pow_pos (by omega)
  have q2 : 2 * (q + 1) ^ n ≤ (q + 1) ^ (n + 1) := by
    rw [Nat.pow_succ, Nat.mul_comm]
    exact Nat.mul_le_mul_left _ (k_2 K)
  constructor
  · rintro ⟨h1, h2⟩
    unfold mn_m at h2
    rw [h1, Nat.add_sub_cancel] at h2
    have h3 := ce_top K (Nat.le_of_eq h1)
    have e1 : ((1 : Fin (q + 1)).val) = 1 := by
      show 1 % (q + 1) = 1
      exact Nat.mod_eq_of_lt (k_2 K)
    rw [h2, e1] at h3
    have h4 := Nat.div_add_mod (ce_e f) ((q + 1) ^ n)
    have h5 := Nat.mod_lt (ce_e f) p0
    rw [h3, Nat.mul_one] at h4
    generalize (q + 1) ^ n = N at *
    generalize ce_e f % N = r at *
    omega
  · rintro ⟨h1, h2⟩
    have s1 : pz_s f ≤ n + 1 := (ce_sz K).mp (by omega)
    have s2 : ¬ pz_s f ≤ n := fun c => by
      have := ce_lt f c
      omega
    have s3 : pz_s f = n + 1 := by omega
    refine ⟨s3, mn_of s3 ?_⟩
    have h3 := ce_top K s1
    have h4 : ce_e f / (q + 1) ^ n = 1 := Nat.div_eq_of_lt_le (by omega) (by omega)
    rw [h4] at h3
    refine Fin.ext ?_
    rw [← h3]
    exact (Nat.mod_eq_of_lt (k_2 K)).symm
theorem ce_ord (K : PK q iR) {f g : Pz q} (h : pz_s f < pz_s g) : ce_e f < ce_e g := by
  refine Nat.lt_of_not_le (fun c => ?_)
  have h1 := ce_lt f (n := pz_s g - 1) (by omega)
  have h2 := (ce_sz K (f := g) (n := pz_s g - 1)).mp (by omega)
  omega
/-! products, and the factors of F by rising codes -/
def zp_m {R : Type} [Lean.Grind.CommRing R] : Nat → (Nat → R) → R
  | 0, _ => 1
  | n + 1, f => zp_m n f * f n
theorem zp_congr {R : Type} [Lean.Grind.CommRing R] {n : Nat} {f g : Nat → R} (h : ∀ i, i < n → f i = g i) : zp_m n f = zp_m n g := by
  induction n with
  | zero => rfl
  | succ n ih => rw [zp_m, zp_m, ih (fun i hi => h i (by omega)), h n (by omega)]
theorem zp_dv {R : Type} [Lean.Grind.CommRing R] {n : Nat} {f : Nat → R} {k : Nat} (h : k < n) : dv_d (f k) (zp_m n f) := by
  induction n with
  | zero => omega
  | succ n ih =>
    rw [zp_m]
    by_cases e : k = n
    · subst e; exact dv_r _ _
    · exact dv_mulR _ (ih (by omega))
theorem zp_pr (K : PK q iR) {f : Pz q} (hf : ir_r f) {g : Nat → Pz q} : ∀ n, dv_d f (zp_m n g) → ∃ i, i < n ∧ dv_d f (g i) := by
  intro n
  induction n with
  | zero => intro h; exact absurd h (ir_n1 K hf)
  | succ n ih =>
    intro h
    rw [zp_m] at h
    rcases ir_pr K hf h with h | h
    · obtain ⟨i, a, b⟩ := ih h
      exact ⟨i, by omega, b⟩
    · exact ⟨n, by omega, h⟩
theorem zp_mn (K : PK q iR) {g : Nat → Pz q} {n : Nat} (h : ∀ i, i < n → mn_m (g i)) : mn_m (zp_m n g) := by
  induction n with
  | zero => exact mn_1 K
  | succ n ih => exact mn_mul K (ih (fun i hi => h i (by omega))) (h n (by omega))
def fl_F {q : Nat} [Lean.Grind.CommRing (Pz q)] (F : Pz q) (n : Nat) (c t : Nat → Nat) : Prop :=
  (∀ i j, i < j → j < n → c i < c j) ∧
  (∀ i, i < n → ir_r (ce_d (c i) : Pz q) ∧ mn_m (ce_d (c i) : Pz q) ∧ ml_m (ce_d (c i)) F (t i) ∧ 0 < t i) ∧
  (∀ f : Pz q, ir_r f → mn_m f → dv_d f F → ∃ i, i < n ∧ c i = ce_e f)
theorem fl_sub (K : PK q iR) {F : Pz q} {n n' : Nat} {c t c' t' : Nat → Nat} (h : fl_F F n c t) (h' : fl_F F n' c' t') : ∀ m i, i ≤ m → i < n → i < n' ∧ c i = c' i := by
  have m1 : ∀ {n n' : Nat} {c t c' t' : Nat → Nat}, fl_F F n c t → fl_F F n' c' t' → ∀ i, i < n → ∃ j, j < n' ∧ c' j = c i := fun {n n' c t c' t'} h h' i hi => by
    obtain ⟨a, b, d, e⟩ := h.2.1 i hi
    obtain ⟨j, hj, ej⟩ := h'.2.2 _ a b ((ml_0' K a d).mpr e)
    exact ⟨j, hj, by rw [ej, ce_ed K]⟩
  intro m
  induction m with
  | zero =>
    intro i hi hn
    have e : i = 0 := by omega
    subst e
    obtain ⟨j, hj, ej⟩ := m1 h h' 0 hn
    have h0 : 0 < n' := by omega
    refine ⟨h0, ?_⟩
    obtain ⟨k, hk, ek⟩ := m1 h' h 0 h0
    have l1 : c 0 ≤ c k := by
      by_cases z : k = 0
      · rw [z]; exact Nat.le_refl _
      · exact Nat.le_of_lt (h.1 0 k (by omega) hk)
    have l2 : c' 0 ≤ c' j := by
      by_cases z : j = 0
      · rw [z]; exact Nat.le_refl _
      · exact Nat.le_of_lt (h'.1 0 j (by omega) hj)
    omega
  | succ m ih =>
    intro i hi hn
    by_cases c0 : i ≤ m
    · exact ih i c0 hn
    · have pre : ∀ k, k < i → k < n' ∧ c k = c' k := fun k hk => ih k (by omega) (by omega)
      obtain ⟨j, hj, ej⟩ := m1 h h' i hn
      have ji : i ≤ j := Nat.le_of_not_lt (fun z => by
        have a := (pre j z).2
        have b := h.1 j i z hn
        omega)
      have hi' : i < n' := by omega
      refine ⟨hi', ?_⟩
      obtain ⟨k, hk, ek⟩ := m1 h' h i hi'
      have ki : i ≤ k := Nat.le_of_not_lt (fun z => by
        have a := (pre k z).2
        have b := h'.1 k i z hi'
        omega)
      have l1 : c i ≤ c k := by
        by_cases z : k = i
        · rw [z]; exact Nat.le_refl _
        · exact Nat.le_of_lt (h.1 i k (by omega) hk)
      have l2 : c' i ≤ c' j := by
        by_cases z : j = i
        · rw [z]; exact Nat.le_refl _
        · exact Nat.le_of_lt (h'.1 i j (by omega) hj)
      omega
theorem fl_un (K : PK q iR) {F : Pz q} {n n' : Nat} {c t c' t' : Nat → Nat} (h : fl_F F n c t) (h' : fl_F F n' c' t') : n = n' ∧ ∀ i, i < n → c i = c' i ∧ t i = t' i := by
  have a : n ≤ n' := Nat.le_of_not_lt (fun z => by
    have := (fl_sub K h h' n' n' (Nat.le_refl _) z).1
    omega)
  have b : n' ≤ n := Nat.le_of_not_lt (fun z => by
    have := (fl_sub K h' h n n (Nat.le_refl _) z).1
    omega)
  refine ⟨by omega, fun i hi => ?_⟩
  have e := (fl_sub K h h' i i (Nat.le_refl _) hi).2
  refine ⟨e, ?_⟩
  obtain ⟨h1, _, h2, _⟩ := h.2.1 i hi
  obtain ⟨_, _, h3, _⟩ := h'.2.1 i (by omega)
  rw [← e] at h3
  exact ml_un K h1 h2 h3
theorem fl_prod (K : PK q iR) {F : Pz q} {n : Nat} {c t : Nat → Nat} (h : fl_F F n c t) : ∀ k, k ≤ n → dv_d (zp_m k (fun i => (ce_d (c i) : Pz q))) F := by
  intro k
  induction k with
  | zero => intro _; exact dv_one F
  | succ k ih =>
    intro hk
    obtain ⟨u, hu⟩ := ih (by omega)
    obtain ⟨h1, h2, h3, h4⟩ := h.2.1 k (by omega)
    have d := (ml_0' K h1 h3).mpr h4
    rw [hu] at d
    rcases ir_pr K h1 d with d | d
    · obtain ⟨i, hi, di⟩ := zp_pr K h1 k d
      obtain ⟨g1, g2, _, _⟩ := h.2.1 i (by omega)
      have e := ir_eq K h1 g1 h2 g2 di
      have e2 := congrArg ce_e e
      rw [ce_ed K, ce_ed K] at e2
      have := h.1 i k hi (by omega)
      omega
    · rw [hu, zp_m]
      exact dv_mm (dv_refl _) d
theorem fl_ir (K : PK q iR) {F : Pz q} {n : Nat} {c t : Nat → Nat} (h2 : 2 ≤ pz_s F) (mF : mn_m F) (h : fl_F F n c t) : (n = 1 ∧ t 0 = 1) ↔ ir_r F := by
  constructor
  · rintro ⟨rfl, ht⟩
    obtain ⟨h1, h3, h4, _⟩ := h.2.1 0 (by omega)
    rw [ht] at h4
    obtain ⟨u, hu, nu⟩ := h4
    rw [Lean.Grind.Semiring.pow_one] at hu
    have nz := nz_of_mul K (f := (ce_d (c 0) : Pz q)) (g := u) (by rw [← hu]; exact mn_nz K mF)
    have hs := sz_mulN K nz.1 nz.2
    rw [← hu] at hs
    have su : pz_s u ≤ 1 := Nat.le_of_not_lt (fun z => by
      obtain ⟨g, hg, mg, dg⟩ := ir_ex K z
      obtain ⟨i, hi, ei⟩ := h.2.2 g hg mg (by rw [hu]; exact dv_mulL _ dg)
      have e0 : i = 0 := by omega
      rw [e0] at ei
      have : (ce_d (c 0) : Pz q) = g := by rw [ei, ce_de K]
      rw [this] at nu
      exact nu dg)
    exact ir_as K h1 ⟨u, hu⟩ (dv_as K (mn_nz K mF) ⟨u, hu⟩ (by omega))
  · intro hi
    have all : ∀ j, j < n → c j = ce_e F := fun j hj => by
      obtain ⟨h1, h3, h4, h5⟩ := h.2.1 j hj
      rw [← ir_eq K h1 hi h3 mF ((ml_0' K h1 h4).mpr h5), ce_ed K]
    obtain ⟨i, hin, _⟩ := h.2.2 F hi mF (dv_refl F)
    have n1 : n = 1 := by
      have : n ≤ 1 := Nat.le_of_not_lt (fun z => by
        have a := h.1 0 1 (by omega) z
        rw [all 0 (by omega), all 1 z] at a
        omega)
      omega
    refine ⟨n1, ?_⟩
    obtain ⟨h1, h3, h4, h5⟩ := h.2.1 0 (by omega)
    rw [all 0 (by omega), ce_de K] at h4
    exact ml_un K hi h4 (ml_self K hi)
end
end
section
/-! lines of nine coefficients in an array; numbers going down to -1 -/
def pz_w {q : Nat} (f : Pz q) (i : Nat) (c : Fin (q + 1)) : Pz q := ⟨fun j => if j = i then c else f.1 j, by
  obtain ⟨n, hn⟩ := f.2
  exact ⟨n + i + 1, fun j hj => (if_neg (by omega)).trans (hn j (by omega))⟩⟩
/-- the first i coefficients of F, the others of G -/
def pz_x {q : Nat} (i : Nat) (F G : Pz q) : Pz q := ⟨fun j => if j < i then F.1 j else G.1 j, by
  obtain ⟨n, hn⟩ := G.2
  exact ⟨n + i, fun j hj => (if_neg (by omega)).trans (hn j (by omega))⟩⟩
def VC {q : Nat} (m : Nat → Pz q) (a : Nat → Int32) : Prop := ∀ l, l < 16 → pz_s (m l) ≤ 9 ∧ ∀ i, i < 9 → a (9 * l + i) = nI (pz_c (m l) i).val
def dn (k : Nat) : Int32 := nI k + (-1)
theorem dn_s (k : Nat) : dn (k + 1) = nI k := pk_m1 k
theorem dn_0 : dn 0 = -1 := by decide
theorem dn_neg {k : Nat} (h : k < 2 ^ 31) : dn k < 0 ↔ k = 0 := by
  cases k with
  | zero => exact ⟨fun _ => rfl, fun _ => by decide⟩
  | succ k =>
    rw [dn_s]
    exact ⟨fun c => absurd c (nI_pos (by omega)), fun c => by omega⟩
theorem dn_pos {k : Nat} (h : k < 2 ^ 31) : 0 ≤ dn k ↔ 1 ≤ k := by
  have := dn_neg h
  have e : 0 ≤ dn k ↔ ¬ dn k < 0 := Int32.not_lt.symm
  rw [e, this]
  omega
theorem dn_le0 {k : Nat} (h : k < 2 ^ 31) : dn k ≤ 0 ↔ k ≤ 1 := by
  cases k with
  | zero => exact ⟨fun _ => by omega, fun _ => by decide⟩
  | succ k =>
    rw [dn_s, ← nI_0, nI_leI (by omega) (by omega)]
    omega
theorem dn_eq0 {k : Nat} (h : k < 2 ^ 31) : dn k = 0 ↔ k = 1 := by
  cases k with
  | zero => exact ⟨fun c => absurd c (by decide), fun c => by omega⟩
  | succ k =>
    rw [dn_s, ← nI_0, nI_eq (by omega) (by omega)]
    omega
theorem dn_lt {a b : Nat} (ha : a < 2 ^ 31) (hb : b < 2 ^ 31) : dn a < dn b ↔ a < b := by
  cases a with
  | zero =>
    cases b with
    | zero => exact ⟨fun c => absurd c (by decide), fun c => by omega⟩
    | succ b =>
      refine ⟨fun _ => by omega, fun _ => ?_⟩
      rw [dn_s]
      have h1 : dn 0 < 0 := by decide
      have h2 : (0 : Int32) ≤ nI b := nI_pos' (by omega)
      exact Int32.lt_of_lt_of_le h1 h2
  | succ a =>
    cases b with
    | zero =>
      refine ⟨fun c => ?_, fun c => by omega⟩
      rw [dn_s] at c
      have h1 : dn 0 < 0 := by decide
      have h2 : (0 : Int32) ≤ nI a := nI_pos' (by omega)
      exact absurd (Int32.lt_trans c h1) (Int32.not_lt.mpr h2)
    | succ b =>
      rw [dn_s, dn_s, nI_ltI (by omega) (by omega)]
      omega
theorem dn_le {a b : Nat} (ha : a < 2 ^ 31) (hb : b < 2 ^ 31) : dn a ≤ dn b ↔ a ≤ b := by
  rw [← Int32.not_lt, dn_lt hb ha]
  omega
theorem ix_9 (l i : Nat) : (9 : Int32) * nI l + nI i = nI (9 * l + i) := by
  rw [show (9 : Int32) = nI 9 from rfl, pk_mul, nI_add]
theorem cl_9 {l i : Nat} (h : 9 * l + i < 2 ^ 31) : ((9 : Int32) * nI l + nI i).toNatClampNeg = 9 * l + i := by
  rw [ix_9, nI_clamp h]
theorem ix_8 (l i : Nat) : (8 : Int32) * nI l + nI i = nI (8 * l + i) := by
  rw [show (8 : Int32) = nI 8 from rfl, pk_mul, nI_add]
theorem cl_8 {l i : Nat} (h : 8 * l + i < 2 ^ 31) : ((8 : Int32) * nI l + nI i).toNatClampNeg = 8 * l + i := by
  rw [ix_8, nI_clamp h]
section
variable {q : Nat} {iR : Lean.Grind.CommRing (Pz q)}
theorem w_c (f : Pz q) (i : Nat) (c : Fin (q + 1)) (j : Nat) : pz_c (pz_w f i c) j = if j = i then c else pz_c f j := rfl
theorem x_c (i : Nat) (F G : Pz q) (j : Nat) : pz_c (pz_x i F G) j = if j < i then pz_c F j else pz_c G j := rfl
theorem x_0 (F G : Pz q) : pz_x 0 F G = G := pz_ext (fun j => by rw [x_c, if_neg (by omega)])
theorem x_9 {F G : Pz q} {n : Nat} (hF : pz_s F ≤ n) (hG : pz_s G ≤ n) : pz_x n F G = F := pz_ext (fun j => by
  rw [x_c]
  by_cases h : j < n
  · rw [if_pos h]
  · rw [if_neg h, sz_ge (by omega), sz_ge (by omega)])
theorem x_up (i : Nat) (F G : Pz q) : pz_w (pz_x i F G) i (pz_c F i) = pz_x (i + 1) F G := pz_ext (fun j => by
  rw [w_c, x_c, x_c]
  by_cases h : j = i
  · rw [if_pos h, if_pos (by omega), h]
  · rw [if_neg h]
    by_cases h2 : j < i
    · rw [if_pos h2, if_pos (by omega)]
    · rw [if_neg h2, if_neg (by omega)])
theorem x_dn (i : Nat) (F G : Pz q) : pz_w (pz_x (i + 1) G F) i (pz_c F i) = pz_x i G F := pz_ext (fun j => by
  rw [w_c, x_c, x_c]
  by_cases h : j = i
  · rw [if_pos h, if_neg (by omega), h]
  · rw [if_neg h]
    by_cases h2 : j < i
    · rw [if_pos h2, if_pos (by omega)]
    · rw [if_neg h2, if_neg (by omega)])
theorem vc_s {m : Nat → Pz q} {a : Nat → Int32} (V : VC m a) {l : Nat} (hl : l < 16) : pz_s (m l) ≤ 9 := (V l hl).1
theorem vc_rd {m : Nat → Pz q} {a : Nat → Int32} (V : VC m a) {l i : Nat} (hl : l < 16) (hi : i < 9) : a ((9 : Int32) * nI l + nI i).toNatClampNeg = nI (pz_c (m l) i).val := by
  rw [cl_9 (by omega)]
  exact (V l hl).2 i hi
theorem vc_wr {m : Nat → Pz q} {a : Nat → Int32} (V : VC m a) {l i : Nat} (hl : l < 16) (hi : i < 9) (c : Fin (q + 1)) : VC (st_l m l (pz_w (m l) i c)) (upd a (9 * l + i) (nI c.val)) := fun j hj => by
  by_cases e : j = l
  · subst e
    rw [st_s]
    refine ⟨sz_le (fun k hk => by rw [w_c, if_neg (by omega)]; exact sz_ge (by have := (V j hj).1; omega)), fun k hk => ?_⟩
    rw [w_c]
    by_cases e2 : k = i
    · rw [e2, pk_us, if_pos rfl]
    · rw [pk_un (by omega), if_neg e2]
      exact (V j hj).2 k hk
  · rw [st_n e]
    refine ⟨(V j hj).1, fun k hk => ?_⟩
    rw [pk_un (by omega)]
    exact (V j hj).2 k hk
theorem vc_up {m : Nat → Pz q} {a : Nat → Int32} {F G : Pz q} {l i : Nat} (V : VC (st_l m l (pz_x i F G)) a) (hl : l < 16) (hi : i < 9) : VC (st_l m l (pz_x (i + 1) F G)) (upd a (9 * l + i) (nI (pz_c F i).val)) := by
  have h := vc_wr V hl hi (pz_c F i)
  rw [st_st, st_s, x_up] at h
  exact h
theorem vc_dn {m : Nat → Pz q} {a : Nat → Int32} {F G : Pz q} {l i : Nat} (V : VC (st_l m l (pz_x (i + 1) G F)) a) (hl : l < 16) (hi : i < 9) : VC (st_l m l (pz_x i G F)) (upd a (9 * l + i) (nI (pz_c F i).val)) := by
  have h := vc_wr V hl hi (pz_c F i)
  rw [st_st, st_s, x_dn] at h
  exact h
theorem vc_0 {m : Nat → Pz q} {a : Nat → Int32} (V : VC m a) (l : Nat) (F : Pz q) : VC (st_l m l (pz_x 0 F (m l))) a := by
  rw [x_0, st_self]; exact V
theorem vc_9 {m : Nat → Pz q} {a : Nat → Int32} {F G : Pz q} {l : Nat} (V : VC (st_l m l (pz_x 9 F G)) a) (hF : pz_s F ≤ 9) (hG : pz_s G ≤ 9) : VC (st_l m l F) a := by
  rw [x_9 hF hG] at V; exact V
theorem vc_d9 {m : Nat → Pz q} {a : Nat → Int32} (V : VC m a) {l : Nat} (hl : l < 16) {F : Pz q} (hF : pz_s F ≤ 9) : VC (st_l m l (pz_x 9 (m l) F)) a := by
  rw [x_9 (vc_s V hl) hF, st_self]; exact V
theorem vc_d0 {m : Nat → Pz q} {a : Nat → Int32} {F G : Pz q} {l : Nat} (V : VC (st_l m l (pz_x 0 G F)) a) : VC (st_l m l F) a := by
  rw [x_0] at V; exact V
/-- only lines below 16 count -/
theorem vc_eq {m m' : Nat → Pz q} {a : Nat → Int32} (V : VC m a) (h : ∀ l, l < 16 → m' l = m l) : VC m' a := fun l hl => by
  rw [h l hl]; exact V l hl
/-! numbers -/
theorem q_5 (K : PK q iR) : q + 1 ≤ 5 := by have := K.2; omega
theorem pv_lt (c : Fin (q + 1)) (K : PK q iR) : c.val < 5 := by
  have := c.isLt
  have := q_5 K
  omega
theorem p_nz (K : PK q iR) : ¬ nI (q + 1) = 0 := nI_ne0 (by omega) (by have := q_5 K; omega)
theorem rm_p (K : PK q iR) {N : Nat} (h : N < 2 ^ 31) : nI N - nI N / nI (q + 1) * nI (q + 1) = nI (fq_v N : Fin (q + 1)).val := by
  rw [pk_rem h (by omega) (by have := q_5 K; omega), fv_val]
theorem dv_p (K : PK q iR) {N : Nat} (h : N < 2 ^ 31) : nI N / nI (q + 1) = nI (N / (q + 1)) := pk_div h (by omega) (by have := q_5 K; omega)
theorem p9_le (K : PK q iR) {i : Nat} (h : i ≤ 9) : (q + 1) ^ i ≤ 1953125 := by
  refine Nat.le_trans (Nat.pow_le_pow_right (by omega) h) ?_
  exact Nat.le_trans (Nat.pow_le_pow_left (q_5 K) 9) (by decide)
theorem ce_31 (K : PK q iR) {f : Pz q} (h : pz_s f ≤ 9) : ce_e f < 1953125 := Nat.lt_of_lt_of_le (ce_lt f h) (p9_le K (by omega))
end
end
section
/-! X: registers, codes, digits, degree, copy, addTimes -/
theorem xr_yes {post : Int32 → Prop} {l : Nat} (hl : l < 3) (h : post 1) : wpX_isRegister post (nI l) :=
  br_f (nI_pos (by omega)) (br_f (nI_nlt (b := l) (a := 2) (by omega) (by omega)) h)
theorem xr_no {post : Int32 → Prop} {x : Int32} (hx : x < 0 ∨ 2 < x) (h : post 0) : wpX_isRegister post x :=
  br_c (fun _ => h) (fun n => br_t (hx.resolve_left n) h)
theorem rg_c (x : Int32) : (∃ l : Nat, l < 3 ∧ x = nI l) ∨ (x < 0 ∨ 2 < x) := by
  rcases pk_ix x (n := 3) (by omega) with h | h | ⟨j, h1, h2⟩
  · exact Or.inr (Or.inl h)
  · refine Or.inr (Or.inr ?_)
    have h3 : (2 : Int32) < nI 3 := by decide
    exact Int32.lt_of_lt_of_le h3 h
  · exact Or.inl ⟨j, h1, h2⟩
section
variable {q : Nat} {iR : Lean.Grind.CommRing (Pz q)}
variable {fL fF fB fC : Int32} {aC aI aM aR aB aP aD aF aT aQ : Nat → Int32} {m : Nat → Pz q}
theorem nz_v (K : PK q iR) (c : Fin (q + 1)) : nI c.val = 0 ↔ c = 0 := by
  rw [← nI_0, nI_eq (by have := pv_lt c K; omega) (by omega)]
  exact ⟨fun h => Fin.ext h, fun h => by rw [h]; rfl⟩
theorem xl_codeOf (K : PK q iR) (V : VC m aC) {l : Nat} (hl : l < 16) {post : Int32 → Prop} (h : post (nI (ce_e (m l)))) : ∀ k, k ≤ 9 → wX_codeOf_5 post (nI l) (nI (q + 1)) fL fF fB fC aC aI aM aR aB aP aD aF aT aQ (k + 1) (nI (ce_e (m l) / (q + 1) ^ k)) (dn k) := by
  intro k
  induction k with
  | zero =>
    intro _
    rw [Nat.pow_zero, Nat.div_one]
    exact br_t ((dn_neg (by omega)).mpr rfl) h
  | succ k ih =>
    intro hk
    rw [dn_s]
    refine br_f (nI_pos (by omega)) ⟨pk_in (9 * l + k) 144 (by omega) (ix_9 l k), nm_r (e' := nI (ce_e (m l) / (q + 1) ^ k)) ?_ (nm_e (ih (by omega)))⟩
    rw [vc_rd V hl (by omega), pk_mul, nI_add, ← ce_dg, ← dg_st]
theorem xw_codeOf (K : PK q iR) (V : VC m aC) {l : Nat} (hl : l < 16) {post : Int32 → Prop} (h : post (nI (ce_e (m l)))) : wpX_codeOf post ((nI (q + 1)), fL, fF, fB, fC, aC, aI, aM, aR, aB, aP, aD, aF, aT, aQ) (nI l) := by
  refine ⟨10, ?_⟩
  have h1 : wX_codeOf_5 post (nI l) (nI (q + 1)) fL fF fB fC aC aI aM aR aB aP aD aF aT aQ 10 (nI (ce_e (m l) / (q + 1) ^ 9)) (dn 9) := xl_codeOf K V hl h 9 (by omega)
  rw [Nat.div_eq_of_lt (ce_lt (m l) (vc_s V hl))] at h1
  exact h1
theorem xl_decode (K : PK q iR) {l c : Nat} (hl : l < 16) (hc : c < (q + 1) ^ 9) (hm : pz_s (m l) ≤ 9) {post : SX → Prop} (h : ∀ aC, VC (st_l m l (ce_d c)) aC → post ((nI (q + 1)), fL, fF, fB, fC, aC, aI, aM, aR, aB, aP, aD, aF, aT, aQ)) : ∀ (d i : Nat) (aC : Nat → Int32), i + d = 9 → VC (st_l m l (pz_x i (ce_d c) (m l))) aC → wX_decode_5 post (nI l) (nI (q + 1)) fL fF fB fC (d + 1) (nI (c / (q + 1) ^ i)) (nI i) aC aI aM aR aB aP aD aF aT aQ := by
  intro d
  induction d with
  | zero =>
    intro i aC hi V
    have e : i = 9 := by omega
    subst e
    exact br_t (nI_le (a := 9) (b := 9) (by omega) (by omega)) (h aC (vc_9 V ((ce_dsz K).mp hc) hm))
  | succ d ih =>
    intro i aC hi V
    have hb : c / (q + 1) ^ i < 2 ^ 31 := by
      have := Nat.div_le_self c ((q + 1) ^ i)
      have := p9_le K (i := 9) (by omega)
      omega
    refine br_f (nI_ge (a := i) (b := 9) (by omega) (by omega)) ⟨p_nz K, pk_in (9 * l + i) 144 (by omega) (ix_9 l i), nm_r (e' := upd aC (9 * l + i) (nI (pz_c (ce_d c : Pz q) i).val)) ?_ ⟨p_nz K, nm_r (e' := nI (c / (q + 1) ^ (i + 1))) ?_ (nm_r (nI_1 i) (ih (i + 1) _ (by omega) (vc_up V hl (by omega))))⟩⟩
    · rw [cl_9 (by omega), rm_p K hb, ce_dc K]
    · rw [dv_p K hb, Nat.div_div_eq_div_mul, ← Nat.pow_succ]
theorem xw_decode (K : PK q iR) (V : VC m aC) {l c : Nat} (hl : l < 16) (hc : c < (q + 1) ^ 9) {post : SX → Prop} (h : ∀ aC, VC (st_l m l (ce_d c)) aC → post ((nI (q + 1)), fL, fF, fB, fC, aC, aI, aM, aR, aB, aP, aD, aF, aT, aQ)) : wpX_decode post ((nI (q + 1)), fL, fF, fB, fC, aC, aI, aM, aR, aB, aP, aD, aF, aT, aQ) (nI l) (nI c) := by
  refine ⟨10, ?_⟩
  have h1 := xl_decode K hl hc (vc_s V hl) h 9 0 aC rfl (vc_0 V l _)
  rw [Nat.pow_zero, Nat.div_one] at h1
  exact h1
theorem xl_degreeOf (K : PK q iR) (V : VC m aC) {l : Nat} (hl : l < 16) {post : Int32 → Prop} (h : post (dn (pz_s (m l)))) : ∀ k, k ≤ 9 → pz_s (m l) ≤ k → wX_degreeOf_3 post (nI l) (nI (q + 1)) fL fF fB fC aC aI aM aR aB aP aD aF aT aQ (k + 1) (dn k) := by
  intro k
  induction k with
  | zero =>
    intro _ hs
    rw [show pz_s (m l) = 0 by omega] at h
    exact br_t ((dn_neg (by omega)).mpr rfl) h
  | succ k ih =>
    intro hk hs
    rw [dn_s]
    refine br_f (nI_pos (by omega)) ⟨pk_in (9 * l + k) 144 (by omega) (ix_9 l k), ?_⟩
    rw [vc_rd V hl (by omega)]
    refine br_c (fun z => nm_e (ih (by omega) ?_)) (fun z => ?_)
    · have z1 := (nz_v K _).mp z
      exact sz_le (fun i hi => by
        by_cases e : i = k
        · rw [e]; exact z1
        · exact sz_ge (by omega))
    · have z1 : k < pz_s (m l) := sz_lt (fun c => z ((nz_v K _).mpr c))
      rw [show pz_s (m l) = k + 1 by omega, dn_s] at h
      exact h
theorem xw_degreeOf (K : PK q iR) (V : VC m aC) {l : Nat} (hl : l < 16) {post : Int32 → Prop} (h : post (dn (pz_s (m l)))) : wpX_degreeOf post ((nI (q + 1)), fL, fF, fB, fC, aC, aI, aM, aR, aB, aP, aD, aF, aT, aQ) (nI l) :=
  ⟨10, xl_degreeOf K V hl h 9 (by omega) (vc_s V hl)⟩
theorem xl_copy {to fr : Nat} (ht : to < 16) (hf : fr < 16) (s1 : pz_s (m to) ≤ 9) (s2 : pz_s (m fr) ≤ 9) {fP : Int32} {post : SX → Prop} (h : ∀ aC, VC (st_l m to (m fr)) aC → post (fP, fL, fF, fB, fC, aC, aI, aM, aR, aB, aP, aD, aF, aT, aQ)) : ∀ (d i : Nat) (aC : Nat → Int32), i + d = 9 → VC (st_l m to (pz_x i (m fr) (m to))) aC → wX_copy_2 post (nI to) (nI fr) fP fL fF fB fC (d + 1) (nI i) aC aI aM aR aB aP aD aF aT aQ := by
  intro d
  induction d with
  | zero =>
    intro i aC hi V
    have e : i = 9 := by omega
    subst e
    exact br_t (nI_le (a := 9) (b := 9) (by omega) (by omega)) (h aC (vc_9 V s2 s1))
  | succ d ih =>
    intro i aC hi V
    refine br_f (nI_ge (a := i) (b := 9) (by omega) (by omega)) ⟨pk_in (9 * fr + i) 144 (by omega) (ix_9 fr i), pk_in (9 * to + i) 144 (by omega) (ix_9 to i), nm_r (e' := upd aC (9 * to + i) (nI (pz_c (m fr) i).val)) ?_ (nm_r (nI_1 i) (ih (i + 1) _ (by omega) (vc_up V ht (by omega))))⟩
    rw [cl_9 (by omega), vc_rd V hf (by omega)]
    by_cases e : fr = to
    · rw [e, st_s, x_c, if_neg (by omega)]
    · rw [st_n e]
theorem xw_copy (V : VC m aC) {to fr : Nat} (ht : to < 16) (hf : fr < 16) {fP : Int32} {post : SX → Prop} (h : ∀ aC, VC (st_l m to (m fr)) aC → post (fP, fL, fF, fB, fC, aC, aI, aM, aR, aB, aP, aD, aF, aT, aQ)) : wpX_copy post (fP, fL, fF, fB, fC, aC, aI, aM, aR, aB, aP, aD, aF, aT, aQ) (nI to) (nI fr) :=
  ⟨10, xl_copy ht hf (vc_s V ht) (vc_s V hf) h 9 0 aC rfl (vc_0 V to _)⟩
theorem ix_9s {l k u : Nat} (h : u ≤ k) : (9 : Int32) * nI l + nI k - nI u = nI (9 * l + (k - u)) := by
  rw [ix_9, pk_sub (by omega)]
  exact congrArg nI (by omega)
theorem xl_addTimes (K : PK q iR) {a b fac up : Nat} (ha : a < 16) (hb : b < 16) (hfac : fac ≤ 5) (hup : up ≤ 9) {F : Pz q} (eF : F = m a + pz_mo (fq_v fac) up * m b) {post : SX → Prop} (h : ∀ aC, VC (st_l m a F) aC → post ((nI (q + 1)), fL, fF, fB, fC, aC, aI, aM, aR, aB, aP, aD, aF, aT, aQ)) : ∀ (d : Nat) (aC : Nat → Int32), up + d ≤ 9 → VC (st_l m a (pz_x (up + d) (m a) F)) aC → wX_addTimes_4 post (nI a) (nI b) (nI fac) (nI up) (nI (q + 1)) fL fF fB fC (d + 1) (dn (up + d)) aC aI aM aR aB aP aD aF aT aQ := by
  intro d
  have cF : ∀ i, pz_c F i = pz_c (m a) i + if up ≤ i then fq_v fac * pz_c (m b) (i - up) else 0 := fun i => by rw [eF, pz_add K, mo_mul K]
  induction d with
  | zero =>
    intro aC hd V
    refine br_t ?_ (h aC ?_)
    · rw [← dn_s, dn_lt (by omega) (by omega)]; omega
    · have e : pz_x (up + 0) (m a) F = F := pz_ext (fun j => by
        rw [x_c, cF]
        by_cases c : j < up + 0
        · rw [if_pos c, if_neg (by omega)]; exact (Lean.Grind.Semiring.add_zero _).symm
        · rw [if_neg c])
      rw [e] at V
      exact V
  | succ d ih =>
    intro aC hd V
    rw [← Nat.add_assoc] at V
    rw [← Nat.add_assoc, dn_s]
    refine br_f (nI_nlt (by omega) (by omega)) ⟨pk_in (9 * a + (up + d)) 144 (by omega) (ix_9 a _), pk_in (9 * b + (up + d - up)) 144 (by omega) (ix_9s (by omega)), p_nz K, pk_in (9 * a + (up + d)) 144 (by omega) (ix_9 a _), nm_r (e' := upd aC (9 * a + (up + d)) (nI (pz_c F (up + d)).val)) ?_ (nm_e (ih _ (by omega) (vc_dn V ha (by omega))))⟩
    have r1 : aC ((9 : Int32) * nI a + nI (up + d)).toNatClampNeg = nI (pz_c (m a) (up + d)).val := by
      rw [vc_rd V ha (by omega), st_s, x_c, if_pos (by omega)]
    have r2 : aC ((9 : Int32) * nI b + nI (up + d) - nI up).toNatClampNeg = nI (pz_c (m b) d).val := by
      rw [ix_9s (by omega), ← ix_9, Nat.add_sub_cancel_left, vc_rd V hb (by omega)]
      by_cases e : b = a
      · rw [e, st_s, x_c, if_pos (by omega)]
      · rw [st_n e]
    have b1 := pv_lt (pz_c (m a) (up + d)) K
    have b2 := pv_lt (pz_c (m b) d) K
    have b3 : fac * (pz_c (m b) d).val ≤ 5 * 5 := Nat.mul_le_mul hfac (by omega)
    rw [r1, r2, cl_9 (by omega), pk_mul, nI_add, rm_p K (by omega), fv_add, fv_mul, fv_of, fv_of, cF, if_pos (by omega), Nat.add_sub_cancel_left]
theorem xw_addTimes (K : PK q iR) (V : VC m aC) {a b fac up : Nat} (ha : a < 16) (hb : b < 16) (hfac : fac ≤ 5) (hup : up ≤ 9) (hs : pz_s (m a + pz_mo (fq_v fac) up * m b) ≤ 9) {post : SX → Prop} (h : ∀ aC, VC (st_l m a (m a + pz_mo (fq_v fac) up * m b)) aC → post ((nI (q + 1)), fL, fF, fB, fC, aC, aI, aM, aR, aB, aP, aD, aF, aT, aQ)) : wpX_addTimes post ((nI (q + 1)), fL, fF, fB, fC, aC, aI, aM, aR, aB, aP, aD, aF, aT, aQ) (nI a) (nI b) (nI fac) (nI up) := by
  obtain ⟨d, hd⟩ : ∃ d, up + d = 9 := ⟨9 - up, by omega⟩
  refine ⟨d + 1, ?_⟩
  have h1 := xl_addTimes K ha hb hfac hup rfl h d aC (by omega) (by rw [hd]; exact vc_d9 V ha hs)
  rw [hd] at h1
  exact h1
end
end
section
/-! X: product, quotient, monic, common divisor -/
/-- what a division by the leading coefficient makes of f -/
def mo_M {q : Nat} [Lean.Grind.CommRing (Pz q)] (f F : Pz q) : Prop := (f = 0 ∧ F = 0) ∨ (mn_m F ∧ pz_s F = pz_s f ∧ dv_d F f ∧ dv_d f F)
/-- the table of inverses -/
def iv_T (q : Nat) (aI : Nat → Int32) : Prop := ∀ c : Fin (q + 1), c ≠ 0 → ∃ t : Fin (q + 1), c * t = 1 ∧ aI c.val = nI t.val
def PQ {q : Nat} (f : Pz q) (a : Nat → Int32) : Prop := pz_s f ≤ 17 ∧ ∀ i, i < 17 → a i = nI (pz_c f i).val
section
variable {q : Nat} {iR : Lean.Grind.CommRing (Pz q)}
variable {fL fF fB fC : Int32} {aC aI aM aR aB aP aD aF aT aQ : Nat → Int32} {m : Nat → Pz q}
theorem pq_wr {f : Pz q} (V : PQ f aQ) {i : Nat} (hi : i < 17) (c : Fin (q + 1)) : PQ (pz_w f i c) (upd aQ i (nI c.val)) := by
  refine ⟨sz_le (fun k hk => by rw [w_c, if_neg (by omega)]; exact sz_ge (by have := V.1; omega)), fun k hk => ?_⟩
  rw [w_c]
  by_cases e : k = i
  · rw [e, pk_us, if_pos rfl]
  · rw [pk_un e, if_neg e]
    exact V.2 k hk
theorem w_add (K : PK q iR) (f : Pz q) (i : Nat) (c : Fin (q + 1)) : pz_w f i (pz_c f i + c) = f + pz_mo c i := pz_ext (fun j => by
  rw [w_c, pz_add K, mo_c]
  by_cases e : j = i
  · rw [if_pos e, if_pos e, e]
  · rw [if_neg e, if_neg e]; exact (Lean.Grind.Semiring.add_zero _).symm)
theorem x_s (K : PK q iR) (f : Pz q) (i : Nat) : pz_x (i + 1) f 0 = pz_x i f 0 + pz_mo (pz_c f i) i := by
  rw [← x_up, ← w_add K]
  have e : pz_c (pz_x i f 0) i = 0 := by rw [x_c, if_neg (by omega), pz_zero K]
  rw [e, Lean.Grind.AddCommMonoid.zero_add]
theorem ix_a (i j : Nat) : nI i + nI j = nI (i + j) := nI_add i j
theorem xl_mul3 (K : PK q iR) (V : VC m aC) {a b i : Nat} (ha : a < 16) (hb : b < 16) (hi : i < 9) {f0 : Pz q} {post : SX → Prop} {J : Int32 → (Nat → Int32) → (Nat → Int32) → (Nat → Int32) → (Nat → Int32) → (Nat → Int32) → (Nat → Int32) → (Nat → Int32) → (Nat → Int32) → (Nat → Int32) → (Nat → Int32) → Prop} (h : ∀ aQ, PQ (f0 + pz_mo (pz_c (m a) i) i * m b) aQ → J (nI (i + 1)) aC aI aM aR aB aP aD aF aT aQ) : ∀ (d j : Nat) (aQ : Nat → Int32), j + d = 9 → PQ (f0 + pz_mo (pz_c (m a) i) i * pz_x j (m b) 0) aQ → wX_multiplyLong_32 post J (nI a) (nI b) (nI i) (nI (q + 1)) fL fF fB fC (d + 1) (nI j) aC aI aM aR aB aP aD aF aT aQ := by
  intro d
  induction d with
  | zero =>
    intro j aQ hj P
    have e : j = 9 := by omega
    subst e
    rw [x_9 (vc_s V hb) (by rw [sz_0 K]; omega)] at P
    exact br_t (nI_le (a := 9) (b := 9) (by omega) (by omega)) (nm_r (nI_1 i) (h aQ P))
  | succ d ih =>
    intro j aQ hj P
    refine br_f (nI_ge (a := j) (b := 9) (by omega) (by omega)) ⟨pk_in (i + j) 17 (by omega) (ix_a i j), pk_in (9 * a + i) 144 (by omega) (ix_9 a i), pk_in (9 * b + j) 144 (by omega) (ix_9 b j), p_nz K, pk_in (i + j) 17 (by omega) (ix_a i j), nm_r (e' := upd aQ (i + j) (nI (pz_c (f0 + pz_mo (pz_c (m a) i) i * pz_x j (m b) 0) (i + j) + pz_c (m a) i * pz_c (m b) j).val)) ?_ (nm_r (nI_1 j) (ih (j + 1) _ (by omega) ?_))⟩
    · have b1 := pv_lt (pz_c (f0 + pz_mo (pz_c (m a) i) i * pz_x j (m b) 0) (i + j)) K
      have b2 := pv_lt (pz_c (m a) i) K
      have b3 := pv_lt (pz_c (m b) j) K
      have b4 : (pz_c (m a) i).val * (pz_c (m b) j).val ≤ 5 * 5 := Nat.mul_le_mul (by omega) (by omega)
      rw [nI_add, nI_clamp (by omega), P.2 (i + j) (by omega), vc_rd V ha hi, vc_rd V hb (by omega), pk_mul, nI_add, rm_p K (by omega), fv_add, fv_mul, fv_of, fv_of, fv_of]
    · have h1 := pq_wr P (i := i + j) (by omega) (pz_c (f0 + pz_mo (pz_c (m a) i) i * pz_x j (m b) 0) (i + j) + pz_c (m a) i * pz_c (m b) j)
      rw [w_add K] at h1
      have e : f0 + pz_mo (pz_c (m a) i) i * pz_x (j + 1) (m b) 0 = f0 + pz_mo (pz_c (m a) i) i * pz_x j (m b) 0 + pz_mo (pz_c (m a) i * pz_c (m b) j) (i + j) := by
        rw [x_s K, ← mo_mo K]; grind
      rw [e]
      exact h1
theorem xl_mul2 (K : PK q iR) (V : VC m aC) {a b : Nat} (ha : a < 16) (hb : b < 16) {post : SX → Prop} (h : ∀ aQ, PQ (m a * m b) aQ → post ((nI (q + 1)), fL, fF, fB, fC, aC, aI, aM, aR, aB, aP, aD, aF, aT, aQ)) : ∀ (d i : Nat) (aQ : Nat → Int32), i + d = 9 → PQ (pz_x i (m a) 0 * m b) aQ → wX_multiplyLong_23 post (nI a) (nI b) (nI (q + 1)) fL fF fB fC (d + 1) (nI i) aC aI aM aR aB aP aD aF aT aQ := by
  intro d
  induction d with
  | zero =>
    intro i aQ hi P
    have e : i = 9 := by omega
    subst e
    rw [x_9 (vc_s V ha) (by rw [sz_0 K]; omega)] at P
    exact br_t (nI_le (a := 9) (b := 9) (by omega) (by omega)) (h aQ P)
  | succ d ih =>
    intro i aQ hi P
    refine br_f (nI_ge (a := i) (b := 9) (by omega) (by omega)) ⟨10, ?_⟩
    refine xl_mul3 K V ha hb (by omega) (f0 := pz_x i (m a) 0 * m b) (fun aQ P1 => ih (i + 1) aQ (by omega) ?_) 9 0 aQ rfl ?_
    · have e : pz_x (i + 1) (m a) 0 * m b = pz_x i (m a) 0 * m b + pz_mo (pz_c (m a) i) i * m b := by rw [x_s K]; grind
      rw [e]; exact P1
    · have e : pz_x i (m a) 0 * m b + pz_mo (pz_c (m a) i) i * pz_x 0 (m b) 0 = pz_x i (m a) 0 * m b := by rw [x_0]; grind
      rw [e]; exact P
theorem xl_mul1 (K : PK q iR) (V : VC m aC) {a b : Nat} (ha : a < 16) (hb : b < 16) {post : SX → Prop} (h : ∀ aQ, PQ (m a * m b) aQ → post ((nI (q + 1)), fL, fF, fB, fC, aC, aI, aM, aR, aB, aP, aD, aF, aT, aQ)) : ∀ (d i : Nat) (aQ : Nat → Int32), i + d = 17 → (∀ j, j < i → aQ j = 0) → wX_multiplyLong_2 post (nI a) (nI b) (nI (q + 1)) fL fF fB fC (d + 1) (nI i) aC aI aM aR aB aP aD aF aT aQ := by
  intro d
  induction d with
  | zero =>
    intro i aQ hi P
    have e : i = 17 := by omega
    subst e
    refine br_t (nI_le (a := 17) (b := 17) (by omega) (by omega)) ⟨10, xl_mul2 K V ha hb h 9 0 aQ rfl ?_⟩
    have e : pz_x 0 (m a) 0 * m b = 0 := by rw [x_0]; grind
    rw [e]
    exact ⟨by rw [sz_0 K]; omega, fun i hi => by rw [P i hi, pz_zero K]; rfl⟩
  | succ d ih =>
    intro i aQ hi P
    refine br_f (nI_ge (a := i) (b := 17) (by omega) (by omega)) ⟨vp_in_nI (by omega) (by omega), nm_r (e' := upd aQ i 0) ?_ (nm_r (nI_1 i) (ih (i + 1) _ (by omega) (fun j hj => ?_)))⟩
    · rw [nI_clamp (by omega)]
    · by_cases e : j = i
      · rw [e, pk_us]
      · rw [pk_un e]; exact P j (by omega)
theorem xw_multiplyLong (K : PK q iR) (V : VC m aC) {a b : Nat} (ha : a < 16) (hb : b < 16) {post : SX → Prop} (h : ∀ aQ, PQ (m a * m b) aQ → post ((nI (q + 1)), fL, fF, fB, fC, aC, aI, aM, aR, aB, aP, aD, aF, aT, aQ)) : wpX_multiplyLong post ((nI (q + 1)), fL, fF, fB, fC, aC, aI, aM, aR, aB, aP, aD, aF, aT, aQ) (nI a) (nI b) :=
  ⟨18, xl_mul1 K V ha hb h 17 0 aQ rfl (fun j hj => by omega)⟩
/-! quotient and remainder -/
theorem xl_div2 (K : PK q iR) {qo a b db : Nat} {t : Fin (q + 1)} (hq : qo < 16) (ha : a < 16) (hb : b < 16) (n1 : qo ≠ a) (n2 : qo ≠ b) (n3 : a ≠ b) (sb : pz_s (m b) = db + 1) (hdb : db ≤ 8) (ht : pz_c (m b) db * t = 1) {post : SX → Prop} (h : ∀ (Q r : Pz q) (aC : Nat → Int32), m a = m b * Q + r → pz_s r < pz_s (m b) → VC (st_l (st_l m qo Q) a r) aC → post ((nI (q + 1)), fL, fF, fB, fC, aC, aI, aM, aR, aB, aP, aD, aF, aT, aQ)) : ∀ (d : Nat) (Q r : Pz q) (aC : Nat → Int32), db + d ≤ 9 → m a = m b * Q + r → pz_s r ≤ db + d → (∀ j, j < d → pz_c Q j = 0) → VC (st_l (st_l m qo Q) a r) aC → wX_divideInto_65 post (nI qo) (nI a) (nI b) (nI db) (nI t.val) (d + 1) (dn (db + d)) (nI (q + 1)) fL fF fB fC aC aI aM aR aB aP aD aF aT aQ := by
  intro d
  induction d with
  | zero =>
    intro Q r aC hd e hr hQ V
    refine br_t ?_ (h Q r aC e (by omega) V)
    rw [← dn_s, dn_lt (by omega) (by omega)]; omega
  | succ d ih =>
    intro Q r aC hd e hr hQ V
    rw [← Nat.add_assoc, dn_s]
    have b1 := pv_lt (pz_c r (db + d)) K
    have b2 := pv_lt t K
    have b4 : (pz_c r (db + d)).val * t.val ≤ 5 * 5 := Nat.mul_le_mul (by omega) (by omega)
    have sQ : pz_s (pz_w Q d (pz_c r (db + d) * t)) ≤ 9 := by
      have h1 := vc_s V hq
      rw [st_n n1, st_s] at h1
      exact sz_le (fun j hj => by rw [w_c, if_neg (by omega)]; exact sz_ge (by omega))
    have eQ : pz_w Q d (pz_c r (db + d) * t) = Q + pz_mo (pz_c r (db + d) * t) d := by
      rw [← w_add K, hQ d (by omega), Lean.Grind.AddCommMonoid.zero_add]
    have V1 : VC (st_l (st_l m qo (Q + pz_mo (pz_c r (db + d) * t) d)) a r) (upd aC (9 * qo + d) (nI (pz_c r (db + d) * t).val)) := by
      have h1 := vc_wr V hq (i := d) (by omega) (pz_c r (db + d) * t)
      rw [st_n n1, st_s, eQ] at h1
      refine vc_eq h1 (fun l hl => ?_)
      by_cases e1 : l = qo
      · rw [e1, st_n n1, st_s, st_s]
      · rw [st_n (m := st_l (st_l m qo Q) a r) e1]
        by_cases e2 : l = a
        · rw [e2, st_s, st_s]
        · rw [st_n e2, st_n e2, st_n e1, st_n e1]
    refine br_f (nI_nlt (by omega) (by omega)) ⟨pk_in (9 * a + (db + d)) 144 (by omega) (ix_9 a _), p_nz K, nm_r (e' := nI (pz_c r (db + d) * t).val) ?_ ⟨pk_in (9 * qo + (db + d - db)) 144 (by omega) (ix_9s (by omega)), nm_r (e' := upd aC (9 * qo + d) (nI (pz_c r (db + d) * t).val)) ?_ (br_c (fun z => nm_e ?_) (fun z => ?_))⟩⟩
    · rw [vc_rd V ha (by omega), st_s, pk_mul, rm_p K (by omega), fv_mul, fv_of, fv_of]
    · rw [ix_9s (by omega), Nat.add_sub_cancel_left, nI_clamp (by omega)]
    · have z1 := (nz_v K _).mp z
      have z2 : pz_c r (db + d) = 0 := Classical.byContradiction (fun c => fq_mul K c (fun t0 => by
        rw [t0, Lean.Grind.Semiring.mul_zero] at ht
        exact fq_1 K ht.symm) z1)
      rw [z1] at V1
      rw [z1]
      refine ih _ r _ (by omega) ?_ (sz_le (fun j hj => ?_)) (fun j hj => ?_) V1
      · rw [mo_zero K, e]; grind
      · by_cases ej : j = db + d
        · rw [ej]; exact z2
        · exact sz_ge (by omega)
      · rw [pz_add K, mo_c, if_neg (by omega), hQ j (by omega)]; exact Lean.Grind.Semiring.add_zero _
    · have c0 : pz_c r (db + d) * t ≠ 0 := fun c => z ((nz_v K _).mpr c)
      have hv := (pz_c r (db + d) * t).isLt
      rw [pk_sub (show db ≤ db + d by omega), pk_sub (Nat.le_of_lt hv), Nat.add_sub_cancel_left]
      have ec : (fq_v (q + 1 - (pz_c r (db + d) * t).val) : Fin (q + 1)) = - (pz_c r (db + d) * t) := by
        have h1 : (fq_v (q + 1 - (pz_c r (db + d) * t).val) : Fin (q + 1)) + pz_c r (db + d) * t = 0 := by
          have h2 := fv_add (q := q) (q + 1 - (pz_c r (db + d) * t).val) (pz_c r (db + d) * t).val
          rw [fv_of, Nat.sub_add_cancel (Nat.le_of_lt hv)] at h2
          rw [← h2, fv_z]
          exact Nat.mod_self _
        generalize pz_c r (db + d) * t = x at *
        have h3 := Lean.Grind.AddCommGroup.neg_eq_iff (a := x) (b := fq_v (q + 1 - x.val))
        generalize (fq_v (q + 1 - x.val) : Fin (q + 1)) = y at *
        grind
      have er : (st_l (st_l m qo (Q + pz_mo (pz_c r (db + d) * t) d)) a r) a + pz_mo (fq_v (q + 1 - (pz_c r (db + d) * t).val)) d * (st_l (st_l m qo (Q + pz_mo (pz_c r (db + d) * t) d)) a r) b = r - pz_mo (pz_c r (db + d) * t) d * m b := by
        rw [st_s, st_n (by omega), st_n (by omega), ec, mo_neg K]; grind
      have hs := red_step K (f := r) (g := m b) (k := db + d) (d := db) (t := t) hr (by omega) (by omega) ht
      rw [Nat.add_sub_cancel_left] at hs
      refine xw_addTimes K V1 ha hb (fac := q + 1 - (pz_c r (db + d) * t).val) (up := d) (Nat.le_trans (Nat.sub_le _ _) (q_5 K)) (by omega) (by rw [er]; omega) (fun aC V2 => nm_e ?_)
      rw [er, st_st] at V2
      refine ih _ _ aC (by omega) ?_ hs (fun j hj => ?_) V2
      · rw [e]; grind
      · rw [pz_add K, mo_c, if_neg (by omega), hQ j (by omega)]; exact Lean.Grind.Semiring.add_zero _
theorem xl_div1 (K : PK q iR) {qo a b db : Nat} {t : Fin (q + 1)} (hq : qo < 16) (ha : a < 16) (hb : b < 16) (n1 : qo ≠ a) (n2 : qo ≠ b) (n3 : a ≠ b) (sb : pz_s (m b) = db + 1) (hdb : db ≤ 8) (ht : pz_c (m b) db * t = 1) (sa : pz_s (m a) ≤ 9) (sq : pz_s (m qo) ≤ 9) {post : SX → Prop} (h : ∀ (Q r : Pz q) (aC : Nat → Int32), m a = m b * Q + r → pz_s r < pz_s (m b) → VC (st_l (st_l m qo Q) a r) aC → post ((nI (q + 1)), fL, fF, fB, fC, aC, aI, aM, aR, aB, aP, aD, aF, aT, aQ)) : ∀ (d i : Nat) (aC : Nat → Int32), i + d = 9 → VC (st_l m qo (pz_x i 0 (m qo))) aC → wX_divideInto_35 post (nI qo) (nI a) (nI b) (nI db) (nI t.val) (nI (q + 1)) fL fF fB fC (d + 1) (nI i) aC aI aM aR aB aP aD aF aT aQ := by
  intro d
  induction d with
  | zero =>
    intro i aC hi V
    have e : i = 9 := by omega
    subst e
    obtain ⟨d, hd⟩ : ∃ d, db + d = 9 := ⟨9 - db, by omega⟩
    refine br_t (nI_le (a := 9) (b := 9) (by omega) (by omega)) ⟨d + 1, ?_⟩
    have h1 := xl_div2 K hq ha hb n1 n2 n3 sb hdb ht h d 0 (m a) aC (by omega) (by grind) (by omega) (fun j _ => pz_zero K j) (vc_eq (vc_9 V (by rw [sz_0 K]; omega) sq) (fun l hl => by
      by_cases e : l = a
      · rw [e, st_s, st_n (by omega)]
      · rw [st_n e]))
    rw [hd] at h1
    exact h1
  | succ d ih =>
    intro i aC hi V
    refine br_f (nI_ge (a := i) (b := 9) (by omega) (by omega)) ⟨pk_in (9 * qo + i) 144 (by omega) (ix_9 qo i), nm_r (e' := upd aC (9 * qo + i) (nI (pz_c (0 : Pz q) i).val)) ?_ (nm_r (nI_1 i) (ih (i + 1) _ (by omega) (vc_up V hq (by omega))))⟩
    rw [cl_9 (by omega), pz_zero K]; rfl
theorem xw_divideInto (K : PK q iR) (IV : iv_T q aI) (V : VC m aC) {qo a b : Nat} (hq : qo < 16) (ha : a < 16) (hb : b < 16) (n1 : qo ≠ a) (n2 : qo ≠ b) (n3 : a ≠ b) (b0 : m b ≠ 0) {post : SX → Prop} (h : ∀ (Q r : Pz q) (aC : Nat → Int32), m a = m b * Q + r → pz_s r < pz_s (m b) → VC (st_l (st_l m qo Q) a r) aC → post ((nI (q + 1)), fL, fF, fB, fC, aC, aI, aM, aR, aB, aP, aD, aF, aT, aQ)) : wpX_divideInto post ((nI (q + 1)), fL, fF, fB, fC, aC, aI, aM, aR, aB, aP, aD, aF, aT, aQ) (nI qo) (nI a) (nI b) := by
  obtain ⟨db, sb⟩ := sz_nz K b0
  have sb9 := vc_s V hb
  obtain ⟨t, ht, et⟩ := IV _ (sz_top sb)
  refine xw_degreeOf K V hb ?_
  rw [sb, dn_s]
  have r1 := vc_rd V hb (i := db) (by omega)
  have b1 := pv_lt (pz_c (m b) db) K
  refine br_t (nI_pos' (by omega)) ⟨pk_in (9 * b + db) 144 (by omega) (ix_9 b db), ?_, nm_r (e' := nI t.val) ?_ ⟨10, xl_div1 K hq ha hb n1 n2 n3 sb (by omega) ht (vc_s V ha) (vc_s V hq) h 9 0 aC rfl (vc_0 V qo 0)⟩⟩
  · rw [r1]; exact vp_in_nI (by omega) (by omega)
  · rw [r1, nI_clamp (by omega), et]
/-! monic -/
theorem mn_t (K : PK q iR) {f : Pz q} {n : Nat} {t : Fin (q + 1)} (hn : pz_s f = n + 1) (ht : pz_c f n * t = 1) : mo_M f (pz_mo t 0 * f) := by
  have hs : pz_s (pz_mo t 0 * f) = n + 1 := sz_eq (fun i hi => by
      rw [C_mul K, sz_ge (by omega)]; exact Lean.Grind.Semiring.mul_zero _) (by
      rw [C_mul K, Lean.Grind.CommSemiring.mul_comm t, ht]; exact fq_1 K)
  refine Or.inr ⟨mn_of hs ?_, by rw [hs, hn], ⟨pz_mo (pz_c f n) 0, ?_⟩, dv_r _ _⟩
  · rw [C_mul K, Lean.Grind.CommSemiring.mul_comm t, ht]
  · have e1 : pz_mo t 0 * f * pz_mo (pz_c f n) 0 = pz_mo (pz_c f n) 0 * pz_mo t 0 * f := by grind
    rw [e1, mo_mo K, ht, mo_one K]; grind
theorem xl_monic (K : PK q iR) {a n : Nat} {t : Fin (q + 1)} (ha : a < 16) (hn : pz_s (m a) = n + 1) (h9 : n ≤ 8) {post : SX → Prop} (h : ∀ aC, VC (st_l m a (pz_mo t 0 * m a)) aC → post ((nI (q + 1)), fL, fF, fB, fC, aC, aI, aM, aR, aB, aP, aD, aF, aT, aQ)) : ∀ (d i : Nat) (aC : Nat → Int32), i + d = n + 1 → VC (st_l m a (pz_x i (pz_mo t 0 * m a) (m a))) aC → wX_makeMonic_30 post (nI a) (nI n) (nI t.val) (nI (q + 1)) fL fF fB fC (d + 1) (nI i) aC aI aM aR aB aP aD aF aT aQ := by
  intro d
  induction d with
  | zero =>
    intro i aC hi V
    have e : i = n + 1 := by omega
    subst e
    refine br_t (nI_lt (by omega) (by omega)) (h aC ?_)
    have e : pz_x (n + 1) (pz_mo t 0 * m a) (m a) = pz_mo t 0 * m a := x_9 (sz_le (fun i hi => by rw [C_mul K, sz_ge (by omega)]; exact Lean.Grind.Semiring.mul_zero _)) (by omega)
    rw [e] at V
    exact V
  | succ d ih =>
    intro i aC hi V
    refine br_f (nI_nlt (by omega) (by omega)) ⟨pk_in (9 * a + i) 144 (by omega) (ix_9 a i), p_nz K, pk_in (9 * a + i) 144 (by omega) (ix_9 a i), nm_r (e' := upd aC (9 * a + i) (nI (pz_c (pz_mo t 0 * m a) i).val)) ?_ (nm_r (nI_1 i) (ih (i + 1) _ (by omega) (vc_up V ha (by omega))))⟩
    have b1 := pv_lt (pz_c (m a) i) K
    have b2 := pv_lt t K
    have b4 : (pz_c (m a) i).val * t.val ≤ 5 * 5 := Nat.mul_le_mul (by omega) (by omega)
    rw [vc_rd V ha (by omega), cl_9 (by omega), st_s, x_c, if_neg (by omega), pk_mul, rm_p K (by omega), fv_mul, fv_of, fv_of, C_mul K, Lean.Grind.CommSemiring.mul_comm t]
theorem xw_makeMonic (K : PK q iR) (IV : iv_T q aI) (V : VC m aC) {a : Nat} (ha : a < 16) {post : SX → Prop} (h : ∀ (F : Pz q) (aC : Nat → Int32), mo_M (m a) F → VC (st_l m a F) aC → post ((nI (q + 1)), fL, fF, fB, fC, aC, aI, aM, aR, aB, aP, aD, aF, aT, aQ)) : wpX_makeMonic post ((nI (q + 1)), fL, fF, fB, fC, aC, aI, aM, aR, aB, aP, aD, aF, aT, aQ) (nI a) := by
  refine xw_degreeOf K V ha ?_
  have s9 := vc_s V ha
  by_cases c : m a = 0
  · rw [c, sz_0 K]
    refine br_t (by decide) (h 0 aC (Or.inl ⟨c, rfl⟩) ?_)
    rw [← c, st_self]
    exact V
  · obtain ⟨n, hn⟩ := sz_nz K c
    obtain ⟨t, ht, et⟩ := IV _ (sz_top hn)
    rw [hn, dn_s]
    have r1 := vc_rd V ha (i := n) (by omega)
    have b1 := pv_lt (pz_c (m a) n) K
    refine br_f (nI_pos (by omega)) ⟨pk_in (9 * a + n) 144 (by omega) (ix_9 a n), ?_, nm_r (e' := nI t.val) ?_ ⟨n + 2, xl_monic K ha hn (by omega) (fun aC V1 => h _ aC (mn_t K hn ht) V1) (n + 1) 0 aC (by omega) (vc_0 V a _)⟩⟩
    · rw [r1]; exact vp_in_nI (by omega) (by omega)
    · rw [r1, nI_clamp (by omega), et]
/-! common divisor -/
theorem gd_step {a b Q r d : Pz q} (e : a = b * Q + r) (h : gd_d b r d) : gd_d a b d := by
  obtain ⟨h1, h2, u, v, h3⟩ := h
  refine ⟨by rw [e]; exact dv_add (dv_mulR Q h1) h2, h1, v, u - v * Q, ?_⟩
  rw [h3, e]; grind
theorem gd_end {a F : Pz q} (h : mo_M a F) : gd_d a 0 F ∧ (F = 0 ∨ mn_m F) := by
  rcases h with ⟨rfl, rfl⟩ | ⟨h1, _, h3, u, h4⟩
  · exact ⟨⟨dv_refl _, dv_zero _, 0, 0, by grind⟩, Or.inl rfl⟩
  · exact ⟨⟨h3, dv_zero _, u, 0, by rw [h4]; grind⟩, Or.inr h1⟩
theorem gd_un (K : PK q iR) {a b d e : Pz q} (h : gd_d a b d) (h' : gd_d a b e) (hd : d = 0 ∨ mn_m d) (he : e = 0 ∨ mn_m e) : d = e := by
  have h1 := gd_dv h' h.1 h.2.1
  have h2 := gd_dv h h'.1 h'.2.1
  rcases hd with rfl | hd
  · obtain ⟨c, rfl⟩ := h1
    grind
  · rcases he with rfl | he
    · obtain ⟨c, rfl⟩ := h2
      grind
    · exact mn_eq K hd he h1 (dv_sz K h2 (mn_nz K hd)).2
theorem xl_gcd (K : PK q iR) (IV : iv_T q aI) {a b : Nat} (ha : a < 16) (hb : b < 16) (nab : a ≠ b) (na4 : a ≠ 4) (na5 : a ≠ 5) (nb4 : b ≠ 4) (nb5 : b ≠ 5) {m0 : Nat → Pz q} {post : SX → Prop} (h : ∀ (F : Pz q) (m : Nat → Pz q) (aC : Nat → Int32), gd_d (m0 a) (m0 b) F → (F = 0 ∨ mn_m F) → m a = F → (∀ l, l ≠ a → l ≠ b → l ≠ 4 → l ≠ 5 → m l = m0 l) → VC m aC → post ((nI (q + 1)), fL, fF, fB, fC, aC, aI, aM, aR, aB, aP, aD, aF, aT, aQ)) : ∀ (n k : Nat) (m : Nat → Pz q) (aC : Nat → Int32), pz_s (m b) < n → k + pz_s (m b) ≤ 9 → (∀ d, gd_d (m a) (m b) d → gd_d (m0 a) (m0 b) d) → (∀ l, l ≠ a → l ≠ b → l ≠ 4 → l ≠ 5 → m l = m0 l) → VC m aC → wX_divisorInto_2 post (nI a) (nI b) n (nI k) (nI (q + 1)) fL fF fB fC aC aI aM aR aB aP aD aF aT aQ := by
  intro n
  induction n with
  | zero => intro k m aC h1; omega
  | succ n ih =>
    intro k m aC h1 h2 h3 h4 V
    refine br_f (nI_ge (a := k) (b := 12) (by omega) (by omega)) (xw_degreeOf K V hb ?_)
    by_cases c : m b = 0
    · refine br_t ((dn_neg (by have := vc_s V hb; omega)).mpr (by rw [c, sz_0 K])) ?_
      unfold wX_divisorInto_47
      refine xw_makeMonic K IV V ha (fun F aC hF V1 => ?_)
      have h5 := gd_end hF
      refine h F _ aC (h3 F (by rw [c]; exact h5.1)) h5.2 st_s (fun l n1 n2 n3 n4 => ?_) V1
      rw [st_n n1]; exact h4 l n1 n2 n3 n4
    · have hs := sz_nz K c
      refine br_f (fun z => ?_) ?_
      · have := (dn_neg (by have := vc_s V hb; omega)).mp z
        exact c (sz_z K this)
      · refine xw_divideInto K IV V (qo := 4) (by omega) ha hb (by omega) (by omega) nab c (fun Q r aC e hr V1 => ?_)
        refine xw_copy V1 (to := 5) (by omega) ha (fun aC V2 => ?_)
        refine xw_copy V2 ha hb (fun aC V3 => ?_)
        refine xw_copy V3 hb (fr := 5) (by omega) (fun aC V4 => nm_r (nI_1 k) ?_)
        rw [st_s] at V2 V3 V4
        have eb : (st_l (st_l (st_l m 4 Q) a r) 5 r) b = m b := by
          rw [st_n nb5, st_n (by omega), st_n nb4]
        rw [eb] at V3 V4
        have e5 : (st_l (st_l (st_l (st_l m 4 Q) a r) 5 r) a (m b)) 5 = r := by
          rw [st_n (by omega), st_s]
        rw [e5] at V4
        have ma : (st_l (st_l (st_l (st_l (st_l m 4 Q) a r) 5 r) a (m b)) b r) a = m b := by
          rw [st_n nab, st_s]
        refine ih (k + 1) _ aC ?_ ?_ (fun d hd => h3 d ?_) (fun l n1 n2 n3 n4 => ?_) V4
        · rw [st_s]; omega
        · rw [st_s]; omega
        · rw [ma, st_s] at hd
          exact gd_step e hd
        · rw [st_n n2, st_n n1, st_n n4, st_n n1, st_n n3]
          exact h4 l n1 n2 n3 n4
theorem xw_divisorInto (K : PK q iR) (IV : iv_T q aI) (V : VC m aC) {a b : Nat} (ha : a < 16) (hb : b < 16) (nab : a ≠ b) (na4 : a ≠ 4) (na5 : a ≠ 5) (nb4 : b ≠ 4) (nb5 : b ≠ 5) {post : SX → Prop} (h : ∀ (F : Pz q) (m' : Nat → Pz q) (aC : Nat → Int32), gd_d (m a) (m b) F → (F = 0 ∨ mn_m F) → m' a = F → (∀ l, l ≠ a → l ≠ b → l ≠ 4 → l ≠ 5 → m' l = m l) → VC m' aC → post ((nI (q + 1)), fL, fF, fB, fC, aC, aI, aM, aR, aB, aP, aD, aF, aT, aQ)) : wpX_divisorInto post ((nI (q + 1)), fL, fF, fB, fC, aC, aI, aM, aR, aB, aP, aD, aF, aT, aQ) (nI a) (nI b) :=
  ⟨pz_s (m b) + 1, xl_gcd K IV ha hb nab na4 na5 nb4 nb5 h _ 0 m aC (by omega) (by have := vc_s V hb; omega) (fun _ x => x) (fun _ _ _ _ _ => rfl) V⟩
end
end
section
/-! X: derivative, values, powers of p, roots of powers, powers of X -/
/-- Horner's scheme over the nine coefficients, d of them from the top -/
def ho_v {q : Nat} (f : Pz q) (x : Nat) : Nat → Nat
  | 0 => 0
  | d + 1 => (ho_v f x d * x + (pz_c f (8 - d)).val) % (q + 1)
def ro_c {q : Nat} (f : Pz q) : Nat → Nat
  | 0 => 0
  | k + 1 => ro_c f k + if ho_v f k 9 = 0 then 1 else 0
section
variable {q : Nat} {iR : Lean.Grind.CommRing (Pz q)}
variable {fL fF fB fC : Int32} {aC aI aM aR aB aP aD aF aT aQ : Nat → Int32} {m : Nat → Pz q}
theorem ho_lt (K : PK q iR) (f : Pz q) (x d : Nat) : ho_v f x d < 5 := by
  have := q_5 K
  cases d with
  | zero => show 0 < 5; omega
  | succ d =>
    show _ % (q + 1) < 5
    have := Nat.mod_lt (ho_v f x d * x + (pz_c f (8 - d)).val) (show q + 1 > 0 by omega)
    omega
theorem ro_le {f : Pz q} (k : Nat) : ro_c f k ≤ k := by
  induction k with
  | zero => exact Nat.le_refl _
  | succ k ih =>
    rw [ro_c]
    split <;> omega
theorem ix_91 (l i : Nat) : (9 : Int32) * nI l + nI i + 1 = nI (9 * l + (i + 1)) := by
  rw [ix_9, nI_1]; rfl
theorem xl_derive (K : PK q iR) {to fr : Nat} (ht : to < 16) (hf : fr < 16) (s1 : pz_s (m to) ≤ 9) (s2 : pz_s (m fr) ≤ 9) {post : SX → Prop} (h : ∀ aC, VC (st_l m to (dr_d (m fr))) aC → post ((nI (q + 1)), fL, fF, fB, fC, aC, aI, aM, aR, aB, aP, aD, aF, aT, aQ)) : ∀ (d i : Nat) (aC : Nat → Int32), i + d = 8 → VC (st_l m to (pz_x i (dr_d (m fr)) (m to))) aC → wX_deriveInto_2 post (nI to) (nI fr) (nI (q + 1)) fL fF fB fC (d + 1) (nI i) aC aI aM aR aB aP aD aF aT aQ := by
  intro d
  induction d with
  | zero =>
    intro i aC hi V
    have e : i = 8 := by omega
    subst e
    refine br_t (nI_le (a := 8) (b := 8) (by omega) (by omega)) ⟨pk_in (9 * to + 8) 144 (by omega) (ix_9 to 8), nm_r (e' := upd aC (9 * to + 8) (nI (pz_c (dr_d (m fr)) 8).val)) ?_ (h _ (vc_9 (vc_up V ht (by omega)) (by have := dr_sz (f := m fr) (n := 8) s2; omega) s1))⟩
    rw [show (8 : Int32) = nI 8 from rfl, cl_9 (by omega), sz_ge (f := dr_d (m fr)) (i := 8) (dr_sz s2)]; rfl
  | succ d ih =>
    intro i aC hi V
    refine br_f (nI_ge (a := i) (b := 8) (by omega) (by omega)) ⟨pk_in (9 * fr + (i + 1)) 144 (by omega) (ix_91 fr i), p_nz K, pk_in (9 * to + i) 144 (by omega) (ix_9 to i), nm_r (e' := upd aC (9 * to + i) (nI (pz_c (dr_d (m fr)) i).val)) ?_ (nm_r (nI_1 i) (ih (i + 1) _ (by omega) (vc_up V ht (by omega))))⟩
    have b1 := pv_lt (pz_c (m fr) (i + 1)) K
    have b4 : (i + 1) * (pz_c (m fr) (i + 1)).val ≤ 9 * 5 := Nat.mul_le_mul (by omega) (by omega)
    have r1 : aC ((9 : Int32) * nI fr + nI i + 1).toNatClampNeg = nI (pz_c (m fr) (i + 1)).val := by
      rw [ix_91, ← ix_9, vc_rd V hf (by omega)]
      by_cases e : fr = to
      · rw [e, st_s, x_c, if_neg (by omega)]
      · rw [st_n e]
    rw [r1, cl_9 (by omega), nI_1, pk_mul, rm_p K (by omega), fv_mul, fv_of, dr_c]
theorem xw_deriveInto (K : PK q iR) (V : VC m aC) {to fr : Nat} (ht : to < 16) (hf : fr < 16) {post : SX → Prop} (h : ∀ aC, VC (st_l m to (dr_d (m fr))) aC → post ((nI (q + 1)), fL, fF, fB, fC, aC, aI, aM, aR, aB, aP, aD, aF, aT, aQ)) : wpX_deriveInto post ((nI (q + 1)), fL, fF, fB, fC, aC, aI, aM, aR, aB, aP, aD, aF, aT, aQ) (nI to) (nI fr) :=
  ⟨9, xl_derive K ht hf (vc_s V ht) (vc_s V hf) h 8 0 aC rfl (vc_0 V to _)⟩
theorem xl_value (K : PK q iR) (V : VC m aC) {l x : Nat} (hl : l < 16) (hx : x ≤ 5) {post : Int32 → Prop} (h : post (nI (ho_v (m l) x 9))) : ∀ k d, k + d = 9 → wX_valueOf_6 post (nI l) (nI x) (nI (q + 1)) fL fF fB fC aC aI aM aR aB aP aD aF aT aQ (k + 1) (nI (ho_v (m l) x d)) (dn k) := by
  intro k
  induction k with
  | zero =>
    intro d hd
    have e : d = 9 := by omega
    subst e
    exact br_t ((dn_neg (by omega)).mpr rfl) h
  | succ k ih =>
    intro d hd
    rw [dn_s]
    refine br_f (nI_pos (by omega)) ⟨pk_in (9 * l + k) 144 (by omega) (ix_9 l k), p_nz K, nm_r (e' := nI (ho_v (m l) x (d + 1))) ?_ (nm_e (ih (d + 1) (by omega)))⟩
    have b1 := pv_lt (pz_c (m l) k) K
    have b2 := ho_lt K (m l) x d
    have b4 : ho_v (m l) x d * x ≤ 5 * 5 := Nat.mul_le_mul (by omega) hx
    rw [vc_rd V hl (by omega), pk_mul, nI_add, pk_rem (by omega) (by omega) (by have := q_5 K; omega), ho_v, show 8 - d = k by omega]
theorem xw_valueOf (K : PK q iR) (V : VC m aC) {l x : Nat} (hl : l < 16) (hx : x ≤ 5) {post : Int32 → Prop} (h : post (nI (ho_v (m l) x 9))) : wpX_valueOf post ((nI (q + 1)), fL, fF, fB, fC, aC, aI, aM, aR, aB, aP, aD, aF, aT, aQ) (nI l) (nI x) :=
  ⟨10, xl_value K V hl hx h 9 0 rfl⟩
theorem xl_roots (K : PK q iR) (V : VC m aC) {l : Nat} (hl : l < 16) {post : Int32 → Prop} (h : post (nI (ro_c (m l) (q + 1)))) : ∀ d k, k + d = q + 1 → wX_roots_13 post (nI l) (nI (q + 1)) fL fF fB fC aC aI aM aR aB aP aD aF aT aQ (d + 1) (nI (ro_c (m l) k)) (nI k) := by
  have h5 := q_5 K
  intro d
  induction d with
  | zero =>
    intro k hk
    have e : k = q + 1 := by omega
    subst e
    exact br_t (nI_le (by omega) (by omega)) h
  | succ d ih =>
    intro k hk
    have i1 := ih (k + 1) (by omega)
    rw [ro_c] at i1
    refine br_f (nI_ge (by omega) (by omega)) (xw_valueOf K V hl (by omega) ?_)
    have b := ho_lt K (m l) k 9
    refine br_c (fun z => nm_r (nI_1 _) (nm_r (nI_1 k) ?_)) (fun z => nm_r (e' := nI (ro_c (m l) k)) ?_ (nm_r (nI_1 k) ?_))
    · rw [if_pos ((nI_eq (a := ho_v (m l) k 9) (b := 0) (by omega) (by omega)).mp z)] at i1
      exact i1
    · exact nI_add _ 0
    · rw [if_neg (fun c => z (by rw [c]; rfl))] at i1
      exact i1
theorem xl_power (K : PK q iR) {n : Nat} (hn : n ≤ 9) {post : Int32 → Prop} (h : post (nI ((q + 1) ^ n))) : ∀ d k, k + d = n → wX_power_4 post (nI n) (nI (q + 1)) fL fF fB fC aC aI aM aR aB aP aD aF aT aQ (d + 1) (nI ((q + 1) ^ k)) (nI k) := by
  intro d
  induction d with
  | zero =>
    intro k hk
    have e : k = n := by omega
    subst e
    exact br_t (nI_le (by omega) (by omega)) h
  | succ d ih =>
    intro k hk
    refine br_f (nI_ge (by omega) (by omega)) (br_f (nI_ge (a := k) (b := 9) (by omega) (by omega)) (nm_r (e' := nI ((q + 1) ^ (k + 1))) ?_ (nm_r (nI_1 k) (ih (k + 1) (by omega)))))
    rw [pk_mul, Nat.pow_succ]
theorem xw_power (K : PK q iR) {n : Nat} (hn : n ≤ 9) {post : Int32 → Prop} (h : post (nI ((q + 1) ^ n))) : wpX_power post ((nI (q + 1)), fL, fF, fB, fC, aC, aI, aM, aR, aB, aP, aD, aF, aT, aQ) (nI n) :=
  ⟨n + 1, xl_power K hn h n 0 (by omega)⟩
theorem xl_root (K : PK q iR) (s1 : pz_s (m 10) ≤ 9) {post : SX → Prop} (h : ∀ aC, VC (st_l m 10 (rt_r (m 10))) aC → post ((nI (q + 1)), fL, fF, fB, fC, aC, aI, aM, aR, aB, aP, aD, aF, aT, aQ)) : ∀ (d i : Nat) (aC : Nat → Int32), i + d = 9 → VC (st_l m 10 (pz_x i (rt_r (m 10)) (m 10))) aC → wX_rootOfPower_2 post (nI (q + 1)) fL fF fB fC (d + 1) (nI i) aC aI aM aR aB aP aD aF aT aQ := by
  have h5 := q_5 K
  intro d
  induction d with
  | zero =>
    intro i aC hi V
    have e : i = 9 := by omega
    subst e
    refine br_t (nI_le (a := 9) (b := 9) (by omega) (by omega)) (h aC (vc_9 V (sz_le (fun i hi => ?_)) s1))
    rw [rt_c]
    refine sz_ge (Nat.le_trans s1 (Nat.le_trans hi (Nat.le_mul_of_pos_left i (by omega))))
  | succ d ih =>
    intro i aC hi V
    have i1 := ih (i + 1) _ (by omega) (vc_up V (by omega) (by omega))
    have hm : (q + 1) * i ≤ 5 * i := Nat.mul_le_mul_right i h5
    have hm2 : i ≤ (q + 1) * i := Nat.le_mul_of_pos_left i (by omega)
    have e90 : ∀ j, (90 : Int32) + nI j = nI (90 + j) := fun j => nI_add 90 j
    refine br_f (nI_ge (a := i) (b := 9) (by omega) (by omega)) ?_
    rw [pk_mul]
    refine pk_le 9 ((q + 1) * i) (fun c => ⟨pk_in (90 + i) 144 (by omega) (e90 i), nm_r (e' := upd aC (9 * 10 + i) (nI (pz_c (rt_r (m 10)) i).val)) ?_ (nm_r (nI_1 i) i1)⟩) (fun c => ⟨pk_in (90 + (q + 1) * i) 144 (by omega) (e90 _), pk_in (90 + i) 144 (by omega) (e90 i), nm_r (e' := upd aC (9 * 10 + i) (nI (pz_c (rt_r (m 10)) i).val)) ?_ (nm_r (nI_1 i) i1)⟩) rfl rfl (by omega) (by omega)
    · rw [e90, nI_clamp (by omega), rt_c, sz_ge (by omega)]; rfl
    · rw [e90, e90, nI_clamp (by omega), nI_clamp (by omega), rt_c]
      have r1 := (V 10 (by omega)).2 ((q + 1) * i) (by omega)
      rw [show 90 + (q + 1) * i = 9 * 10 + (q + 1) * i by omega, r1, st_s, x_c, if_neg (by omega)]
theorem xw_rootOfPower (K : PK q iR) (V : VC m aC) {post : SX → Prop} (h : ∀ aC, VC (st_l m 10 (rt_r (m 10))) aC → post ((nI (q + 1)), fL, fF, fB, fC, aC, aI, aM, aR, aB, aP, aD, aF, aT, aQ)) : wpX_rootOfPower post ((nI (q + 1)), fL, fF, fB, fC, aC, aI, aM, aR, aB, aP, aD, aF, aT, aQ) :=
  ⟨10, xl_root K (vc_s V (by omega)) h 9 0 aC rfl (vc_0 V 10 _)⟩
/-! X to the power p * i, reduced -/
theorem xl_shift (K : PK q iR) (IV : iv_T q aI) {f s : Nat} {x1 : Int32} (hf : f < 16) (f4 : f ≠ 4) (f6 : f ≠ 6) (f0 : m f ≠ 0) (s6 : pz_s (m 6) ≤ 8) {post : SX → Prop} {J : Int32 → Int32 → Int32 → Int32 → Int32 → Int32 → (Nat → Int32) → (Nat → Int32) → (Nat → Int32) → (Nat → Int32) → (Nat → Int32) → (Nat → Int32) → (Nat → Int32) → (Nat → Int32) → (Nat → Int32) → (Nat → Int32) → Prop} (h : ∀ (Q r : Pz q) (aC : Nat → Int32), pz_mo 1 1 * m 6 = m f * Q + r → pz_s r < pz_s (m f) → VC (st_l (st_l m 4 Q) 6 r) aC → J (nI (s + 1)) (nI (q + 1)) fL fF fB fC aC aI aM aR aB aP aD aF aT aQ) : ∀ (k : Nat) (aC : Nat → Int32), k ≤ 8 → VC (st_l m 6 (pz_x (k + 1) (m 6) (pz_mo 1 1 * m 6))) aC → wX_powerOfX_23 post J x1 (nI f) (nI s) (nI (q + 1)) fL fF fB fC (k + 1) (nI k) aC aI aM aR aB aP aD aF aT aQ := by
  have cF : ∀ i, pz_c (pz_mo 1 1 * m 6) i = if 1 ≤ i then pz_c (m 6) (i - 1) else 0 := fun i => by
    rw [mo_mul K]
    split
    · exact Lean.Grind.Semiring.one_mul _
    · rfl
  have e54 : ∀ j, (54 : Int32) + nI j = nI (9 * 6 + j) := fun j => nI_add 54 j
  intro k
  induction k with
  | zero =>
    intro aC _ V
    refine br_t (by decide) (nm_r (e' := upd aC (9 * 6 + 0) (nI (pz_c (pz_mo 1 1 * m 6) 0).val)) ?_ ?_)
    · rw [cF, if_neg (by omega)]; rfl
    · have V1 := vc_d0 (vc_dn V (by omega) (by omega))
      refine xw_divideInto K IV V1 (qo := 4) (a := 6) (by omega) (by omega) hf (by omega) (by omega) (by omega) (by rw [st_n f6]; exact f0) (fun Q r aC e hr V2 => nm_r (nI_1 s) ?_)
      rw [st_s, st_n f6] at e
      rw [st_n f6] at hr
      refine h Q r aC e hr (vc_eq V2 (fun l hl => ?_))
      by_cases l6 : l = 6
      · rw [l6, st_s, st_s]
      · rw [st_n l6, st_n l6]
        by_cases l4 : l = 4
        · rw [l4, st_s, st_s]
        · rw [st_n l4, st_n l4, st_n l6]
  | succ k ih =>
    intro aC hk V
    refine br_f (nI_nle (by omega) (by omega)) ⟨?_, pk_in (9 * 6 + (k + 1)) 144 (by omega) (e54 _), nm_r (e' := upd aC (9 * 6 + (k + 1)) (nI (pz_c (pz_mo 1 1 * m 6) (k + 1)).val)) ?_ (nm_r (pk_m1 k) (ih _ (by omega) (vc_dn V (by omega) (by omega))))⟩
    · rw [e54, ← Nat.add_assoc, nI_pred]; exact vp_in_nI (by omega) (by omega)
    · rw [e54, ← Nat.add_assoc, nI_pred, nI_clamp (by omega), nI_clamp (by omega), (V 6 (by omega)).2 k (by omega), st_s, x_c, if_pos (by omega), cF, if_pos (by omega), Nat.add_sub_cancel]
theorem xl_powX (K : PK q iR) (IV : iv_T q aI) {f i : Nat} (hf : f < 16) (f4 : f ≠ 4) (f6 : f ≠ 6) (hi : i ≤ 8) {m0 : Nat → Pz q} (f2 : 2 ≤ pz_s (m0 f)) {post : SX → Prop} (h : ∀ (m : Nat → Pz q) (aC : Nat → Int32), pz_s (m 6) < pz_s (m0 f) → dv_d (m0 f) (pz_mo 1 (i * (q + 1)) - m 6) → (∀ l, l ≠ 4 → l ≠ 6 → m l = m0 l) → VC m aC → post ((nI (q + 1)), fL, fF, fB, fC, aC, aI, aM, aR, aB, aP, aD, aF, aT, aQ)) : ∀ (d s : Nat) (m : Nat → Pz q) (aC : Nat → Int32), s + d = (q + 1) * i → pz_s (m 6) < pz_s (m0 f) → dv_d (m0 f) (pz_mo 1 s - m 6) → (∀ l, l ≠ 4 → l ≠ 6 → m l = m0 l) → VC m aC → wX_powerOfX_9 post (nI i) (nI f) (d + 1) (nI s) (nI (q + 1)) fL fF fB fC aC aI aM aR aB aP aD aF aT aQ := by
  have hm : (q + 1) * i ≤ 5 * 8 := Nat.mul_le_mul (q_5 K) hi
  intro d
  induction d with
  | zero =>
    intro s m aC hs h1 h2 h3 V
    have e : s = (q + 1) * i := by omega
    rw [e, Nat.mul_comm] at h2
    refine br_t ?_ (h m aC h1 h2 h3 V)
    rw [pk_mul]
    exact nI_le (by omega) (by omega)
  | succ d ih =>
    intro s m aC hs h1 h2 h3 V
    have sf : pz_s (m0 f) ≤ 9 := by rw [← h3 f f4 f6]; exact vc_s V hf
    refine br_f ?_ ⟨9, ?_⟩
    · rw [pk_mul]
      exact nI_ge (by omega) (by omega)
    · refine xl_shift K IV hf f4 f6 (by rw [h3 f f4 f6]; exact sz_ne K (by omega)) (by omega) (fun Q r aC e hr V1 => ?_) 8 aC (by omega) (vc_d9 V (by omega) ?_)
      · rw [h3 f f4 f6] at e hr
        refine ih (s + 1) _ aC (by omega) (by rw [st_s]; exact hr) ?_ (fun l l4 l6 => by rw [st_n l6, st_n l4]; exact h3 l l4 l6) V1
        rw [st_s]
        have e1 : pz_mo 1 (s + 1) - r = pz_mo 1 1 * (pz_mo 1 s - m 6) + m0 f * Q := by
          have e2 : (pz_mo 1 (s + 1) : Pz q) = pz_mo 1 1 * pz_mo 1 s := by rw [mo_mo K, Nat.add_comm 1 s, Lean.Grind.Semiring.mul_one]
          have e3 : pz_mo 1 1 * (pz_mo 1 s - m 6) = pz_mo 1 1 * pz_mo 1 s - pz_mo 1 1 * m 6 := by grind
          rw [e3, ← e2, e]; grind
        rw [e1]
        exact dv_add (dv_mulL _ h2) (dv_l _ _)
      · have := sz_mul_le K (f := pz_mo 1 1) (g := m 6) (a := 1) (b := 7) (sz_mo_le _ _) (by omega)
        omega
theorem xw_powerOfX (K : PK q iR) (IV : iv_T q aI) (V : VC m aC) {f i : Nat} (hf : f < 16) (f4 : f ≠ 4) (f6 : f ≠ 6) (hi : i ≤ 8) (f2 : 2 ≤ pz_s (m f)) {post : SX → Prop} (h : ∀ (m' : Nat → Pz q) (aC : Nat → Int32), pz_s (m' 6) < pz_s (m f) → dv_d (m f) (pz_mo 1 (i * (q + 1)) - m' 6) → (∀ l, l ≠ 4 → l ≠ 6 → m' l = m l) → VC m' aC → post ((nI (q + 1)), fL, fF, fB, fC, aC, aI, aM, aR, aB, aP, aD, aF, aT, aQ)) : wpX_powerOfX post ((nI (q + 1)), fL, fF, fB, fC, aC, aI, aM, aR, aB, aP, aD, aF, aT, aQ) (nI i) (nI f) := by
  have e1 : (ce_d 1 : Pz q) = 1 := pz_ext (fun i => by
    rw [ce_dc K, pz_one K]
    by_cases c : i = 0
    · rw [c, Nat.pow_zero, Nat.div_one, if_pos rfl]; rfl
    · rw [if_neg c, Nat.div_eq_of_lt]
      · rfl
      · exact Nat.one_lt_pow c (k_2 K))
  refine xw_decode K V (l := 6) (c := 1) (by omega) (Nat.one_lt_pow (by omega) (k_2 K)) (fun aC V1 => ⟨(q + 1) * i + 1, ?_⟩)
  rw [e1] at V1
  refine xl_powX K IV hf f4 f6 hi f2 h ((q + 1) * i) 0 _ aC (by omega) ?_ ?_ (fun l l4 l6 => by rw [st_n l6]) V1
  · rw [st_s, sz_1 K]; omega
  · rw [st_s, mo_one K]
    have e : (1 : Pz q) - 1 = 0 := by grind
    rw [e]
    exact dv_zero _
end
end
section
/-! X: the matrix and its elimination -/
def MT {q : Nat} (n : Nat) (M : Nat → Nat → Fin (q + 1)) (a : Nat → Int32) : Prop := ∀ r c, r < n → c < n → a (8 * r + c) = nI (M r c).val
def PV (pr : Nat → Option Nat) (a : Nat → Int32) : Prop := ∀ k, k < 8 → (pr k = none → a k = -1) ∧ ∀ r, pr k = some r → a k = nI r
def sw_M {q : Nat} (M : Nat → Nat → Fin (q + 1)) (a b c : Nat) : Nat → Nat → Fin (q + 1) := fun r k => if k < c then (if r = a then M b k else if r = b then M a k else M r k) else M r k
def sr_M {q : Nat} (M : Nat → Nat → Fin (q + 1)) (r row : Nat) (f : Fin (q + 1)) (i : Nat) : Nat → Nat → Fin (q + 1) := fun r' k => if r' = r ∧ k < i then M r k - f * M row k else M r' k
def sc_M {q : Nat} (M : Nat → Nat → Fin (q + 1)) (row : Nat) (t : Fin (q + 1)) (i : Nat) : Nat → Nat → Fin (q + 1) := fun r' k => if r' = row ∧ k < i then M row k * t else M r' k
def cl_M {q : Nat} (N : Nat → Nat → Fin (q + 1)) (row c i : Nat) : Nat → Nat → Fin (q + 1) := fun r' k => if r' < i ∧ r' ≠ row then N r' k - N r' c * N row k else N r' k
section
variable {q : Nat} {iR : Lean.Grind.CommRing (Pz q)}
variable {fL fF fB fC : Int32} {aC aI aM aR aB aP aD aF aT aQ : Nat → Int32} {m : Nat → Pz q} {n : Nat} {M : Nat → Nat → Fin (q + 1)}
theorem fv_sub (v : Fin (q + 1)) {z : Nat} (hz : z ≤ q + 1) : (fq_v (v.val + (q + 1) - z) : Fin (q + 1)) = v - fq_v z := by
  have h2 := fv_add (q := q) (v.val + (q + 1) - z) z
  rw [Nat.sub_add_cancel (by omega), fv_add, fv_of, show (fq_v (q + 1) : Fin (q + 1)) = 0 from fv_z.mpr (Nat.mod_self _), Lean.Grind.Semiring.add_zero] at h2
  generalize (fq_v (v.val + (q + 1) - z) : Fin (q + 1)) = x at *
  generalize (fq_v z : Fin (q + 1)) = y at *
  rw [h2, Lean.Grind.Ring.sub_eq_add_neg, Lean.Grind.Semiring.add_assoc, Lean.Grind.Semiring.add_comm y, Lean.Grind.Ring.neg_add_cancel, Lean.Grind.Semiring.add_zero]
theorem fv_neg (x : Fin (q + 1)) : (fq_v (q + 1 - x.val) : Fin (q + 1)) = - x := by
  have h := fv_sub (0 : Fin (q + 1)) (z := x.val) (Nat.le_of_lt x.isLt)
  rw [fv_of, Lean.Grind.Ring.sub_eq_add_neg, Lean.Grind.AddCommMonoid.zero_add] at h
  rw [← h]
  exact congrArg fq_v (by show q + 1 - x.val = 0 + (q + 1) - x.val; omega)
theorem mt_rd (T : MT n M aM) (hn : n ≤ 8) {r c : Nat} (hr : r < n) (hc : c < n) : aM ((8 : Int32) * nI r + nI c).toNatClampNeg = nI (M r c).val := by
  rw [cl_8 (by omega)]
  exact T r c hr hc
theorem mt_wr {M2 : Nat → Nat → Fin (q + 1)} {v : Fin (q + 1)} (T : MT n M aM) (hn : n ≤ 8) {r c : Nat} (h : ∀ r' c', r' < n → c' < n → M2 r' c' = if r' = r ∧ c' = c then v else M r' c') (hc : c < n) : MT n M2 (upd aM (8 * r + c) (nI v.val)) := fun r' c' h1 h2 => by
  rw [h r' c' h1 h2]
  by_cases e : r' = r ∧ c' = c
  · rw [if_pos e, e.1, e.2, pk_us]
  · rw [if_neg e, pk_un (by omega)]
    exact T r' c' h1 h2
theorem in_8 {n r c : Nat} (hn : n ≤ 8) (hr : r < n) (hc : c < n) : vp_in ((8 : Int32) * nI r + nI c) 64 := pk_in (8 * r + c) 64 (by omega) (ix_8 r c)
theorem xl_pivot (K : PK q iR) (T : MT n M aM) (hn : n ≤ 8) {c row : Nat} (hc : c < n) {post : Int32 → Prop} (h1 : ∀ r, row ≤ r → r < n → M r c ≠ 0 → post (nI r)) (h0 : (∀ r, row ≤ r → r < n → M r c = 0) → post (-1)) : ∀ d r, r + d = n → row ≤ r → (∀ r', row ≤ r' → r' < r → M r' c = 0) → wX_pivotAt_3 post (nI c) (nI n) (nI (q + 1)) fL fF fB fC aC aI aM aR aB aP aD aF aT aQ (d + 1) (nI r) := by
  intro d
  induction d with
  | zero =>
    intro r hr hrow hz
    exact br_t (nI_le (by omega) (by omega)) (h0 (fun r' a b => hz r' a (by omega)))
  | succ d ih =>
    intro r hr hrow hz
    refine br_f (nI_ge (by omega) (by omega)) ⟨in_8 hn (by omega) hc, ?_⟩
    rw [mt_rd T hn (by omega) hc]
    refine br_c (fun z => nm_r (nI_1 r) (ih (r + 1) (by omega) (by omega) (fun r' a b => ?_))) (fun z => h1 r hrow (by omega) (fun y => z ((nz_v K _).mpr y)))
    by_cases e : r' = r
    · rw [e]; exact (nz_v K _).mp z
    · exact hz r' a (by omega)
theorem xw_pivotAt (K : PK q iR) (T : MT n M aM) (hn : n ≤ 8) {c row : Nat} (hc : c < n) (hr : row ≤ n) {post : Int32 → Prop} (h1 : ∀ r, row ≤ r → r < n → M r c ≠ 0 → post (nI r)) (h0 : (∀ r, row ≤ r → r < n → M r c = 0) → post (-1)) : wpX_pivotAt post ((nI (q + 1)), fL, fF, fB, fC, aC, aI, aM, aR, aB, aP, aD, aF, aT, aQ) (nI row) (nI c) (nI n) :=
  ⟨n - row + 1, xl_pivot K T hn hc h1 h0 (n - row) row (by omega) (Nat.le_refl _) (fun r' a b => by omega)⟩
theorem xl_swap (hn : n ≤ 8) {a b : Nat} (ha : a < n) (hb : b < n) {fP : Int32} {post : SX → Prop} (h : ∀ aM, MT n (sw_M M a b n) aM → post (fP, fL, fF, fB, fC, aC, aI, aM, aR, aB, aP, aD, aF, aT, aQ)) : ∀ (d c : Nat) (aM : Nat → Int32), c + d = n → MT n (sw_M M a b c) aM → wX_swapRows_3 post (nI a) (nI b) (nI n) fP fL fF fB fC (d + 1) (nI c) aC aI aM aR aB aP aD aF aT aQ := by
  intro d
  induction d with
  | zero =>
    intro c aM hc T
    have e : c = n := by omega
    subst e
    exact br_t (nI_le (by omega) (by omega)) (h aM T)
  | succ d ih =>
    intro c aM hc T
    have r1 : aM ((8 : Int32) * nI a + nI c).toNatClampNeg = nI (M a c).val := by
      rw [mt_rd T hn ha (by omega)]
      unfold sw_M
      rw [if_neg (by omega)]
    have r2 : aM ((8 : Int32) * nI b + nI c).toNatClampNeg = nI (M b c).val := by
      rw [mt_rd T hn hb (by omega)]
      unfold sw_M
      rw [if_neg (by omega)]
    refine br_f (nI_ge (by omega) (by omega)) ⟨in_8 hn ha (by omega), nm_r r1 ⟨in_8 hn hb (by omega), in_8 hn ha (by omega), nm_r (e' := upd aM (8 * a + c) (nI (M b c).val)) ?_ ⟨in_8 hn hb (by omega), nm_r (e' := upd (upd aM (8 * a + c) (nI (M b c).val)) (8 * b + c) (nI (M a c).val)) ?_ (nm_r (nI_1 c) (ih (c + 1) _ (by omega) ?_))⟩⟩⟩
    · rw [r2, cl_8 (by omega)]
    · rw [cl_8 (by omega)]
    · refine mt_wr (M := fun r k => if r = a ∧ k = c then M b c else sw_M M a b c r k) (mt_wr T hn (fun r' c' h1 h2 => rfl) (by omega)) hn (fun r' c' h1 h2 => ?_) (by omega)
      unfold sw_M
      grind
theorem xw_swapRows (T : MT n M aM) (hn : n ≤ 8) {a b : Nat} (ha : a < n) (hb : b < n) {fP : Int32} {post : SX → Prop} (h : ∀ aM, MT n (sw_M M a b n) aM → post (fP, fL, fF, fB, fC, aC, aI, aM, aR, aB, aP, aD, aF, aT, aQ)) : wpX_swapRows post (fP, fL, fF, fB, fC, aC, aI, aM, aR, aB, aP, aD, aF, aT, aQ) (nI a) (nI b) (nI n) :=
  ⟨n + 1, xl_swap hn ha hb h n 0 aM (by omega) (fun r c h1 h2 => by
    unfold sw_M
    rw [if_neg (by omega)]
    exact T r c h1 h2)⟩
theorem xl_subRow (K : PK q iR) (hn : n ≤ 8) {r row : Nat} {f : Fin (q + 1)} (hr : r < n) (hw : row < n) (ne : r ≠ row) {post : SX → Prop} (h : ∀ aM, MT n (sr_M M r row f n) aM → post ((nI (q + 1)), fL, fF, fB, fC, aC, aI, aM, aR, aB, aP, aD, aF, aT, aQ)) : ∀ (d k : Nat) (aM : Nat → Int32), k + d = n → MT n (sr_M M r row f k) aM → wX_subtractRow_3 post (nI r) (nI row) (nI f.val) (nI n) (nI (q + 1)) fL fF fB fC (d + 1) (nI k) aC aI aM aR aB aP aD aF aT aQ := by
  intro d
  induction d with
  | zero =>
    intro k aM hk T
    have e : k = n := by omega
    subst e
    exact br_t (nI_le (by omega) (by omega)) (h aM T)
  | succ d ih =>
    intro k aM hk T
    have r1 : aM ((8 : Int32) * nI r + nI k).toNatClampNeg = nI (M r k).val := by
      rw [mt_rd T hn hr (by omega)]
      unfold sr_M
      rw [if_neg (by omega)]
    have r2 : aM ((8 : Int32) * nI row + nI k).toNatClampNeg = nI (M row k).val := by
      rw [mt_rd T hn hw (by omega)]
      unfold sr_M
      rw [if_neg (by omega)]
    refine br_f (nI_ge (by omega) (by omega)) ⟨in_8 hn hr (by omega), in_8 hn hw (by omega), p_nz K, in_8 hn hr (by omega), nm_r (e' := upd aM (8 * r + k) (nI (M r k - f * M row k).val)) ?_ (nm_r (nI_1 k) (ih (k + 1) _ (by omega) (mt_wr T hn (fun r' c' h1 h2 => ?_) (by omega))))⟩
    · have b1 := pv_lt (M r k) K
      have b2 := pv_lt (M row k) K
      have b3 := q_5 K
      have b4 : (q + 1 - f.val) * (M row k).val ≤ 5 * 5 := Nat.mul_le_mul (by omega) (by omega)
      rw [r1, r2, cl_8 (by omega), pk_sub (Nat.le_of_lt f.isLt), pk_mul, nI_add, rm_p K (by omega), fv_add, fv_mul, fv_of, fv_of, fv_neg, Lean.Grind.Ring.sub_eq_add_neg, Lean.Grind.Ring.neg_mul]
    · unfold sr_M
      by_cases e : r' = r ∧ c' = k
      · rw [if_pos e, if_pos (by omega), e.2]
      · rw [if_neg e]
        by_cases e2 : r' = r ∧ c' < k
        · rw [if_pos e2, if_pos (by omega)]
        · rw [if_neg e2, if_neg (by omega)]
theorem xw_subtractRow (K : PK q iR) (T : MT n M aM) (hn : n ≤ 8) {r row : Nat} {f : Fin (q + 1)} (hr : r < n) (hw : row < n) (ne : r ≠ row) {post : SX → Prop} (h : ∀ aM, MT n (sr_M M r row f n) aM → post ((nI (q + 1)), fL, fF, fB, fC, aC, aI, aM, aR, aB, aP, aD, aF, aT, aQ)) : wpX_subtractRow post ((nI (q + 1)), fL, fF, fB, fC, aC, aI, aM, aR, aB, aP, aD, aF, aT, aQ) (nI r) (nI row) (nI f.val) (nI n) :=
  ⟨n + 1, xl_subRow K hn hr hw ne h n 0 aM (by omega) (fun r' c h1 h2 => by
    unfold sr_M
    rw [if_neg (by omega)]
    exact T r' c h1 h2)⟩
theorem xl_clear2 (K : PK q iR) (hn : n ≤ 8) {row c : Nat} (hw : row < n) (hc : c < n) {post : SX → Prop} (h : ∀ aM, MT n (cl_M M row c n) aM → post ((nI (q + 1)), fL, fF, fB, fC, aC, aI, aM, aR, aB, aP, aD, aF, aT, aQ)) : ∀ (d r : Nat) (aM : Nat → Int32), r + d = n → MT n (cl_M M row c r) aM → wX_clearColumn_68 post (nI row) (nI c) (nI n) (d + 1) (nI r) (nI (q + 1)) fL fF fB fC aC aI aM aR aB aP aD aF aT aQ := by
  intro d
  induction d with
  | zero =>
    intro r aM hr T
    have e : r = n := by omega
    subst e
    exact br_t (nI_le (by omega) (by omega)) (h aM T)
  | succ d ih =>
    intro r aM hr T
    have r1 : aM ((8 : Int32) * nI r + nI c).toNatClampNeg = nI (M r c).val := by
      rw [mt_rd T hn (by omega) hc]
      unfold cl_M
      rw [if_neg (by omega)]
    have same : (r = row ∨ M r c = 0) → MT n (cl_M M row c (r + 1)) aM := fun z r' c' h1 h2 => by
      rw [T r' c' h1 h2]
      unfold cl_M
      by_cases e : r' = r
      · subst e
        rw [if_neg (by omega)]
        by_cases e2 : r' = row
        · rw [if_neg (by omega)]
        · rw [if_pos (by omega), z.resolve_left e2, Lean.Grind.Semiring.zero_mul, Lean.Grind.Ring.sub_eq_add_neg, Lean.Grind.AddCommGroup.neg_zero, Lean.Grind.Semiring.add_zero]
      · by_cases e2 : r' < r ∧ r' ≠ row
        · rw [if_pos e2, if_pos (by omega)]
        · rw [if_neg e2, if_neg (by omega)]
    refine br_f (nI_ge (by omega) (by omega)) ⟨in_8 hn (by omega) hc, nm_r r1 ?_⟩
    refine pk_eq r row (fun e => nm_r (nI_1 r) (ih (r + 1) aM (by omega) (same (Or.inl e)))) (fun ne => ?_) rfl rfl (by omega) (by omega)
    refine br_c (fun z => nm_r (nI_1 r) (ih (r + 1) aM (by omega) (same (Or.inr ((nz_v K _).mp z))))) (fun _ => ?_)
    refine xw_subtractRow K T hn (by omega) hw ne (fun aM T1 => nm_r (nI_1 r) (ih (r + 1) aM (by omega) (fun r' c' h1 h2 => ?_)))
    rw [T1 r' c' h1 h2]
    unfold sr_M cl_M
    by_cases e : r' = r
    · subst e
      rw [if_pos ⟨rfl, h2⟩, if_neg (by omega), if_neg (by omega), if_pos (by omega)]
    · rw [if_neg (fun z => e z.1)]
      by_cases e2 : r' < r ∧ r' ≠ row
      · rw [if_pos e2, if_pos (by omega)]
      · rw [if_neg e2, if_neg (by omega)]
theorem xl_clear1 (K : PK q iR) (hn : n ≤ 8) {row c : Nat} {t : Fin (q + 1)} (hw : row < n) (hc : c < n) {post : SX → Prop} (h : ∀ aM, MT n (cl_M (sc_M M row t n) row c n) aM → post ((nI (q + 1)), fL, fF, fB, fC, aC, aI, aM, aR, aB, aP, aD, aF, aT, aQ)) : ∀ (d k : Nat) (aM : Nat → Int32), k + d = n → MT n (sc_M M row t k) aM → wX_clearColumn_21 post (nI row) (nI c) (nI n) (nI t.val) (nI (q + 1)) fL fF fB fC (d + 1) (nI k) aC aI aM aR aB aP aD aF aT aQ := by
  intro d
  induction d with
  | zero =>
    intro k aM hk T
    have e : k = n := by omega
    subst e
    exact br_t (nI_le (by omega) (by omega)) ⟨k + 1, xl_clear2 K hn hw hc h k 0 aM (by omega) (fun r' c' h1 h2 => by
      unfold cl_M
      rw [if_neg (by omega)]
      exact T r' c' h1 h2)⟩
  | succ d ih =>
    intro k aM hk T
    have r1 : aM ((8 : Int32) * nI row + nI k).toNatClampNeg = nI (M row k).val := by
      rw [mt_rd T hn hw (by omega)]
      unfold sc_M
      rw [if_neg (by omega)]
    refine br_f (nI_ge (by omega) (by omega)) ⟨in_8 hn hw (by omega), p_nz K, in_8 hn hw (by omega), nm_r (e' := upd aM (8 * row + k) (nI (M row k * t).val)) ?_ (nm_r (nI_1 k) (ih (k + 1) _ (by omega) (mt_wr T hn (fun r' c' h1 h2 => ?_) (by omega))))⟩
    · have b1 := pv_lt (M row k) K
      have b2 := pv_lt t K
      have b4 : (M row k).val * t.val ≤ 5 * 5 := Nat.mul_le_mul (by omega) (by omega)
      rw [r1, cl_8 (by omega), pk_mul, rm_p K (by omega), fv_mul, fv_of, fv_of]
    · unfold sc_M
      by_cases e : r' = row ∧ c' = k
      · rw [if_pos e, if_pos (by omega), e.2]
      · rw [if_neg e]
        by_cases e2 : r' = row ∧ c' < k
        · rw [if_pos e2, if_pos (by omega)]
        · rw [if_neg e2, if_neg (by omega)]
theorem xw_clearColumn (K : PK q iR) (IV : iv_T q aI) (T : MT n M aM) (hn : n ≤ 8) {row c : Nat} (hw : row < n) (hc : c < n) (hz : M row c ≠ 0) {post : SX → Prop} (h : ∀ (t : Fin (q + 1)) (aM : Nat → Int32) (M' : Nat → Nat → Fin (q + 1)), M row c * t = 1 → MT n M' aM → (∀ k, k < n → M' row k = M row k * t) → (∀ r k, r < n → k < n → r ≠ row → M' r k = M r k - M r c * M' row k) → post ((nI (q + 1)), fL, fF, fB, fC, aC, aI, aM, aR, aB, aP, aD, aF, aT, aQ)) : wpX_clearColumn post ((nI (q + 1)), fL, fF, fB, fC, aC, aI, aM, aR, aB, aP, aD, aF, aT, aQ) (nI row) (nI c) (nI n) := by
  obtain ⟨t, ht, et⟩ := IV _ hz
  have r1 := mt_rd T hn hw hc
  have b1 := pv_lt (M row c) K
  refine ⟨in_8 hn hw hc, ?_, nm_r (e' := nI t.val) ?_ ⟨n + 1, xl_clear1 (M := M) K hn hw hc (fun aM T1 => h t aM _ ht T1 (fun k hk => ?_) (fun r k hr hk ne => ?_)) n 0 aM (by omega) (fun r' c' h1 h2 => ?_)⟩⟩
  · rw [r1]; exact vp_in_nI (by omega) (by omega)
  · rw [r1, nI_clamp (by omega), et]
  · unfold cl_M sc_M
    rw [if_neg (by omega), if_pos ⟨rfl, hk⟩]
  · unfold cl_M sc_M
    rw [if_pos ⟨hr, ne⟩, if_neg (fun z => ne z.1), if_neg (fun z => ne z.1), if_pos ⟨rfl, hk⟩, if_neg (fun z => z.2 rfl)]
  · unfold sc_M
    rw [if_neg (by omega)]
    exact T r' c' h1 h2
end
end
section
/-! X: findBasis -/
def em_M {q : Nat} (L : Nat → Pz q) : Nat → Nat → Fin (q + 1) := fun r c => pz_c (L c) r - if c = r then 1 else 0
/-- lines of an array that needn't be whole -/
def LB {q : Nat} (s : Nat) (B : Nat → Pz q) (a : Nat → Int32) : Prop := ∀ j, j < s → pz_s (B j) ≤ 9 ∧ ∀ k, k < 9 → a (9 * j + k) = nI (pz_c (B j) k).val
def BI {q : Nat} (n : Nat) (M : Nat → Nat → Fin (q + 1)) (pr : Nat → Option Nat) (c s : Nat) (fc : Nat → Nat) (B : Nat → Pz q) : Prop :=
  s ≤ c ∧ (∀ j, j < s → j ≤ fc j ∧ fc j < c ∧ pr (fc j) = none ∧ ∀ k, pz_c (B j) k = ga_b n M pr (fc j) k) ∧
  (∀ g : Nat → Fin (q + 1), zs_m c (fun c => if pr c = none then g c else 0) = zs_m s (fun j => g (fc j)))
section
variable {q : Nat} {iR : Lean.Grind.CommRing (Pz q)}
variable {fL fF fB fC : Int32} {aC aI aM aR aB aP aD aF aT aQ : Nat → Int32} {m : Nat → Pz q} {n : Nat} {M : Nat → Nat → Fin (q + 1)} {pr : Nat → Option Nat}
theorem xl_250 {s c k : Nat} {z : Fin (q + 1)} (hs : s < 8) (hk : k < 9) (hc : c < 9) {z0 : Int32} (hz : z0 = nI z.val) {post : SX → Prop} {J1 : Int32 → Int32 → (Nat → Int32) → (Nat → Int32) → (Nat → Int32) → (Nat → Int32) → (Nat → Int32) → (Nat → Int32) → (Nat → Int32) → (Nat → Int32) → (Nat → Int32) → (Nat → Int32) → Prop} {J2 : Int32 → (Nat → Int32) → (Nat → Int32) → (Nat → Int32) → (Nat → Int32) → (Nat → Int32) → (Nat → Int32) → (Nat → Int32) → (Nat → Int32) → (Nat → Int32) → (Nat → Int32) → Prop} (hq : 1 ≤ q) (h : J2 (nI (k + 1)) aC aI aM aR (upd aB (9 * s + k) (nI (if k = c then 1 else z : Fin (q + 1)).val)) aP aD aF aT aQ) : wX_findBasis_250 post J1 J2 (nI n) (nI c) (nI k) z0 (nI (q + 1)) fL fF (nI s) fC aC aI aM aR aB aP aD aF aT aQ := by
  refine pk_eq k c (fun e => ?_) (fun e => ?_) rfl rfl (by omega) (by omega)
  · rw [if_pos e] at h
    refine ⟨pk_in (9 * s + k) 72 (by omega) (ix_9 s k), nm_r (e' := upd aB (9 * s + k) (nI (1 : Fin (q + 1)).val)) ?_ (nm_r (nI_1 k) h)⟩
    rw [cl_9 (by omega), show ((1 : Fin (q + 1)).val) = 1 from Nat.mod_eq_of_lt (Nat.succ_lt_succ hq)]; rfl
  · rw [if_neg e] at h
    refine ⟨pk_in (9 * s + k) 72 (by omega) (ix_9 s k), nm_r (e' := upd aB (9 * s + k) (nI z.val)) ?_ (nm_r (nI_1 k) h)⟩
    rw [cl_9 (by omega), hz]
theorem xl_195 (K : PK q iR) (T : MT n M aM) (P : PV pr aR) (hn : n ≤ 8) {s c : Nat} (hs : s < 8) (hc : c < n) (hcp : ∀ k r, k < n → pr k = some r → r < n) {aB0 : Nat → Int32} {post : SX → Prop} {J : Int32 → Int32 → (Nat → Int32) → (Nat → Int32) → (Nat → Int32) → (Nat → Int32) → (Nat → Int32) → (Nat → Int32) → (Nat → Int32) → (Nat → Int32) → (Nat → Int32) → (Nat → Int32) → Prop} (h : ∀ aB, (∀ j k, j < s → k < 9 → aB (9 * j + k) = aB0 (9 * j + k)) → (∀ k, k < 9 → aB (9 * s + k) = nI (ga_b n M pr c k).val) → J (nI (c + 1)) (nI (s + 1)) aC aI aM aR aB aP aD aF aT aQ) : ∀ (d k : Nat) (aB : Nat → Int32), k + d = 9 → (∀ j k, j < s → k < 9 → aB (9 * j + k) = aB0 (9 * j + k)) → (∀ k', k' < k → aB (9 * s + k') = nI (ga_b n M pr c k').val) → wX_findBasis_195 post J (nI n) (nI c) (nI (q + 1)) fL fF (nI s) fC (d + 1) (nI k) aC aI aM aR aB aP aD aF aT aQ := by
  have hq : 1 ≤ q := by have := K.2; omega
  intro d
  induction d with
  | zero =>
    intro k aB hk h1 h2
    have e : k = 9 := by omega
    subst e
    exact br_t (nI_le (a := 9) (b := 9) (by omega) (by omega)) (nm_r (nI_1 s) (nm_r (nI_1 c) (h aB h1 h2)))
  | succ d ih =>
    intro k aB hk h1 h2
    have go : ∀ z : Fin (q + 1), (if k = c then 1 else z) = ga_b n M pr c k → wX_findBasis_195 post J (nI n) (nI c) (nI (q + 1)) fL fF (nI s) fC (d + 1) (nI (k + 1)) aC aI aM aR (upd aB (9 * s + k) (nI (if k = c then 1 else z : Fin (q + 1)).val)) aP aD aF aT aQ := fun z hz => by
      refine ih (k + 1) _ (by omega) (fun j k' hj hk' => ?_) (fun k' hk' => ?_)
      · rw [pk_un (by omega)]; exact h1 j k' hj hk'
      · by_cases e : k' = k
        · rw [e, pk_us, hz]
        · rw [pk_un (by omega)]; exact h2 k' (by omega)
    have g0 : (pr k = none ∨ ¬ k < n) → (if k = c then 1 else (0 : Fin (q + 1))) = ga_b n M pr c k := fun z => by
      by_cases e : k = c
      · rw [if_pos e, e, gb_self]
      · rw [if_neg e]
        rcases z with z | z
        · rw [gb_free e z]
        · rw [gb_out e z]
    refine br_f (nI_ge (a := k) (b := 9) (by omega) (by omega)) ?_
    refine pk_le n k (fun e => ?_) (fun e => ⟨vp_in_nI (by omega) (by omega), ?_⟩) rfl rfl (by omega) (by omega)
    · unfold wX_findBasis_249
      exact xl_250 (z := 0) hs (by omega) (by omega) rfl hq (go 0 (g0 (Or.inr (by omega))))
    · rw [nI_clamp (by omega)]
      cases ep : pr k with
      | none =>
        rw [(P k (by omega)).1 ep]
        refine br_t (by decide) ?_
        unfold wX_findBasis_249
        exact xl_250 (z := 0) hs (by omega) (by omega) rfl hq (go 0 (g0 (Or.inl ep)))
      | some r =>
        have hr := hcp k r e ep
        rw [(P k (by omega)).2 r ep]
        refine br_f (nI_pos (by omega)) ⟨vp_in_nI (by omega) (by omega), in_8 hn hr hc, p_nz K, ?_⟩
        refine xl_250 (z := - M r c) hs (by omega) (by omega) ?_ hq (go _ ?_)
        · have b1 := pv_lt (M r c) K
          have b3 := q_5 K
          rw [mt_rd T hn hr hc, pk_sub (Nat.le_of_lt (M r c).isLt), rm_p K (by omega), fv_neg]
        · by_cases e2 : k = c
          · rw [if_pos e2, e2, gb_self]
          · rw [if_neg e2, gb_piv e2 e ep]
theorem xl_176 (K : PK q iR) (T : MT n M aM) (P : PV pr aR) (hn : n ≤ 8) (hcp : ∀ k r, k < n → pr k = some r → r < n) {post : SX → Prop} (h : ∀ (s : Nat) (fc : Nat → Nat) (B : Nat → Pz q) (aB : Nat → Int32), BI n M pr n s fc B → LB s B aB → post ((nI (q + 1)), fL, fF, (nI s), fC, aC, aI, aM, aR, aB, aP, aD, aF, aT, aQ)) : ∀ (d c s : Nat) (fc : Nat → Nat) (B : Nat → Pz q) (aB : Nat → Int32), c + d = n → BI n M pr c s fc B → LB s B aB → wX_findBasis_176 post (nI n) (nI (q + 1)) fL fF fC (d + 1) (nI c) (nI s) aC aI aM aR aB aP aD aF aT aQ := by
  intro d
  induction d with
  | zero =>
    intro c s fc B aB hc hB hL
    have e : c = n := by omega
    subst e
    exact br_t (nI_le (by omega) (by omega)) (h s fc B aB hB hL)
  | succ d ih =>
    intro c s fc B aB hc hB hL
    refine br_f (nI_ge (by omega) (by omega)) ⟨vp_in_nI (by omega) (by omega), ?_⟩
    rw [nI_clamp (by omega)]
    obtain ⟨b1, b2, b3⟩ := hB
    cases ep : pr c with
    | some r =>
      have hr := hcp c r (by omega) ep
      rw [(P c (by omega)).2 r ep]
      refine br_t (nI_pos' (by omega)) (nm_r (nI_1 c) (ih (c + 1) s fc B aB (by omega) ⟨by omega, fun j hj => ?_, fun g => ?_⟩ hL))
      · obtain ⟨x1, x2, x3, x4⟩ := b2 j hj
        exact ⟨x1, by omega, x3, x4⟩
      · rw [zs_m, b3, if_neg (by rw [ep]; exact fun z => nomatch z)]
        exact Lean.Grind.Semiring.add_zero _
    | none =>
      rw [(P c (by omega)).1 ep]
      refine br_f (by decide) ⟨10, ?_⟩
      have cB : ∀ k, pz_c (po_mk 9 (ga_b n M pr c) : Pz q) k = ga_b n M pr c k := fun k => by
        show (if k < 9 then ga_b n M pr c k else 0) = _
        by_cases e : k < 9
        · rw [if_pos e]
        · rw [if_neg e, gb_out (by omega) (by omega)]
      refine xl_195 K T P hn (by omega) (by omega) hcp (aB0 := aB) (fun aB1 h1 h2 => ?_) 9 0 aB rfl (fun _ _ _ _ => rfl) (fun k' hk' => by omega)
      refine ih (c + 1) (s + 1) (st_l fc s c) (st_l B s (po_mk 9 (ga_b n M pr c))) aB1 (by omega) ⟨by omega, fun j hj => ?_, fun g => ?_⟩ (fun j hj => ?_)
      · by_cases e : j = s
        · rw [e, st_s, st_s]
          exact ⟨b1, by omega, ep, cB⟩
        · rw [st_n e, st_n e]
          obtain ⟨x1, x2, x3, x4⟩ := b2 j (by omega)
          exact ⟨x1, by omega, x3, x4⟩
      · rw [zs_m, b3, if_pos ep, zs_m, st_s]
        exact congrArg (fun z => z + g c) (zs_congr (fun j hj => by rw [st_n (by omega)]))
      · by_cases e : j = s
        · rw [e, st_s]
          refine ⟨sz_le (fun k hk => by rw [cB, gb_out (by omega) (by omega)]), fun k hk => ?_⟩
          rw [h2 k hk, cB]
        · rw [st_n e]
          obtain ⟨x1, x2⟩ := hL j (by omega)
          exact ⟨x1, fun k hk => by rw [h1 j k (by omega) hk]; exact x2 k hk⟩
theorem xl_114 (K : PK q iR) (IV : iv_T q aI) (hn : n ≤ 8) {M0 : Nat → Nat → Fin (q + 1)} {post : SX → Prop} (h : ∀ (M : Nat → Nat → Fin (q + 1)) (row : Nat) (pr : Nat → Option Nat) (aM aR : Nat → Int32), ga_I n M row n pr → (∀ v, ga_k n M v ↔ ga_k n M0 v) → MT n M aM → PV pr aR → ∃ n1, wX_findBasis_176 post (nI n) (nI (q + 1)) fL fF fC n1 0 0 aC aI aM aR aB aP aD aF aT aQ) : ∀ (d c row : Nat) (M : Nat → Nat → Fin (q + 1)) (pr : Nat → Option Nat) (aM aR : Nat → Int32), c + d = n → ga_I n M row c pr → (∀ v, ga_k n M v ↔ ga_k n M0 v) → MT n M aM → PV pr aR → wX_findBasis_114 post (nI n) (d + 1) (nI row) (nI c) (nI (q + 1)) fL fF fB fC aC aI aM aR aB aP aD aF aT aQ := by
  intro d
  induction d with
  | zero =>
    intro c row M pr aM aR hc hI hk T P
    have e : c = n := by omega
    subst e
    exact br_t (nI_le (by omega) (by omega)) (h M row pr aM aR hI hk T P)
  | succ d ih =>
    intro c row M pr aM aR hc hI hk T P
    have hrow := hI.1
    refine br_f (nI_ge (by omega) (by omega)) (xw_pivotAt K T hn (by omega) (by omega) (fun a ha han hz => ?_) (fun hz => ?_))
    · refine br_f (nI_pos (by omega)) ?_
      refine xw_swapRows T hn han (by omega) (fun aM T1 => ?_)
      have e1 : sw_M M a row n row c = M a c := by
        unfold sw_M
        rw [if_pos (by omega)]
        by_cases e : row = a
        · rw [if_pos e, e]
        · rw [if_neg e, if_pos rfl]
      refine xw_clearColumn K IV T1 hn (by omega) (by omega) (by rw [e1]; exact hz) (fun t aM M2 ht T2 h1 h2 => ?_)
      rw [e1] at ht
      have hp := ga_piv (M' := M2) hI (by omega) ha han ht ⟨sw_M M a row n, fun r k hr hk => by
        unfold sw_M
        rw [if_pos hk], h1, h2⟩
      refine ⟨vp_in_nI (by omega) (by omega), nm_r (e' := upd aR c (nI row)) ?_ (nm_r (nI_1 row) (nm_r (nI_1 c) (ih (c + 1) (row + 1) M2 _ aM _ (by omega) hp.1 (fun v => (hp.2 v).trans (hk v)) T2 (fun k hk8 => ?_))))⟩
      · rw [nI_clamp (by omega)]
      · by_cases e : k = c
        · rw [e, pk_us]
          refine ⟨fun z => ?_, fun r z => ?_⟩
          · rw [st_s] at z; exact nomatch z
          · rw [st_s] at z
            rw [Option.some.inj z]
        · rw [pk_un e]
          refine ⟨fun z => ?_, fun r z => ?_⟩
          · rw [st_n e] at z; exact (P k hk8).1 z
          · rw [st_n e] at z; exact (P k hk8).2 r z
    · exact br_t (by decide) (nm_r (nI_1 c) (ih (c + 1) row M pr aM aR (by omega) (ga_none hI (by omega) hz) hk T P))
theorem xl_90 {post : SX → Prop} (h : ∀ aR, (∀ k, k < 8 → aR k = -1) → ∃ n1, wX_findBasis_114 post (nI n) n1 0 0 (nI (q + 1)) fL fF fB fC aC aI aM aR aB aP aD aF aT aQ) : ∀ (d i : Nat) (aR : Nat → Int32), i + d = 8 → (∀ k, k < i → aR k = -1) → wX_findBasis_90 post (nI n) (nI (q + 1)) fL fF fB fC (d + 1) (nI i) aC aI aM aR aB aP aD aF aT aQ := by
  intro d
  induction d with
  | zero =>
    intro i aR hi h1
    have e : i = 8 := by omega
    subst e
    exact br_t (nI_le (a := 8) (b := 8) (by omega) (by omega)) (h aR h1)
  | succ d ih =>
    intro i aR hi h1
    refine br_f (nI_ge (a := i) (b := 8) (by omega) (by omega)) ⟨vp_in_nI (by omega) (by omega), nm_r (e' := upd aR i (-1)) ?_ (nm_r (nI_1 i) (ih (i + 1) _ (by omega) (fun k hk => ?_)))⟩
    · rw [nI_clamp (by omega)]
    · by_cases e : k = i
      · rw [e, pk_us]
      · rw [pk_un e]; exact h1 k (by omega)
theorem xl_22 (K : PK q iR) (V : VC m aC) (hn : n ≤ 8) {i f : Nat} (hi : i < n) {L : Nat → Pz q} (eL : L i = m 6) {post : SX → Prop} {J : Int32 → Int32 → Int32 → Int32 → Int32 → Int32 → (Nat → Int32) → (Nat → Int32) → (Nat → Int32) → (Nat → Int32) → (Nat → Int32) → (Nat → Int32) → (Nat → Int32) → (Nat → Int32) → (Nat → Int32) → (Nat → Int32) → Prop} (h : ∀ aM, (∀ r c, r < n → c < i + 1 → aM (8 * r + c) = nI (em_M L r c).val) → J (nI (i + 1)) (nI (q + 1)) fL fF fB fC aC aI aM aR aB aP aD aF aT aQ) : ∀ (d k : Nat) (aM : Nat → Int32), k + d = n → (∀ r c, r < n → c < i → aM (8 * r + c) = nI (em_M L r c).val) → (∀ r, r < k → aM (8 * r + i) = nI (em_M L r i).val) → wX_findBasis_22 post J (nI f) (nI n) (nI i) (nI (q + 1)) fL fF fB fC (d + 1) (nI k) aC aI aM aR aB aP aD aF aT aQ := by
  have e54 : ∀ j, (54 : Int32) + nI j = nI (9 * 6 + j) := fun j => nI_add 54 j
  intro d
  induction d with
  | zero =>
    intro k aM hk h1 h2
    refine br_t (nI_le (by omega) (by omega)) (nm_r (nI_1 i) (h aM (fun r c hr hc => ?_)))
    by_cases e : c = i
    · rw [e]; exact h2 r (by omega)
    · exact h1 r c hr (by omega)
  | succ d ih =>
    intro k aM hk h1 h2
    have go : wX_findBasis_22 post J (nI f) (nI n) (nI i) (nI (q + 1)) fL fF fB fC (d + 1) (nI (k + 1)) aC aI (upd aM (8 * k + i) (nI (em_M L k i).val)) aR aB aP aD aF aT aQ := by
      refine ih (k + 1) _ (by omega) (fun r c hr hc => ?_) (fun r hr => ?_)
      · rw [pk_un (by omega)]; exact h1 r c hr hc
      · by_cases e : r = k
        · rw [e, pk_us]
        · rw [pk_un (by omega)]; exact h2 r (by omega)
    have step : ∀ (z : Nat), z ≤ 1 → pz_c (m 6) k - fq_v z = em_M L k i → wX_findBasis_39 post J (wX_findBasis_22 post J (nI f) (nI n) (nI i) (nI (q + 1)) fL fF fB fC (d + 1)) (nI f) (nI n) (nI i) (nI k) (nI z) (nI (q + 1)) fL fF fB fC aC aI aM aR aB aP aD aF aT aQ := fun z hz1 hz => by
      refine ⟨pk_in (9 * 6 + k) 144 (by omega) (e54 k), p_nz K, pk_in (8 * k + i) 64 (by omega) (ix_8 k i), nm_r (e' := upd aM (8 * k + i) (nI (em_M L k i).val)) ?_ (nm_r (nI_1 k) go)⟩
      have b1 := pv_lt (pz_c (m 6) k) K
      have b3 := q_5 K
      rw [e54, nI_clamp (by omega), (V 6 (by omega)).2 k (by omega), cl_8 (by omega), nI_add, pk_sub (by omega), rm_p K (by omega), fv_sub _ (by omega), hz]
    refine br_f (nI_ge (by omega) (by omega)) (pk_eq i k (fun e => step 1 (by omega) ?_) (fun e => step 0 (by omega) ?_) rfl rfl (by omega) (by omega))
    · unfold em_M
      rw [eL, if_pos e, fv_1]
    · unfold em_M
      rw [eL, if_neg e, fv_0]
theorem xl_8 (K : PK q iR) (IV : iv_T q aI) (hn : n ≤ 8) {f : Nat} (hf : f < 16) (f4 : f ≠ 4) (f6 : f ≠ 6) {m0 : Nat → Pz q} (sf : pz_s (m0 f) = n + 1) {post : SX → Prop} (h : ∀ (L m : Nat → Pz q) (aC aM : Nat → Int32), (∀ i, i < n → pz_s (L i) ≤ n ∧ dv_d (m0 f) (pz_mo 1 (i * (q + 1)) - L i)) → MT n (em_M L) aM → (∀ l, l ≠ 4 → l ≠ 6 → m l = m0 l) → VC m aC → ∃ n1, wX_findBasis_90 post (nI n) (nI (q + 1)) fL fF fB fC n1 0 aC aI aM aR aB aP aD aF aT aQ) : ∀ (d i : Nat) (L m : Nat → Pz q) (aC aM : Nat → Int32), i + d = n → (∀ j, j < i → pz_s (L j) ≤ n ∧ dv_d (m0 f) (pz_mo 1 (j * (q + 1)) - L j)) → (∀ r c, r < n → c < i → aM (8 * r + c) = nI (em_M L r c).val) → (∀ l, l ≠ 4 → l ≠ 6 → m l = m0 l) → VC m aC → wX_findBasis_8 post (nI f) (nI n) (d + 1) (nI i) (nI (q + 1)) fL fF fB fC aC aI aM aR aB aP aD aF aT aQ := by
  intro d
  induction d with
  | zero =>
    intro i L m aC aM hi h1 h2 h3 V
    have e : i = n := by omega
    subst e
    exact br_t (nI_le (by omega) (by omega)) (h L m aC aM h1 (fun r c hr hc => h2 r c hr hc) h3 V)
  | succ d ih =>
    intro i L m aC aM hi h1 h2 h3 V
    have em : m f = m0 f := h3 f f4 f6
    refine br_f (nI_ge (by omega) (by omega)) (xw_powerOfX K IV V hf f4 f6 (by omega) (by rw [em, sf]; omega) (fun m1 aC g1 g2 g3 V1 => ⟨n + 1, ?_⟩))
    rw [em] at g1 g2
    have cc : ∀ r c, c < i → em_M (st_l L i (m1 6)) r c = em_M L r c := fun r c hc => by
      unfold em_M
      rw [st_n (by omega)]
    refine xl_22 K V1 hn (by omega) (L := st_l L i (m1 6)) st_s (fun aM g4 => ?_) n 0 aM (by omega) (fun r c hr hc => ?_) (fun r hr => by omega)
    · refine ih (i + 1) (st_l L i (m1 6)) m1 aC aM (by omega) (fun j hj => ?_) g4 (fun l l4 l6 => by rw [g3 l l4 l6]; exact h3 l l4 l6) V1
      by_cases e : j = i
      · rw [e, st_s]; exact ⟨by omega, g2⟩
      · rw [st_n e]; exact h1 j (by omega)
    · rw [cc r c hc]; exact h2 r c hr hc
theorem xw_findBasis (K : PK q iR) (IV : iv_T q aI) (V : VC m aC) {f : Nat} (hf : f < 16) (f4 : f ≠ 4) (f6 : f ≠ 6) (f2 : 2 ≤ pz_s (m f)) {post : SX → Prop} (h : ∀ (s : Nat) (B m' : Nat → Pz q) (aC aM aR aB : Nat → Int32), bk_B (m f) s B → s ≤ 8 → LB s B aB → (∀ l, l ≠ 4 → l ≠ 6 → m' l = m l) → VC m' aC → post ((nI (q + 1)), fL, fF, (nI s), fC, aC, aI, aM, aR, aB, aP, aD, aF, aT, aQ)) : wpX_findBasis post ((nI (q + 1)), fL, fF, fB, fC, aC, aI, aM, aR, aB, aP, aD, aF, aT, aQ) (nI f) := by
  obtain ⟨n, sf⟩ : ∃ n, pz_s (m f) = n + 1 := ⟨pz_s (m f) - 1, by omega⟩
  have s9 := vc_s V hf
  have hn : n ≤ 8 := by omega
  refine xw_degreeOf K V hf ?_
  rw [sf, dn_s]
  refine ⟨n + 1, xl_8 K IV hn hf f4 f6 sf (fun L m1 aC aM g1 g2 g3 V1 => ?_) n 0 (fun _ => m f) m aC aM (by omega) (fun j hj => by omega) (fun r c hr hc => by omega) (fun _ _ _ => rfl) V⟩
  refine ⟨9, xl_90 (fun aR hR => ?_) 8 0 aR rfl (fun k hk => by omega)⟩
  refine ⟨n + 1, xl_114 K IV hn (M0 := em_M L) (fun M row pr aM aR hI hk T P => ?_) n 0 0 (em_M L) (fun _ => none) aM aR (by omega) (ga_0 n _) (fun _ => Iff.rfl) g2 (fun k hk => ⟨fun _ => hR k hk, fun r z => nomatch z⟩)⟩
  refine ⟨n + 1, xl_176 K T P hn (fun k r hk e => ?_) (fun s fc B aB hB hL => ?_) n 0 0 (fun _ => 0) (fun _ => m f) aB (by omega) ⟨by omega, fun j hj => by omega, fun g => rfl⟩ (fun j hj => by omega)⟩
  · have := (hI.2.2.2.1 k hk r e).1
    have := hI.1
    omega
  · refine h s B m1 aC aM aR aB (ga_fin K sf g1 hI hk (fun j hj => ?_) hB.2.2) (by have := hB.1; omega) hL g3 V1
    obtain ⟨x1, x2, x3, x4⟩ := hB.2.1 j hj
    exact ⟨x1, x2, x3, x4⟩
end
end
section
/-! plain laws for the parts of a product and for the factors found so far -/
def se_P {q : Nat} [Lean.Grind.CommRing (Pz q)] (P h : Pz q) : Prop := ∀ f : Pz q, ir_r f → dv_d f P → dv_d f h → dv_d P h
/-- the parts so far: their product is w -/
def PI {q : Nat} [Lean.Grind.CommRing (Pz q)] (w : Pz q) (n : Nat) (P : Nat → Pz q) : Prop := zp_m n P = w ∧ ∀ j, j < n → mn_m (P j) ∧ 2 ≤ pz_s (P j)
/-- the factors noted so far, h is left, each of whose factors counts tm times -/
def FI {q : Nat} [Lean.Grind.CommRing (Pz q)] (F : Pz q) (tm n : Nat) (c t : Nat → Nat) (h : Pz q) : Prop :=
  (∀ i j, i < j → j < n → c i < c j) ∧
  (∀ i, i < n → ir_r (ce_d (c i) : Pz q) ∧ mn_m (ce_d (c i) : Pz q) ∧ ml_m (ce_d (c i)) F (t i) ∧ 0 < t i ∧ ¬ dv_d (ce_d (c i)) h) ∧
  (∀ f : Pz q, ir_r f → mn_m f → (∀ i, i < n → c i ≠ ce_e f) → ∀ e, ml_m f h e → ml_m f F (tm * e)) ∧ mn_m h ∧ n + pz_s h ≤ 9
/-- x put in at place k -/
def in_s (c : Nat → Nat) (k x : Nat) : Nat → Nat := fun i => if i < k then c i else if i = k then x else c (i - 1)
section
variable {q : Nat} {iR : Lean.Grind.CommRing (Pz q)}
theorem sq_gcd (K : PK q iR) {f F : Pz q} (h : gd_d f (dr_d f) F) (hs : pz_s F = 1) : sq_f f := fun g hg ⟨u, hu⟩ => by
  have d1 : dv_d g f := ⟨g * u, by rw [hu]; grind⟩
  have d2 : dv_d g (dr_d f) := by
    rw [hu, dr_mul K, dr_mul K]
    refine dv_add (dv_mulR u (dv_add (dv_mulL _ (dv_refl g)) (dv_mulR _ (dv_refl g)))) (dv_mulR _ (dv_mulR _ (dv_refl g)))
  exact ir_nc K hg (sz_ne K (by omega)) (by omega) (gd_dv h d1 d2)
theorem ir_gcd (K : PK q iR) {f F : Pz q} (hf : ir_r f) (h : gd_d f (dr_d f) F) : pz_s F = 1 := by
  obtain ⟨⟨c, hc⟩, h2, _⟩ := h
  rcases hf.2 F c hc with e | e
  · exact e
  · have f0 := ir_nz K hf
    have nz := nz_of_mul K (f := F) (g := c) (by rw [← hc]; exact f0)
    have hs := sz_mulN K nz.1 nz.2
    rw [← hc] at hs
    obtain ⟨n, hn⟩ := sz_nz K f0
    have s1 := dr_sz (Nat.le_of_eq hn)
    exact absurd (dv_small K h2 (by omega)) (ir_dr K hf)
theorem zp_set {R : Type} [Lean.Grind.CommRing R] {n k : Nat} {P : Nat → R} (h : k < n) : ∃ A : R, zp_m n P = A * P k ∧ ∀ x, zp_m n (st_l P k x) = A * x := by
  induction n with
  | zero => omega
  | succ n ih =>
    by_cases e : k = n
    · subst e
      refine ⟨zp_m k P, rfl, fun x => ?_⟩
      rw [zp_m, st_s, zp_congr (g := P) (fun i hi => st_n (by omega))]
    · obtain ⟨A, h1, h2⟩ := ih (by omega)
      refine ⟨A * P n, by rw [zp_m, h1]; grind, fun x => ?_⟩
      rw [zp_m, h2, st_n (by omega)]; grind
theorem pi_len1 (K : PK q iR) {P : Nat → Pz q} : ∀ n, (∀ j, j < n → mn_m (P j) ∧ 2 ≤ pz_s (P j)) → zp_m n P ≠ 0 ∧ n + 1 ≤ pz_s (zp_m n P) := by
  intro n
  induction n with
  | zero => intro _; exact ⟨mn_nz K (mn_1 K), by rw [show zp_m 0 P = 1 from rfl, sz_1 K]; omega⟩
  | succ n ih =>
    intro h
    obtain ⟨h1, h2⟩ := ih (fun j hj => h j (by omega))
    obtain ⟨h3, h4⟩ := h n (by omega)
    have := sz_mulN K h1 (mn_nz K h3)
    rw [zp_m]
    exact ⟨mul_nz K h1 (mn_nz K h3), by omega⟩
theorem pi_len (K : PK q iR) {w : Pz q} {n : Nat} {P : Nat → Pz q} (h : PI w n P) : n + 1 ≤ pz_s w := by
  rw [← h.1]; exact (pi_len1 K n h.2).2
theorem pi_dv {w : Pz q} {n : Nat} {P : Nat → Pz q} (h : PI w n P) {j : Nat} (hj : j < n) : dv_d (P j) w := by
  rw [← h.1]; exact zp_dv hj
/-- one part becomes two -/
theorem pi_two (K : PK q iR) {w : Pz q} {n k : Nat} {P : Nat → Pz q} {G H : Pz q} (h : PI w n P) (hk : k < n) (e : P k = G * H) (mG : mn_m G) (g2 : 2 ≤ pz_s G) (gl : pz_s G < pz_s (P k)) : PI w (n + 1) (st_l (st_l P k G) n H) := by
  obtain ⟨A, h1, h2⟩ := zp_set (P := P) hk
  have nz := nz_of_mul K (f := G) (g := H) (by rw [← e]; exact mn_nz K (h.2 k hk).1)
  have hs := sz_mulN K nz.1 nz.2
  rw [← e] at hs
  refine ⟨?_, fun j hj => ?_⟩
  · rw [zp_m, st_s, zp_congr (g := st_l P k G) (fun i hi => st_n (by omega)), h2, ← h.1, h1, e]; grind
  · by_cases c : j = n
    · rw [c, st_s]
      exact ⟨mn_div K mG (by rw [← e]; exact (h.2 k hk).1), by omega⟩
    · rw [st_n c]
      by_cases c2 : j = k
      · rw [c2, st_s]; exact ⟨mG, g2⟩
      · rw [st_n c2]; exact h.2 j (by omega)
/-- different places hold different parts -/
theorem pi_ne (K : PK q iR) {w : Pz q} {n : Nat} {P : Nat → Pz q} (h : PI w n P) (hw : sq_f w) {i j : Nat} (hij : i < j) (hj : j < n) (hi : ir_r (P i)) : P i ≠ P j := fun e => by
  refine hw (P i) hi ?_
  rw [← h.1]
  obtain ⟨A, h1, h2⟩ := zp_set (P := P) hj
  have h3 : dv_d (P i) (zp_m n (st_l P j 1)) := by
    have := zp_dv (n := n) (f := st_l P j 1) (k := i) (by omega)
    rw [st_n (by omega)] at this
    exact this
  rw [h2] at h3
  have e1 : A * 1 = A := by grind
  rw [e1] at h3
  rw [h1, ← e]
  exact dv_mm h3 (dv_refl _)
theorem se_dv {P Q h : Pz q} (d : dv_d Q P) (s : se_P P h) : se_P Q h := fun f hf h1 h2 => dv_trans d (s f hf (dv_trans h1 d) h2)
theorem se_1 (K : PK q iR) {P h G : Pz q} (hG : gd_d P h G) (P0 : P ≠ 0) (s : pz_s G ≤ 1) : se_P P h := fun f hf h1 h2 =>
  absurd (gd_dv hG h1 h2) (ir_nc K hf (dv_sz K hG.1 P0).1 s)
theorem se_2 (K : PK q iR) {P h G : Pz q} (hG : gd_d P h G) (P0 : P ≠ 0) (s : pz_s P ≤ pz_s G) : se_P P h := fun _ _ _ _ =>
  dv_trans (dv_as K P0 hG.1 s) hG.2.1
theorem se_3 (K : PK q iR) {w P h G H : Pz q} (hG : gd_d P h G) (e : P = G * H) (hP : dv_d P w) (hw : sq_f w) : se_P G h ∧ se_P H h := by
  refine ⟨fun _ _ _ _ => hG.2.1, fun f hf h1 h2 => ?_⟩
  have d : dv_d f P := by rw [e]; exact dv_mulL G h1
  exact absurd (dv_trans (by rw [e]; exact dv_mm (gd_dv hG d h2) h1 : dv_d (f * f) P) hP) (hw f hf)
/-! w = h / gcd (h, h') -/
theorem sp_sq (K : PK q iR) {h g w : Pz q} (h0 : h ≠ 0) (hg : gd_d h (dr_d h) g) (hw : h = g * w) : sq_f w := fun f hf c => by
  obtain ⟨e, he, _⟩ := ml_ex K hf h0
  have h1 := sq_part K hg hw hf he
  have h2 := (ml_dv K hf h1 (k := 2)).mp (by rw [Lean.Grind.Semiring.pow_two]; exact c)
  split at h2 <;> omega
theorem sp_dv (K : PK q iR) {h g w f : Pz q} (hg : gd_d h (dr_d h) g) (hw : h = g * w) (hf : ir_r f) {e : Nat} (he : ml_m f h e) : dv_d f w ↔ (fq_v e : Fin (q + 1)) ≠ 0 := by
  rw [ml_0' K hf (sq_part K hg hw hf he)]
  by_cases z : (fq_v e : Fin (q + 1)) = 0
  · rw [if_pos z]
    exact ⟨fun c => by omega, fun c => absurd z c⟩
  · rw [if_neg z]
    exact ⟨fun _ => z, fun _ => by omega⟩
/-! putting in -/
theorem in_lt {c : Nat → Nat} {k x i : Nat} (h : i < k) : in_s c k x i = c i := if_pos h
theorem in_eq {c : Nat → Nat} {k x : Nat} : in_s c k x k = x := by
  unfold in_s
  rw [if_neg (by omega), if_pos rfl]
theorem in_gt {c : Nat → Nat} {k x i : Nat} (h : k < i) : in_s c k x i = c (i - 1) := by
  unfold in_s
  rw [if_neg (by omega), if_neg (by omega)]
/-- taking out the irreducible f, which h holds e times -/
theorem fi_note (K : PK q iR) {F : Pz q} {tm n e k : Nat} {c t : Nat → Nat} {h u f : Pz q} (I : FI F tm n c t h) (hf : ir_r f) (mf : mn_m f) (hu : h = f ^ e * u) (nu : ¬ dv_d f u) (e0 : 0 < e) (t0 : 0 < tm) (hk : k ≤ n) (lo : ∀ i, i < k → c i < ce_e f) (hi : ∀ i, k ≤ i → i < n → ce_e f < c i) : FI F tm (n + 1) (in_s c k (ce_e f)) (in_s t k (e * tm)) u := by
  obtain ⟨h1, h2, h3, h4, h5⟩ := I
  have mfe : ml_m f h e := ⟨u, hu, nu⟩
  have du : dv_d u h := by rw [hu]; exact dv_r _ _
  have u0 := (nz_of_mul K (f := f ^ e) (g := u) (by rw [← hu]; exact mn_nz K h4)).2
  have not : ∀ i, i < n → c i ≠ ce_e f := fun i hi e1 => by
    have := (h2 i hi).2.2.2.2
    rw [e1, ce_de K] at this
    exact this ((ml_0' K hf mfe).mpr e0)
  have old : ∀ i, i < n → ir_r (ce_d (c i) : Pz q) ∧ mn_m (ce_d (c i) : Pz q) ∧ ml_m (ce_d (c i)) F (t i) ∧ 0 < t i ∧ ¬ dv_d (ce_d (c i)) u := fun i hi => by
    obtain ⟨a, b, d, g, z⟩ := h2 i hi
    exact ⟨a, b, d, g, fun y => z (dv_trans y du)⟩
  refine ⟨fun i j hij hj => ?_, fun i hi2 => ?_, fun g hg mg ng e1 he1 => ?_, ?_, ?_⟩
  · by_cases c1 : i < k
    · rw [in_lt c1]
      by_cases c2 : j < k
      · rw [in_lt c2]; exact h1 i j hij (by omega)
      · by_cases c3 : j = k
        · rw [c3, in_eq]; exact lo i c1
        · rw [in_gt (by omega)]
          exact h1 i (j - 1) (by omega) (by omega)
    · by_cases c3 : i = k
      · rw [c3, in_eq, in_gt (by omega)]
        exact hi (j - 1) (by omega) (by omega)
      · rw [in_gt (i := i) (by omega), in_gt (by omega)]
        exact h1 (i - 1) (j - 1) (by omega) (by omega)
  · by_cases c1 : i < k
    · rw [in_lt c1, in_lt c1]; exact old i (by omega)
    · by_cases c3 : i = k
      · rw [c3, in_eq, in_eq, ce_de K]
        refine ⟨hf, mf, ?_, Nat.mul_pos e0 t0, nu⟩
        rw [Nat.mul_comm]
        exact h3 f hf mf not e mfe
      · rw [in_gt (by omega), in_gt (by omega)]; exact old (i - 1) (by omega)
  · have gf : g ≠ f := fun z => ng k (by omega) (by rw [in_eq, z])
    have ngf : ¬ dv_d g f := fun z => gf (ir_eq K hg hf mg mf z)
    refine h3 g hg mg (fun i hi2 => ?_) e1 ?_
    · by_cases c1 : i < k
      · have := ng i (by omega)
        rw [in_lt c1] at this
        exact this
      · have := ng (i + 1) (by omega)
        rw [in_gt (by omega), Nat.add_sub_cancel] at this
        exact this
    · have m0 := ml_mul K hg (ml_pow K hg (ml_0 ngf) e) he1
      rw [hu]
      rw [Nat.mul_zero, Nat.zero_add] at m0
      exact m0
  · exact mn_div K (mn_pow K mf e) (by rw [← hu]; exact h4)
  · obtain ⟨a, ha⟩ := sz_nz K (ir_nz K hf)
    obtain ⟨b, hb⟩ := sz_nz K u0
    have s1 := sz_mul K (sz_pow K ha e) hb
    rw [← hu] at s1
    have a1 : 1 ≤ a := by have := hf.1; omega
    have : 1 * 1 ≤ e * a := Nat.mul_le_mul e0 a1
    omega
/-- the root of a p-th power -/
theorem fi_root (K : PK q iR) {F : Pz q} {tm n : Nat} {c t : Nat → Nat} {h : Pz q} (I : FI F tm n c t h) (hz : ∀ (f : Pz q) (e : Nat), ir_r f → mn_m f → ml_m f h e → (fq_v e : Fin (q + 1)) = 0) : FI F (tm * (q + 1)) n c t (rt_r h) ∧ (q + 1) * (pz_s (rt_r h) - 1) + 1 = pz_s h := by
  obtain ⟨h1, h2, h3, h4, h5⟩ := I
  have h0 := mn_nz K h4
  have er := rt_dr K (dr_all K h0 hz)
  have k0 : rt_r h ≠ 0 := fun z => h0 (by rw [er, z, Lean.Grind.Semiring.pow_succ, Lean.Grind.Semiring.mul_zero])
  obtain ⟨a, ha⟩ := sz_nz K k0
  have hs := sz_pow K ha (q + 1)
  rw [← er] at hs
  have mr : mn_m (rt_r h) := by
    refine mn_of ha ?_
    rw [rt_c]
    unfold mn_m at h4
    rw [hs, Nat.add_sub_cancel] at h4
    exact h4
  have le : a ≤ (q + 1) * a := Nat.le_mul_of_pos_left a (by omega)
  have dk : dv_d (rt_r h) h := ⟨rt_r h ^ q, by
    have : rt_r h * rt_r h ^ q = rt_r h ^ (q + 1) := by rw [Lean.Grind.Semiring.pow_succ]; grind
    rw [this]; exact er⟩
  refine ⟨⟨h1, fun i hi => ?_, fun f hf mf nf e he => ?_, mr, by omega⟩, by rw [ha, hs]; rfl⟩
  · obtain ⟨a, b, d, g, z⟩ := h2 i hi
    exact ⟨a, b, d, g, fun y => z (dv_trans y dk)⟩
  · have := h3 f hf mf nf ((q + 1) * e) (by
      have := ml_pow K hf he (q + 1)
      rw [← er] at this
      exact this)
    rw [Nat.mul_assoc]
    exact this
theorem fi_start (K : PK q iR) {F : Pz q} (mF : mn_m F) (hs : pz_s F ≤ 9) (c t : Nat → Nat) : FI F 1 0 c t F :=
  ⟨fun i j _ h => by omega, fun i h => by omega, fun f _ _ _ e he => by rw [Nat.one_mul]; exact he, mF, by omega⟩
theorem fi_end (K : PK q iR) {F : Pz q} {tm n : Nat} {c t : Nat → Nat} {h : Pz q} (I : FI F tm n c t h) (hs : pz_s h ≤ 1) : fl_F F n c t := by
  obtain ⟨h1, h2, h3, h4, h5⟩ := I
  have e1 := mn_c K h4 hs
  refine ⟨h1, fun i hi => ?_, fun f hf mf df => Classical.byContradiction (fun n => ?_)⟩
  · obtain ⟨a, b, d, g, z⟩ := h2 i hi
    exact ⟨a, b, d, g⟩
  · have m0 := h3 f hf mf (fun i hi e => n ⟨i, hi, e⟩) 0 (by rw [e1]; exact ml_0 (ir_n1 K hf))
    have := (ml_0' K hf m0).mp df
    omega
end
end
section
/-! X: isIrreducible, refine, splitPart -/
def ro_R {q : Nat} [Lean.Grind.CommRing (Pz q)] (w : Pz q) (n k : Nat) (P : Nat → Pz q) (h : Pz q) (n' : Nat) (P' : Nat → Pz q) : Prop :=
  PI w n' P' ∧ n ≤ n' ∧ (∀ j, j < n → j ≠ k → P' j = P j) ∧ ∀ j, j < n' → (j = k ∨ n ≤ j) → dv_d (P' j) (P k) ∧ se_P (P' j) h
section
variable {q : Nat} {iR : Lean.Grind.CommRing (Pz q)}
variable {fL fF fB fC : Int32} {aC aI aM aR aB aP aD aF aT aQ : Nat → Int32} {m : Nat → Pz q}
theorem xw_isIrreducible (K : PK q iR) (IV : iv_T q aI) (V : VC m aC) {a : Nat} (ha : a < 4) (h2 : 2 ≤ pz_s (m a)) {post : Int32 → SX → Prop} (h : ∀ (r : Nat) (m' : Nat → Pz q) (fB : Int32) (aC aM aR aB : Nat → Int32), r ≤ 1 → (r = 1 ↔ ir_r (m a)) → (∀ l, l < 4 → m' l = m l) → VC m' aC → post (nI r) ((nI (q + 1)), fL, fF, fB, fC, aC, aI, aM, aR, aB, aP, aD, aF, aT, aQ)) : wpX_isIrreducible post ((nI (q + 1)), fL, fF, fB, fC, aC, aI, aM, aR, aB, aP, aD, aF, aT, aQ) (nI a) := by
  refine xw_copy V (to := 7) (by omega) (by omega) (fun aC V1 => ?_)
  refine xw_deriveInto K V1 (to := 8) (fr := a) (by omega) (by omega) (fun aC V2 => ?_)
  rw [st_n (l := 7) (j := a) (by omega)] at V2
  refine xw_divisorInto K IV V2 (a := 7) (b := 8) (by omega) (by omega) (by omega) (by omega) (by omega) (by omega) (by omega) (fun F m3 aC hF zF e7 fr V3 => ?_)
  rw [st_s, st_n (l := 8) (j := 7) (by omega), st_s] at hF
  have fr3 : ∀ l, l < 4 → m3 l = m l := fun l hl => by
    rw [fr l (by omega) (by omega) (by omega) (by omega), st_n (by omega), st_n (by omega)]
  refine xw_degreeOf K V3 (l := 7) (by omega) ?_
  have s9 := vc_s V3 (l := 7) (by omega)
  rw [e7] at s9
  rw [e7]
  refine br_c (fun z => ?_) (fun z => ?_)
  · have s1 := (dn_eq0 (by omega)).mp z
    refine xw_copy V3 (to := 9) (fr := a) (by omega) (by omega) (fun aC V4 => ?_)
    rw [fr3 a ha] at V4
    refine xw_findBasis K IV V4 (f := 9) (by omega) (by omega) (by omega) (by rw [st_s]; exact h2) (fun s B m5 aC aM aR aB hB s8 hL fr5 V5 => ?_)
    rw [st_s] at hB
    have fr6 : ∀ l, l < 4 → m5 l = m l := fun l hl => by
      rw [fr5 l (by omega) (by omega), st_n (by omega)]; exact fr3 l hl
    have one := bk_one K h2 (sq_gcd K hF s1) hB
    refine pk_eq s 1 (fun e => ?_) (fun e => ?_) rfl rfl (by omega) (by omega)
    · exact h 1 m5 _ aC aM aR aB (by omega) ⟨fun _ => one.mp e, fun _ => rfl⟩ fr6 V5
    · exact h 0 m5 _ aC aM aR aB (by omega) ⟨fun y => by omega, fun y => absurd (one.mpr y) e⟩ fr6 V5
  · exact h 0 m3 _ aC _ _ _ (by omega) ⟨fun y => by omega, fun y => absurd ((dn_eq0 (by omega)).mpr (ir_gcd K y hF)) z⟩ fr3 V3
/-! refine -/
theorem xl_r178 (V : VC m aC) {k cnt : Nat} (hk : k < cnt) (hc : cnt ≤ 8) {x1 x2 x3 : Int32} {P : Nat → Pz q} {aP0 : Nat → Int32} (hP : LB cnt P aP0) {post : SX → Prop} {J : Int32 → Int32 → Int32 → Int32 → Int32 → Int32 → (Nat → Int32) → (Nat → Int32) → (Nat → Int32) → (Nat → Int32) → (Nat → Int32) → (Nat → Int32) → (Nat → Int32) → (Nat → Int32) → (Nat → Int32) → (Nat → Int32) → Prop} (h : ∀ aP, LB (cnt + 1) (st_l (st_l P k (m 8)) cnt (m 6)) aP → J (nI (k + 1)) (nI (q + 1)) fL fF fB (nI (cnt + 1)) aC aI aM aR aB aP aD aF aT aQ) : ∀ (d i : Nat) (aP : Nat → Int32), i + d = 9 → (∀ l j, l < cnt → l ≠ k → j < 9 → aP (9 * l + j) = aP0 (9 * l + j)) → (∀ j, j < i → aP (9 * k + j) = nI (pz_c (m 8) j).val ∧ aP (9 * cnt + j) = nI (pz_c (m 6) j).val) → wX_refine_178 post J x1 x2 x3 (nI k) (nI (q + 1)) fL fF fB (nI cnt) (d + 1) (nI i) aC aI aM aR aB aP aD aF aT aQ := by
  have e72 : ∀ j, (72 : Int32) + nI j = nI (9 * 8 + j) := fun j => nI_add 72 j
  have e54 : ∀ j, (54 : Int32) + nI j = nI (9 * 6 + j) := fun j => nI_add 54 j
  intro d
  induction d with
  | zero =>
    intro i aP hi h1 h2
    have e : i = 9 := by omega
    subst e
    refine br_t (nI_le (a := 9) (b := 9) (by omega) (by omega)) (nm_r (nI_1 cnt) (nm_r (nI_1 k) (h aP (fun l hl => ?_))))
    by_cases c1 : l = cnt
    · rw [c1, st_s]
      exact ⟨vc_s V (by omega), fun j hj => (h2 j hj).2⟩
    · rw [st_n c1]
      by_cases c2 : l = k
      · rw [c2, st_s]
        exact ⟨vc_s V (by omega), fun j hj => (h2 j hj).1⟩
      · rw [st_n c2]
        exact ⟨(hP l (by omega)).1, fun j hj => by rw [h1 l j (by omega) c2 hj]; exact (hP l (by omega)).2 j hj⟩
  | succ d ih =>
    intro i aP hi h1 h2
    refine br_f (nI_ge (a := i) (b := 9) (by omega) (by omega)) ⟨pk_in (9 * 8 + i) 144 (by omega) (e72 i), pk_in (9 * k + i) 90 (by omega) (ix_9 k i), nm_r (e' := upd aP (9 * k + i) (nI (pz_c (m 8) i).val)) ?_ ⟨pk_in (9 * 6 + i) 144 (by omega) (e54 i), pk_in (9 * cnt + i) 90 (by omega) (ix_9 cnt i), nm_r (e' := upd (upd aP (9 * k + i) (nI (pz_c (m 8) i).val)) (9 * cnt + i) (nI (pz_c (m 6) i).val)) ?_ (nm_r (nI_1 i) (ih (i + 1) _ (by omega) (fun l j hl hlk hj => ?_) (fun j hj => ?_)))⟩⟩
    · rw [e72, nI_clamp (by omega), cl_9 (by omega), (V 8 (by omega)).2 i (by omega)]
    · rw [e54, nI_clamp (by omega), cl_9 (by omega), (V 6 (by omega)).2 i (by omega)]
    · rw [pk_un (by omega), pk_un (by omega)]; exact h1 l j hl hlk hj
    · by_cases c : j = i
      · rw [c, pk_us, pk_un (by omega), pk_us]; exact ⟨rfl, rfl⟩
      · rw [pk_un (by omega), pk_un (by omega), pk_un (by omega), pk_un (by omega)]; exact h2 j (by omega)
theorem vc_ug {a : Nat → Int32} {F G : Pz q} {l i : Nat} (V : VC m a) (e : m l = pz_x i F G) (hl : l < 16) (hi : i < 9) : VC (st_l m l (pz_x (i + 1) F G)) (upd a (9 * l + i) (nI (pz_c F i).val)) := by
  have h := vc_wr V hl hi (pz_c F i)
  rw [e, x_up] at h
  exact h
theorem lb_rd {s : Nat} {B : Nat → Pz q} {a : Nat → Int32} (h : LB s B a) {j k : Nat} (hj : j < s) (hs : s ≤ 10) (hk : k < 9) : a ((9 : Int32) * nI j + nI k).toNatClampNeg = nI (pz_c (B j) k).val := by
  rw [cl_9 (by omega)]; exact (h j hj).2 k hk
theorem w_sub (K : PK q iR) (f : Pz q) (c : Fin (q + 1)) : pz_w f 0 (pz_c f 0 - c) = f - pz_mo c 0 := pz_ext (fun j => by
  rw [w_c, pz_sub K, mo_c]
  by_cases e : j = 0
  · rw [if_pos e, if_pos e, e]
  · rw [if_neg e, if_neg e, Lean.Grind.Ring.sub_eq_add_neg, Lean.Grind.AddCommGroup.neg_zero]; exact (Lean.Grind.Semiring.add_zero _).symm)
theorem xl_r17 (K : PK q iR) (IV : iv_T q aI) {w : Pz q} (hw : sq_f w) (sw : pz_s w ≤ 9) {k cnt b s cc : Nat} {P B : Nat → Pz q} (hPI : PI w cnt P) (hP : LB cnt P aP) (hk : k < cnt) (hB : LB s B aB) (hb : b < s) (hs : s ≤ 8) (hcc : cc < q + 1) {m0 : Nat → Pz q} (s7 : pz_s (m0 7) ≤ 9) (s8 : pz_s (m0 8) ≤ 9) (s9 : pz_s (m0 9) ≤ 9) {x3 : Int32} {post : SX → Prop} {J : Int32 → Int32 → Int32 → Int32 → Int32 → Int32 → (Nat → Int32) → (Nat → Int32) → (Nat → Int32) → (Nat → Int32) → (Nat → Int32) → (Nat → Int32) → (Nat → Int32) → (Nat → Int32) → (Nat → Int32) → (Nat → Int32) → Prop} (h : ∀ (n' : Nat) (P' m' : Nat → Pz q) (aC aP : Nat → Int32), ro_R w cnt k P (B b - pz_mo (fq_v cc) 0) n' P' → LB n' P' aP → (∀ l, l < 4 ∨ 10 ≤ l → m' l = m0 l) → VC m' aC → J (nI (k + 1)) (nI (q + 1)) fL fF fB (nI n') aC aI aM aR aB aP aD aF aT aQ) : ∀ (d i : Nat) (m1 : Nat → Pz q) (aC : Nat → Int32), i + d = 9 → m1 7 = pz_x i (P k) (m0 7) → m1 8 = pz_x i (P k) (m0 8) → m1 9 = pz_x i (B b) (m0 9) → (∀ l, l < 4 ∨ 10 ≤ l → m1 l = m0 l) → VC m1 aC → wX_refine_17 post J (nI b) (nI cc) x3 (nI k) (nI (q + 1)) fL fF fB (nI cnt) (d + 1) (nI i) aC aI aM aR aB aP aD aF aT aQ := by
  have hcnt : cnt ≤ 8 := by have := pi_len K hPI; omega
  have q5 := q_5 K
  have e63 : ∀ j, (63 : Int32) + nI j = nI (9 * 7 + j) := fun j => nI_add 63 j
  have e72 : ∀ j, (72 : Int32) + nI j = nI (9 * 8 + j) := fun j => nI_add 72 j
  have e81 : ∀ j, (81 : Int32) + nI j = nI (9 * 9 + j) := fun j => nI_add 81 j
  intro d
  induction d with
  | zero =>
    intro i m1 aC hi e7 e8 e9 fr V
    have e : i = 9 := by omega
    subst e
    have sP := (hP k hk).1
    have sB := (hB b hb).1
    rw [x_9 sP s7] at e7
    rw [x_9 sP s8] at e8
    rw [x_9 sB s9] at e9
    have V1 := vc_wr V (l := 9) (i := 0) (by omega) (by omega) (pz_c (B b) 0 - fq_v cc)
    rw [e9, w_sub K] at V1
    refine br_t (nI_le (a := 9) (b := 9) (by omega) (by omega)) ⟨p_nz K, nm_r (e' := upd aC (9 * 9 + 0) (nI (pz_c (B b) 0 - fq_v cc).val)) ?_ ?_⟩
    · have b1 := pv_lt (pz_c (B b) 0) K
      have r1 := (V 9 (by omega)).2 0 (by omega)
      rw [e9] at r1
      rw [show (81 : Nat) = 9 * 9 + 0 from rfl, r1, nI_add, pk_sub (by omega), rm_p K (by omega), fv_sub _ (by omega)]
    · refine xw_divisorInto K IV V1 (a := 8) (b := 9) (by omega) (by omega) (by omega) (by omega) (by omega) (by omega) (by omega) (fun G m3 aC hG zG e83 fr3 V3 => ?_)
      rw [st_s, st_n (by omega), e8] at hG
      have P0 : P k ≠ 0 := mn_nz K (hPI.2 k hk).1
      have G0 := (dv_sz K hG.1 P0).1
      have mG := zG.resolve_left G0
      have e73 : m3 7 = P k := by
        rw [fr3 7 (by omega) (by omega) (by omega) (by omega), st_n (by omega)]; exact e7
      have fr4 : ∀ l, l < 4 ∨ 10 ≤ l → m3 l = m0 l := fun l hl => by
        rw [fr3 l (by omega) (by omega) (by omega) (by omega), st_n (by omega)]; exact fr l hl
      have sG9 := vc_s V3 (l := 8) (by omega)
      rw [e83] at sG9
      have same : se_P (P k) (B b - pz_mo (fq_v cc) 0) → ro_R w cnt k P (B b - pz_mo (fq_v cc) 0) cnt P := fun z => by
        refine ⟨hPI, Nat.le_refl _, fun _ _ _ => rfl, fun j hj c => ?_⟩
        have ej : j = k := by omega
        rw [ej]
        exact ⟨dv_refl _, z⟩
      refine xw_degreeOf K V3 (l := 8) (by omega) ?_
      rw [e83]
      refine br_c (fun z => nm_r (nI_1 k) (h cnt P m3 aC aP (same (se_1 K hG P0 ((dn_le0 (by omega)).mp z))) hP fr4 V3)) (fun z => ?_)
      have g2 : 2 ≤ pz_s G := Nat.lt_of_not_le (fun y => z ((dn_le0 (by omega)).mpr y))
      refine xw_degreeOf K V3 (l := 7) (by omega) ?_
      rw [e73]
      refine br_c (fun z => nm_r (nI_1 k) (h cnt P m3 aC aP (same (se_2 K hG P0 ((dn_le (by omega) (by omega)).mp z))) hP fr4 V3)) (fun z => ?_)
      have gl : pz_s G < pz_s (P k) := Nat.lt_of_not_le (fun y => z ((dn_le (by omega) (by omega)).mpr y))
      refine br_f (nI_ge (a := cnt) (b := 10) (by omega) (by omega)) ?_
      refine xw_divideInto K IV V3 (qo := 6) (a := 7) (b := 8) (by omega) (by omega) (by omega) (by omega) (by omega) (by omega) (by rw [e83]; exact G0) (fun H r aC eH hr V4 => ?_)
      rw [e73, e83] at eH
      rw [e83] at hr
      have r0 : r = 0 := dv_small K (a := G) (dv_of_add (b := G * H) (by rw [← eH]; exact hG.1) (dv_l G H)) hr
      have eP : P k = G * H := by rw [eH, r0]; grind
      have V5 := V4
      refine ⟨10, xl_r178 V4 hk hcnt hP (fun aP hP2 => ?_) 9 0 aP rfl (fun _ _ _ _ _ => rfl) (fun j hj => by omega)⟩
      rw [st_n (by omega), st_n (by omega), e83, st_n (by omega), st_s] at hP2
      have s3 := se_3 K hG eP (pi_dv hPI hk) hw
      refine h (cnt + 1) _ _ aC aP ⟨pi_two K hPI hk eP mG g2 gl, by omega, fun j hj hjk => ?_, fun j hj c => ?_⟩ hP2 (fun l hl => ?_) V4
      · rw [st_n (by omega), st_n hjk]
      · by_cases c1 : j = cnt
        · rw [c1, st_s]
          exact ⟨by rw [eP]; exact dv_r _ _, s3.2⟩
        · have ej : j = k := by omega
          rw [st_n c1, ej, st_s]
          exact ⟨by rw [eP]; exact dv_l _ _, s3.1⟩
      · rw [st_n (by omega), st_n (by omega)]; exact fr4 l hl
  | succ d ih =>
    intro i m1 aC hi e7 e8 e9 fr V
    have V1 := vc_ug V e7 (by omega) (by omega)
    have V2 := vc_ug V1 (l := 8) (F := P k) (G := m0 8) (i := i) (by rw [st_n (by omega)]; exact e8) (by omega) (by omega)
    have V3 := vc_ug V2 (l := 9) (F := B b) (G := m0 9) (i := i) (by rw [st_n (by omega), st_n (by omega)]; exact e9) (by omega) (by omega)
    have rP := lb_rd hP hk (by omega) (k := i) (by omega)
    have rB := lb_rd hB hb (by omega) (k := i) (by omega)
    refine br_f (nI_ge (a := i) (b := 9) (by omega) (by omega)) ⟨pk_in (9 * k + i) 90 (by omega) (ix_9 k i), pk_in (9 * 7 + i) 144 (by omega) (e63 i), nm_r (e' := upd aC (9 * 7 + i) (nI (pz_c (P k) i).val)) ?_ ⟨pk_in (9 * k + i) 90 (by omega) (ix_9 k i), pk_in (9 * 8 + i) 144 (by omega) (e72 i), nm_r (e' := upd (upd aC (9 * 7 + i) (nI (pz_c (P k) i).val)) (9 * 8 + i) (nI (pz_c (P k) i).val)) ?_ ⟨pk_in (9 * b + i) 72 (by omega) (ix_9 b i), pk_in (9 * 9 + i) 144 (by omega) (e81 i), nm_r (e' := upd (upd (upd aC (9 * 7 + i) (nI (pz_c (P k) i).val)) (9 * 8 + i) (nI (pz_c (P k) i).val)) (9 * 9 + i) (nI (pz_c (B b) i).val)) ?_ (nm_r (nI_1 i) (ih (i + 1) _ _ (by omega) ?_ ?_ ?_ (fun l hl => ?_) V3))⟩⟩⟩
    · rw [e63, nI_clamp (by omega), rP]
    · rw [e72, nI_clamp (by omega), rP]
    · rw [e81, nI_clamp (by omega), rB]
    · rw [st_n (by omega), st_n (by omega), st_s]
    · rw [st_n (by omega), st_s]
    · rw [st_s]
    · rw [st_n (by omega), st_n (by omega), st_n (by omega)]; exact fr l hl
theorem xl_r8 (K : PK q iR) (IV : iv_T q aI) {w : Pz q} (hw : sq_f w) (sw : pz_s w ≤ 9) {b s cc bef : Nat} {B : Nat → Pz q} (hB : LB s B aB) (hb : b < s) (hs : s ≤ 8) (hcc : cc < q + 1) {D : Pz q → Prop} (hD : ∀ P Q, dv_d Q P → D P → D Q) {m0 : Nat → Pz q} {post : SX → Prop} (h : ∀ (n : Nat) (P m : Nat → Pz q) (aC aP : Nat → Int32), PI w n P → (∀ j, j < n → D (P j) ∧ se_P (P j) (B b - pz_mo (fq_v cc) 0)) → LB n P aP → (∀ l, l < 4 ∨ 10 ≤ l → m l = m0 l) → VC m aC → post ((nI (q + 1)), fL, fF, fB, (nI n), aC, aI, aM, aR, aB, aP, aD, aF, aT, aQ)) : ∀ (d k n : Nat) (P m : Nat → Pz q) (aC aP : Nat → Int32), k + d = bef → bef ≤ n → PI w n P → (∀ j, j < n → D (P j)) → (∀ j, j < n → (j < k ∨ bef ≤ j) → se_P (P j) (B b - pz_mo (fq_v cc) 0)) → LB n P aP → (∀ l, l < 4 ∨ 10 ≤ l → m l = m0 l) → VC m aC → wX_refine_8 post (nI b) (nI cc) (nI bef) (d + 1) (nI k) (nI (q + 1)) fL fF fB (nI n) aC aI aM aR aB aP aD aF aT aQ := by
  intro d
  induction d with
  | zero =>
    intro k n P m aC aP hk hn hPI h1 h2 hP fr V
    have hcnt : n ≤ 8 := by have := pi_len K hPI; omega
    exact br_t (nI_le (by omega) (by omega)) (h n P m aC aP hPI (fun j hj => ⟨h1 j hj, h2 j hj (by omega)⟩) hP fr V)
  | succ d ih =>
    intro k n P m aC aP hk hn hPI h1 h2 hP fr V
    have hcnt : n ≤ 8 := by have := pi_len K hPI; omega
    refine br_f (nI_ge (by omega) (by omega)) ⟨10, ?_⟩
    refine xl_r17 K IV hw sw hPI hP (by omega) hB hb hs hcc (m0 := m) (vc_s V (by omega)) (vc_s V (by omega)) (vc_s V (by omega)) (fun n' P' m' aC aP hR hP' fr' V' => ?_) 9 0 m aC rfl (by rw [x_0]) (by rw [x_0]) (by rw [x_0]) (fun _ _ => rfl) V
    obtain ⟨r1, r2, r3, r4⟩ := hR
    refine ih (k + 1) n' P' m' aC aP (by omega) (by omega) r1 (fun j hj => ?_) (fun j hj c => ?_) hP' (fun l hl => by rw [fr' l hl]; exact fr l hl) V'
    · by_cases c : j = k ∨ n ≤ j
      · exact hD _ _ (r4 j hj c).1 (h1 k (by omega))
      · rw [r3 j (by omega) (by omega)]; exact h1 j (by omega)
    · by_cases c2 : j = k ∨ n ≤ j
      · exact (r4 j hj c2).2
      · rw [r3 j (by omega) (by omega)]; exact h2 j (by omega) (by omega)
theorem xw_refine (K : PK q iR) (IV : iv_T q aI) (V : VC m aC) {w : Pz q} (hw : sq_f w) (sw : pz_s w ≤ 9) {b s cc n : Nat} {B P : Nat → Pz q} (hB : LB s B aB) (hb : b < s) (hs : s ≤ 8) (hcc : cc < q + 1) {D : Pz q → Prop} (hD : ∀ P Q, dv_d Q P → D P → D Q) (hPI : PI w n P) (h1 : ∀ j, j < n → D (P j)) (hP : LB n P aP) {post : SX → Prop} (h : ∀ (n : Nat) (P m' : Nat → Pz q) (aC aP : Nat → Int32), PI w n P → (∀ j, j < n → D (P j) ∧ se_P (P j) (B b - pz_mo (fq_v cc) 0)) → LB n P aP → (∀ l, l < 4 ∨ 10 ≤ l → m' l = m l) → VC m' aC → post ((nI (q + 1)), fL, fF, fB, (nI n), aC, aI, aM, aR, aB, aP, aD, aF, aT, aQ)) : wpX_refine post ((nI (q + 1)), fL, fF, fB, (nI n), aC, aI, aM, aR, aB, aP, aD, aF, aT, aQ) (nI b) (nI cc) :=
  ⟨n + 1, xl_r8 K IV hw sw hB hb hs hcc hD h n 0 n P m aC aP (by omega) (Nat.le_refl _) hPI h1 (fun j hj c => by omega) hP (fun _ _ => rfl) V⟩
end
end
section
/-! X: splitPart, takeOut, note -/
def sp_D {q : Nat} [Lean.Grind.CommRing (Pz q)] (B : Nat → Pz q) (b c : Nat) (P : Pz q) : Prop := ∀ b' c', (b' < b ∧ c' < q + 1 ∨ b' = b ∧ c' < c) → se_P P (B b' - pz_mo (fq_v c') 0)
def NA (n : Nat) (c t : Nat → Nat) (aF aT : Nat → Int32) : Prop := ∀ i, i < n → aF i = nI (c i) ∧ aT i = nI (t i)
section
variable {q : Nat} {iR : Lean.Grind.CommRing (Pz q)}
variable {fL fF fB fC : Int32} {aC aI aM aR aB aP aD aF aT aQ : Nat → Int32} {m : Nat → Pz q}
theorem xl_s58 (K : PK q iR) (IV : iv_T q aI) {w : Pz q} (hw : sq_f w) (sw : pz_s w ≤ 9) {b s : Nat} {B : Nat → Pz q} (hB : LB s B aB) (hb : b < s) (hs : s ≤ 8) {m0 : Nat → Pz q} {post : SX → Prop} {J : Int32 → Int32 → Int32 → Int32 → Int32 → Int32 → (Nat → Int32) → (Nat → Int32) → (Nat → Int32) → (Nat → Int32) → (Nat → Int32) → (Nat → Int32) → (Nat → Int32) → (Nat → Int32) → (Nat → Int32) → (Nat → Int32) → Prop} (h : ∀ (n : Nat) (P m : Nat → Pz q) (aC aP : Nat → Int32), PI w n P → (∀ j, j < n → sp_D B (b + 1) 0 (P j)) → LB n P aP → (∀ l, l < 4 ∨ 10 ≤ l → m l = m0 l) → VC m aC → J (nI (b + 1)) (nI (q + 1)) fL fF fB (nI n) aC aI aM aR aB aP aD aF aT aQ) : ∀ (d c n : Nat) (P m : Nat → Pz q) (aC aP : Nat → Int32), c + d = q + 1 → PI w n P → (∀ j, j < n → sp_D B b c (P j)) → LB n P aP → (∀ l, l < 4 ∨ 10 ≤ l → m l = m0 l) → VC m aC → wX_splitPart_58 post J (nI b) (d + 1) (nI c) (nI (q + 1)) fL fF fB (nI n) aC aI aM aR aB aP aD aF aT aQ := by
  have q5 := q_5 K
  intro d
  induction d with
  | zero =>
    intro c n P m aC aP hc hPI h1 hP fr V
    have e : c = q + 1 := by omega
    subst e
    refine br_t (nI_le (by omega) (by omega)) (nm_r (nI_1 b) (h n P m aC aP hPI (fun j hj b' c' hb' => h1 j hj b' c' ?_) hP fr V))
    omega
  | succ d ih =>
    intro c n P m aC aP hc hPI h1 hP fr V
    refine br_f (nI_ge (by omega) (by omega)) ?_
    refine xw_refine K IV V hw sw hB hb hs (cc := c) (by omega) (D := sp_D B b c) (fun P Q d h b' c' hb' => se_dv d (h b' c' hb')) hPI h1 hP (fun n P m1 aC aP hPI h2 hP fr1 V1 => ?_)
    refine nm_r (nI_1 c) (ih (c + 1) n P m1 aC aP (by omega) hPI (fun j hj b' c' hb' => ?_) hP (fun l hl => by rw [fr1 l hl]; exact fr l hl) V1)
    by_cases e : b' = b ∧ c' = c
    · rw [e.1, e.2]; exact (h2 j hj).2
    · exact (h2 j hj).1 b' c' (by omega)
theorem xl_s48 (K : PK q iR) (IV : iv_T q aI) {w : Pz q} (hw : sq_f w) (sw : pz_s w ≤ 9) {s : Nat} {B : Nat → Pz q} (hB : LB s B aB) (hs : s ≤ 8) {m0 : Nat → Pz q} {post : SX → Prop} (h : ∀ (n : Nat) (P m : Nat → Pz q) (aC aP : Nat → Int32), PI w n P → (∀ j, j < n → sp_D B s 0 (P j)) → LB n P aP → (∀ l, l < 4 ∨ 10 ≤ l → m l = m0 l) → VC m aC → post ((nI (q + 1)), fL, fF, (nI s), (nI n), aC, aI, aM, aR, aB, aP, aD, aF, aT, aQ)) : ∀ (d b n : Nat) (P m : Nat → Pz q) (aC aP : Nat → Int32), b + d = s → PI w n P → (∀ j, j < n → sp_D B b 0 (P j)) → LB n P aP → (∀ l, l < 4 ∨ 10 ≤ l → m l = m0 l) → VC m aC → wX_splitPart_48 post (d + 1) (nI b) (nI (q + 1)) fL fF (nI s) (nI n) aC aI aM aR aB aP aD aF aT aQ := by
  intro d
  induction d with
  | zero =>
    intro b n P m aC aP hb hPI h1 hP fr V
    have e : b = s := by omega
    subst e
    exact br_t (nI_le (by omega) (by omega)) (h n P m aC aP hPI h1 hP fr V)
  | succ d ih =>
    intro b n P m aC aP hb hPI h1 hP fr V
    refine br_f (nI_ge (by omega) (by omega)) ⟨q + 2, ?_⟩
    exact xl_s58 K IV hw sw hB (by omega) hs (m0 := m0) (fun n P m aC aP hPI h1 hP fr V => ih (b + 1) n P m aC aP (by omega) hPI h1 hP fr V) (q + 1) 0 n P m aC aP (by omega) hPI h1 hP fr V
theorem xl_s12 (V : VC m aC) {f : Nat} (hf : f < 16) {fP : Int32} {post : SX → Prop} (h : ∀ aP, LB 1 (fun _ => m f) aP → ∃ n1, wX_splitPart_48 post n1 0 fP fL fF fB 1 aC aI aM aR aB aP aD aF aT aQ) : ∀ (d i : Nat) (aP : Nat → Int32), i + d = 9 → (∀ j, j < i → aP j = nI (pz_c (m f) j).val) → wX_splitPart_12 post (nI f) fP fL fF fB fC (d + 1) (nI i) aC aI aM aR aB aP aD aF aT aQ := by
  intro d
  induction d with
  | zero =>
    intro i aP hi h1
    have e : i = 9 := by omega
    subst e
    refine br_t (nI_le (a := 9) (b := 9) (by omega) (by omega)) (h aP (fun j hj => ⟨vc_s V hf, fun k hk => ?_⟩))
    have e0 : j = 0 := by omega
    rw [e0, Nat.mul_zero, Nat.zero_add]
    exact h1 k hk
  | succ d ih =>
    intro i aP hi h1
    refine br_f (nI_ge (a := i) (b := 9) (by omega) (by omega)) ⟨pk_in (9 * f + i) 144 (by omega) (ix_9 f i), vp_in_nI (by omega) (by omega), nm_r (e' := upd aP i (nI (pz_c (m f) i).val)) ?_ (nm_r (nI_1 i) (ih (i + 1) _ (by omega) (fun j hj => ?_)))⟩
    · rw [vc_rd V hf (by omega), nI_clamp (by omega)]
    · by_cases c : j = i
      · rw [c, pk_us]
      · rw [pk_un c]; exact h1 j (by omega)
theorem xw_splitPart (K : PK q iR) (IV : iv_T q aI) (V : VC m aC) (f2 : 2 ≤ pz_s (m 15)) (hsq : sq_f (m 15)) {post : SX → Prop} (h : ∀ (w : Pz q) (n : Nat) (P m' : Nat → Pz q) (fB : Int32) (aC aM aR aB aP : Nat → Int32), mo_M (m 15) w → PI w n P → (∀ j, j < n → ir_r (P j)) → LB n P aP → (∀ l, l < 4 ∨ (10 ≤ l ∧ l ≠ 15) → m' l = m l) → VC m' aC → post ((nI (q + 1)), fL, fF, fB, (nI n), aC, aI, aM, aR, aB, aP, aD, aF, aT, aQ)) : wpX_splitPart post ((nI (q + 1)), fL, fF, fB, fC, aC, aI, aM, aR, aB, aP, aD, aF, aT, aQ) 15 := by
  unfold wpX_splitPart
  dsimp only
  refine xw_makeMonic K IV V (a := 15) (by omega) (fun w aC hM V1 => ?_)
  have hM2 : mn_m w ∧ pz_s w = pz_s (m 15) ∧ dv_d w (m 15) ∧ dv_d (m 15) w := by
    rcases hM with ⟨z, _⟩ | z
    · exact absurd z (sz_ne K (by omega))
    · exact z
  obtain ⟨mw, sw, dw, _⟩ := hM2
  have sw9 : pz_s w ≤ 9 := by have := vc_s V (l := 15) (by omega); omega
  have hw := sq_dv hsq dw
  refine xw_findBasis K IV V1 (f := 15) (by omega) (by omega) (by omega) (by rw [st_s]; omega) (fun s B m2 aC aM aR aB hB s8 hL fr2 V2 => ?_)
  rw [st_s] at hB
  refine ⟨10, xl_s12 V2 (f := 15) (by omega) (fun aP hP => ?_) 9 0 aP rfl (fun j hj => by omega)⟩
  have e15 : m2 15 = w := by rw [fr2 15 (by omega) (by omega), st_s]
  rw [e15] at hP
  refine ⟨s + 1, xl_s48 K IV hw sw9 hL s8 (m0 := m2) (fun n P m3 aC aP hPI h1 hP fr3 V3 => ?_) s 0 1 (fun _ => w) m2 aC aP (by omega) ⟨?_, fun j hj => ⟨mw, by show 2 ≤ pz_s w; omega⟩⟩ (fun j hj b' c' hb' => by omega) hP (fun _ _ => rfl) V2⟩
  · refine h w n P m3 _ aC aM aR aB aP (Or.inr ⟨mw, sw, dw, by assumption⟩) hPI (fun j hj => ?_) hP (fun l hl => ?_) V3
    · refine bk_split K (mn_nz K mw) hw hB (pi_dv hPI hj) (hPI.2 j hj).2 (fun b hb c => ?_)
      have := h1 j hj b c.val (Or.inl ⟨hb, c.isLt⟩)
      rw [fv_of] at this
      exact this
    · rw [fr3 l (by omega), fr2 l (by omega) (by omega), st_n (by omega)]
  · show 1 * w = w
    grind
/-! takeOut -/
theorem xl_takeOut (K : PK q iR) (IV : iv_T q aI) {m0 : Nat → Pz q} (hf : ir_r (m0 13)) (h0 : m0 10 ≠ 0) (s10 : pz_s (m0 10) ≤ 9) {post : Int32 → SX → Prop} (h : ∀ (e : Nat) (m : Nat → Pz q) (aC : Nat → Int32), m0 10 = m0 13 ^ e * m 10 → ¬ dv_d (m0 13) (m 10) → e ≤ 8 → (∀ l, l ≠ 10 → l ≠ 12 → l ≠ 14 → m l = m0 l) → VC m aC → post (nI e) ((nI (q + 1)), fL, fF, fB, fC, aC, aI, aM, aR, aB, aP, aD, aF, aT, aQ)) : ∀ (d k : Nat) (m : Nat → Pz q) (aC : Nat → Int32), k + d = 8 → m0 10 = m0 13 ^ k * m 10 → (∀ l, l ≠ 10 → l ≠ 12 → l ≠ 14 → m l = m0 l) → VC m aC → wX_takeOut_4 post (d + 1) (nI k) (nI k) (nI (q + 1)) fL fF fB fC aC aI aM aR aB aP aD aF aT aQ := by
  intro d
  induction d with
  | zero =>
    intro k m aC hk e fr V
    have ek : k = 8 := by omega
    subst ek
    refine br_t (nI_le (a := 8) (b := 8) (by omega) (by omega)) (h 8 m aC e ?_ (by omega) fr V)
    have n10 := (nz_of_mul K (f := m0 13 ^ 8) (g := m 10) (by rw [← e]; exact h0)).2
    obtain ⟨a, ha⟩ := sz_nz K (ir_nz K hf)
    obtain ⟨b, hb⟩ := sz_nz K n10
    have hs := sz_mul K (sz_pow K ha 8) hb
    rw [← e] at hs
    have := hf.1
    exact ir_nc K hf n10 (by omega)
  | succ d ih =>
    intro k m aC hk e fr V
    have e13 : m 13 = m0 13 := fr 13 (by omega) (by omega) (by omega)
    refine br_f (nI_ge (a := k) (b := 8) (by omega) (by omega)) ?_
    refine xw_copy V (to := 14) (fr := 10) (by omega) (by omega) (fun aC V1 => ?_)
    refine xw_divideInto K IV V1 (qo := 12) (a := 14) (b := 13) (by omega) (by omega) (by omega) (by omega) (by omega) (by omega) (by rw [st_n (by omega), e13]; exact ir_nz K hf) (fun Q r aC eQ hr V2 => ?_)
    rw [st_s, st_n (l := 14) (j := 13) (by omega), e13] at eQ
    rw [st_n (l := 14) (j := 13) (by omega), e13] at hr
    have s13 : pz_s (m0 13) ≤ 9 := by rw [← e13]; exact vc_s V (by omega)
    refine xw_degreeOf K V2 (l := 14) (by omega) ?_
    rw [st_s]
    refine br_c (fun z => ?_) (fun z => ?_)
    · have r0 := sz_z K ((dn_neg (by omega)).mp z)
      refine xw_copy V2 (to := 10) (fr := 12) (by omega) (by omega) (fun aC V3 => ?_)
      refine nm_r (nI_1 k) (nm_r (nI_1 k) (ih (k + 1) _ aC (by omega) ?_ (fun l l1 l2 l3 => ?_) V3))
      · rw [st_s, st_n (by omega), st_s, e, eQ, r0, Lean.Grind.Semiring.pow_succ]; grind
      · rw [st_n l1, st_n l3, st_n l2, st_n l3]; exact fr l l1 l2 l3
    · refine h k _ aC ?_ ?_ (by omega) (fun l l1 l2 l3 => ?_) V2
      · rw [st_n (by omega), st_n (by omega), st_n (by omega)]; exact e
      · rw [st_n (by omega), st_n (by omega), st_n (by omega)]
        intro c
        rw [eQ] at c
        have r0 := dv_small K (dv_of_add c (dv_l _ Q)) hr
        exact z ((dn_neg (by omega)).mpr (by rw [r0, sz_0 K]))
      · rw [st_n l3, st_n l2, st_n l3]; exact fr l l1 l2 l3
theorem xw_takeOut (K : PK q iR) (IV : iv_T q aI) (V : VC m aC) (hf : ir_r (m 13)) (h0 : m 10 ≠ 0) {post : Int32 → SX → Prop} (h : ∀ (e : Nat) (m' : Nat → Pz q) (aC : Nat → Int32), m 10 = m 13 ^ e * m' 10 → ¬ dv_d (m 13) (m' 10) → e ≤ 8 → (∀ l, l ≠ 10 → l ≠ 12 → l ≠ 14 → m' l = m l) → VC m' aC → post (nI e) ((nI (q + 1)), fL, fF, fB, fC, aC, aI, aM, aR, aB, aP, aD, aF, aT, aQ)) : wpX_takeOut post ((nI (q + 1)), fL, fF, fB, fC, aC, aI, aM, aR, aB, aP, aD, aF, aT, aQ) :=
  ⟨9, xl_takeOut K IV hf h0 (vc_s V (by omega)) h 8 0 m aC rfl (by rw [Lean.Grind.Semiring.pow_zero]; grind) (fun _ _ _ _ => rfl) V⟩
/-! note -/
theorem xl_note2 {n x : Nat} {y fP : Int32} {c t : Nat → Nat} (hn : n ≤ 8) (hx : x < 2 ^ 31) (hc : ∀ i, i < n → c i < 2 ^ 31) (up : ∀ i j, i < j → j < n → c i < c j) (ne : ∀ i, i < n → c i ≠ x) {ty : Nat} (ey : y = nI ty) {post : SX → Prop} (h : ∀ (k : Nat) (aF aT : Nat → Int32), k ≤ n → (∀ i, i < k → c i < x) → (∀ i, k ≤ i → i < n → x < c i) → NA (n + 1) (in_s c k x) (in_s t k ty) aF aT → post (fP, fL, (nI (n + 1)), fB, fC, aC, aI, aM, aR, aB, aP, aD, aF, aT, aQ)) : ∀ (k : Nat) (aF aT : Nat → Int32), k ≤ n → (∀ i, i < k → aF i = nI (c i) ∧ aT i = nI (t i)) → (∀ i, k < i → i ≤ n → aF i = nI (c (i - 1)) ∧ aT i = nI (t (i - 1))) → (∀ i, k ≤ i → i < n → x < c i) → wX_note_42 post (nI x) y fP fL (nI n) fB fC (k + 1) (nI k) aC aI aM aR aB aP aD aF aT aQ := by
  intro k
  have fin : ∀ (k : Nat) (aF aT : Nat → Int32), k ≤ n → (∀ i, i < k → aF i = nI (c i) ∧ aT i = nI (t i)) → (∀ i, k < i → i ≤ n → aF i = nI (c (i - 1)) ∧ aT i = nI (t (i - 1))) → (∀ i, k ≤ i → i < n → x < c i) → (∀ i, i < k → c i < x) → wX_note_92 post (nI x) y (nI k) fP fL (nI n) fB fC aC aI aM aR aB aP aD aF aT aQ := fun k aF aT hk h1 h2 h3 h4 => by
    refine ⟨vp_in_nI (by omega) (by omega), nm_r (e' := upd aF k (nI x)) (by rw [nI_clamp (by omega)]) ⟨vp_in_nI (by omega) (by omega), nm_r (e' := upd aT k (nI ty)) (by rw [nI_clamp (by omega), ey]) (nm_r (nI_1 n) (h k _ _ hk h4 h3 (fun i hi => ?_)))⟩⟩
    by_cases c1 : i < k
    · rw [pk_un (by omega), pk_un (by omega), in_lt c1, in_lt c1]; exact h1 i c1
    · by_cases c2 : i = k
      · rw [c2, pk_us, pk_us, in_eq, in_eq]; exact ⟨rfl, rfl⟩
      · rw [pk_un (by omega), pk_un (by omega), in_gt (by omega), in_gt (by omega)]; exact h2 i (by omega) (by omega)
  induction k with
  | zero =>
    intro aF aT hk h1 h2 h3
    exact br_t (by decide) (fin 0 aF aT hk h1 h2 h3 (fun i hi => by omega))
  | succ k ih =>
    intro aF aT hk h1 h2 h3
    have a1 := h1 k (by omega)
    have e1 : nI (k + 1) - 1 = nI k := nI_pred k
    refine br_f (nI_nle (by omega) (by omega)) ?_
    rw [e1, nI_clamp (by omega), nI_clamp (by omega), a1.1, a1.2]
    refine ⟨vp_in_nI (by omega) (by omega), ?_⟩
    refine pk_le (c k) x (fun z => fin (k + 1) aF aT hk h1 h2 h3 (fun i hi => ?_)) (fun z => ?_) rfl rfl (hc k (by omega)) hx
    · have := ne k (by omega)
      by_cases e : i = k
      · rw [e]; omega
      · have := up i k (by omega) (by omega); omega
    · refine ⟨vp_in_nI (by omega) (by omega), vp_in_nI (by omega) (by omega), nm_e ⟨vp_in_nI (by omega) (by omega), vp_in_nI (by omega) (by omega), nm_e (nm_r (pk_m1 k) (ih _ _ (by omega) (fun i hi => ?_) (fun i hi hi2 => ?_) (fun i hi hi2 => ?_)))⟩⟩
      · rw [pk_un (by omega), pk_un (by omega)]; exact h1 i (by omega)
      · by_cases e : i = k + 1
        · rw [e, pk_us, pk_us]; exact ⟨rfl, rfl⟩
        · rw [pk_un e, pk_un e]; exact h2 i (by omega) hi2
      · by_cases e : i = k
        · rw [e]; exact z
        · exact h3 i (by omega) hi2
theorem xl_note1 {n x : Nat} {y fP : Int32} {c t : Nat → Nat} (hn : n ≤ 8) (hx : x < 2 ^ 31) (hc : ∀ i, i < n → c i < 2 ^ 31) (ne : ∀ i, i < n → c i ≠ x) (N : NA n c t aF aT) {post : SX → Prop} (h : ∃ n1, wX_note_42 post (nI x) y fP fL (nI n) fB fC n1 (nI n) aC aI aM aR aB aP aD aF aT aQ) : ∀ (d i : Nat), i + d = n → wX_note_2 post (nI x) y fP fL (nI n) fB fC aC aI aM aR aB aP aD aF aT aQ (d + 1) (nI i) := by
  intro d
  induction d with
  | zero =>
    intro i hi
    exact br_t (nI_le (by omega) (by omega)) h
  | succ d ih =>
    intro i hi
    refine br_f (nI_ge (by omega) (by omega)) ⟨vp_in_nI (by omega) (by omega), ?_⟩
    rw [nI_clamp (by omega), (N i (by omega)).1]
    refine pk_eq (c i) x (fun z => absurd z (ne i (by omega))) (fun _ => nm_r (nI_1 i) (ih (i + 1) (by omega))) rfl rfl (hc i (by omega)) hx
theorem xw_note {n x ty : Nat} {fP : Int32} {c t : Nat → Nat} (hn : n ≤ 8) (hx : x < 2 ^ 31) (hc : ∀ i, i < n → c i < 2 ^ 31) (up : ∀ i j, i < j → j < n → c i < c j) (ne : ∀ i, i < n → c i ≠ x) (N : NA n c t aF aT) {post : SX → Prop} (h : ∀ (k : Nat) (aF aT : Nat → Int32), k ≤ n → (∀ i, i < k → c i < x) → (∀ i, k ≤ i → i < n → x < c i) → NA (n + 1) (in_s c k x) (in_s t k ty) aF aT → post (fP, fL, (nI (n + 1)), fB, fC, aC, aI, aM, aR, aB, aP, aD, aF, aT, aQ)) : wpX_note post (fP, fL, (nI n), fB, fC, aC, aI, aM, aR, aB, aP, aD, aF, aT, aQ) (nI x) (nI ty) :=
  ⟨n + 1, xl_note1 hn hx hc ne N ⟨n + 1, xl_note2 hn hx hc up ne rfl h n aF aT (Nat.le_refl _) (fun i hi => N i hi) (fun i h1 h2 => by omega) (fun i h1 h2 => by omega)⟩ n 0 (by omega)⟩
end
end
section
/-! X: takeParts, split -/
/-- of the parts P the first k are taken out of h0, which leaves h -/
def li_L {q : Nat} [Lean.Grind.CommRing (Pz q)] (P : Nat → Pz q) (k : Nat) (h0 h : Pz q) : Prop :=
  (∀ j, j < k → ¬ dv_d (P j) h) ∧ (∀ f : Pz q, ir_r f → mn_m f → (∀ j, j < k → f ≠ P j) → ∀ e, ml_m f h0 e → ml_m f h e) ∧ dv_d h h0
section
variable {q : Nat} {iR : Lean.Grind.CommRing (Pz q)}
variable {fL fF fB fC : Int32} {aC aI aM aR aB aP aD aF aT aQ : Nat → Int32} {m : Nat → Pz q}
theorem li_step (K : PK q iR) {P : Nat → Pz q} {k e : Nat} {h0 h u : Pz q} (hk : ir_r (P k)) (mk : mn_m (P k)) (L : li_L P k h0 h) (eu : h = P k ^ e * u) (nu : ¬ dv_d (P k) u) : li_L P (k + 1) h0 u := by
  refine ⟨fun j hj c => ?_, fun f hf mf nf e1 he => ?_, dv_trans (by rw [eu]; exact dv_r _ _) L.2.2⟩
  · by_cases z : j = k
    · rw [z] at c; exact nu c
    · exact L.1 j (by omega) (dv_trans c (by rw [eu]; exact dv_r _ _))
  · have h1 := L.2.1 f hf mf (fun j hj => nf j (by omega)) e1 he
    have nd : ¬ dv_d f (P k) := fun z => nf k (by omega) (ir_eq K hf hk mf mk z)
    have h2 := ml_pow K hf (ml_0 nd) e
    rw [Nat.mul_zero] at h2
    rw [eu] at h1
    obtain ⟨c, hc, ec⟩ := ml_quo K hf h1 h2
    rw [ec, Nat.zero_add]
    exact hc
theorem fi_c (K : PK q iR) {F : Pz q} {tm n : Nat} {c t : Nat → Nat} {h : Pz q} (I : FI F tm n c t h) (sF : pz_s F ≤ 9) {i : Nat} (hi : i < n) : c i < 1953125 := by
  obtain ⟨h1, h2, h3, h4, _⟩ := I.2.1 i hi
  have := (dv_sz K ((ml_0' K h1 h3).mpr h4) (ml_nz K h1 h3)).2
  have h5 := ce_31 K (f := (ce_d (c i) : Pz q)) (by omega)
  rw [ce_ed K] at h5
  exact h5
theorem xl_t77 (K : PK q iR) (IV : iv_T q aI) {F : Pz q} {tm n cnt k : Nat} {c t : Nat → Nat} {P : Nat → Pz q} (sF : pz_s F ≤ 9) (I : FI F tm n c t (m 10)) (t0 : 0 < tm) (N : NA n c t aF aT) (hP : LB cnt P aP) (hk : k < cnt) (hcnt : cnt ≤ 8) (iP : ir_r (P k)) (mP : mn_m (P k)) (dP : dv_d (P k) (m 10)) (s13 : pz_s (m 13) ≤ 9) {post : SX → Prop} {J : Int32 → Int32 → Int32 → Int32 → Int32 → Int32 → (Nat → Int32) → (Nat → Int32) → (Nat → Int32) → (Nat → Int32) → (Nat → Int32) → (Nat → Int32) → (Nat → Int32) → (Nat → Int32) → (Nat → Int32) → (Nat → Int32) → Prop} (h : ∀ (e : Nat) (c t : Nat → Nat) (m' : Nat → Pz q) (aC aF aT : Nat → Int32), m 10 = P k ^ e * m' 10 → ¬ dv_d (P k) (m' 10) → FI F tm (n + 1) c t (m' 10) → NA (n + 1) c t aF aT → (∀ l, l < 4 → m' l = m l) → VC m' aC → J (nI (k + 1)) (nI (q + 1)) fL (nI (n + 1)) fB fC aC aI aM aR aB aP aD aF aT aQ) : ∀ (d i : Nat) (aC : Nat → Int32), i + d = 9 → VC (st_l m 13 (pz_x i (P k) (m 13))) aC → wX_takeParts_77 post J (nI tm) (nI k) (nI (q + 1)) fL (nI n) fB fC (d + 1) (nI i) aC aI aM aR aB aP aD aF aT aQ := by
  have e117 : ∀ j, (117 : Int32) + nI j = nI (9 * 13 + j) := fun j => nI_add 117 j
  have h0 := mn_nz K I.2.2.2.1
  intro d
  induction d with
  | zero =>
    intro i aC hi V
    have e : i = 9 := by omega
    subst e
    have V1 := vc_9 V (hP k hk).1 s13
    refine br_t (nI_le (a := 9) (b := 9) (by omega) (by omega)) ?_
    refine xw_takeOut K IV V1 (by rw [st_s]; exact iP) (by rw [st_n (by omega)]; exact h0) (fun e m2 aC eu nu e8 fr V2 => ?_)
    rw [st_s, st_n (by omega)] at eu
    rw [st_s] at nu
    have e13 : m2 13 = P k := by rw [fr 13 (by omega) (by omega) (by omega), st_s]
    refine xw_codeOf K V2 (l := 13) (by omega) ?_
    rw [e13, pk_mul]
    have e0 : 0 < e := Nat.pos_of_ne_zero (fun z => by
      rw [z, Lean.Grind.Semiring.pow_zero, Lean.Grind.Semiring.one_mul] at eu
      rw [eu] at dP
      exact nu dP)
    have not : ∀ i, i < n → c i ≠ ce_e (P k) := fun i hi e1 => by
      have := (I.2.1 i hi).2.2.2.2
      rw [e1, ce_de K] at this
      exact this dP
    have hs := I.2.2.2.2
    obtain ⟨s, hs2⟩ := sz_nz K h0
    have cP := ce_31 K (hP k hk).1
    refine xw_note (by omega) (by omega) (fun i hi => by have := fi_c K I sF hi; omega) I.1 not N (fun k2 aF aT hk2 lo hi N2 => nm_r (nI_1 k) ?_)
    refine h e _ _ m2 aC aF aT eu nu (fi_note K I iP mP eu nu e0 t0 hk2 lo hi) N2 (fun l hl => ?_) V2
    rw [fr l (by omega) (by omega) (by omega), st_n (by omega)]
  | succ d ih =>
    intro i aC hi V
    refine br_f (nI_ge (a := i) (b := 9) (by omega) (by omega)) ⟨pk_in (9 * k + i) 90 (by omega) (ix_9 k i), pk_in (9 * 13 + i) 144 (by omega) (e117 i), nm_r (e' := upd aC (9 * 13 + i) (nI (pz_c (P k) i).val)) ?_ (nm_r (nI_1 i) (ih (i + 1) _ (by omega) (vc_up V (by omega) (by omega))))⟩
    rw [e117, nI_clamp (by omega), lb_rd hP hk (by omega) (by omega)]
theorem xl_t67 (K : PK q iR) (IV : iv_T q aI) {F h0 w : Pz q} {tm cnt : Nat} {P : Nat → Pz q} (sF : pz_s F ≤ 9) (t0 : 0 < tm) (hP : LB cnt P aP) (hPI : PI w cnt P) (iP : ∀ j, j < cnt → ir_r (P j)) (hsq : sq_f w) (hw : ∀ (f : Pz q) (e : Nat), ir_r f → ml_m f h0 e → (dv_d f w ↔ (fq_v e : Fin (q + 1)) ≠ 0)) (h00 : h0 ≠ 0) (hcnt : cnt ≤ 8) {m0 : Nat → Pz q} {post : SX → Prop} (h : ∀ (n : Nat) (c t : Nat → Nat) (m : Nat → Pz q) (aC aF aT : Nat → Int32), FI F tm n c t (m 10) → (∀ (f : Pz q) (e : Nat), ir_r f → mn_m f → ml_m f (m 10) e → (fq_v e : Fin (q + 1)) = 0) → dv_d (m 10) h0 → NA n c t aF aT → (∀ l, l < 4 → m l = m0 l) → VC m aC → post ((nI (q + 1)), fL, (nI n), fB, (nI cnt), aC, aI, aM, aR, aB, aP, aD, aF, aT, aQ)) : ∀ (d k n : Nat) (c t : Nat → Nat) (m : Nat → Pz q) (aC aF aT : Nat → Int32), k + d = cnt → FI F tm n c t (m 10) → li_L P k h0 (m 10) → NA n c t aF aT → (∀ l, l < 4 → m l = m0 l) → VC m aC → wX_takeParts_67 post (nI tm) (d + 1) (nI k) (nI (q + 1)) fL (nI n) fB (nI cnt) aC aI aM aR aB aP aD aF aT aQ := by
  intro d
  induction d with
  | zero =>
    intro k n c t m aC aF aT hk I L N fr V
    have ek : k = cnt := by omega
    subst ek
    refine br_t (nI_le (by omega) (by omega)) (h n c t m aC aF aT I (fun f e hf mf he => ?_) L.2.2 N fr V)
    by_cases z : ∃ j, j < k ∧ f = P j
    · obtain ⟨j, hj, ej⟩ := z
      have nd := L.1 j hj
      rw [← ej] at nd
      have : e = 0 := Nat.eq_zero_of_not_pos (fun y => nd ((ml_0' K hf he).mpr y))
      rw [this]; rfl
    · obtain ⟨e0, he0, _⟩ := ml_ex K hf h00
      have ee := ml_un K hf he (L.2.1 f hf mf (fun j hj y => z ⟨j, hj, y⟩) e0 he0)
      refine Classical.byContradiction (fun ne => ?_)
      rw [ee] at ne
      have df := (hw f e0 hf he0).mpr ne
      rw [← hPI.1] at df
      obtain ⟨j, hj, dj⟩ := zp_pr K hf k df
      exact z ⟨j, hj, ir_eq K hf (iP j hj) mf (hPI.2 j hj).1 dj⟩
  | succ d ih =>
    intro k n c t m aC aF aT hk I L N fr V
    have kc : k < cnt := by omega
    obtain ⟨e0, he0, _⟩ := ml_ex K (iP k kc) h00
    have v0 := (hw (P k) e0 (iP k kc) he0).mp (pi_dv hPI kc)
    have e1 : 0 < e0 := Nat.pos_of_ne_zero (fun z => v0 (by rw [z]; rfl))
    have he1 := L.2.1 (P k) (iP k kc) (hPI.2 k kc).1 (fun j hj y => pi_ne K hPI hsq hj kc (iP j (by omega)) y.symm) e0 he0
    refine br_f (nI_ge (by omega) (by omega)) ⟨10, ?_⟩
    refine xl_t77 K IV sF I t0 N hP kc hcnt (iP k kc) (hPI.2 k kc).1 ((ml_0' K (iP k kc) he1).mpr e1) (vc_s V (by omega)) (fun e c t m1 aC aF aT eu nu I1 N1 fr1 V1 => ?_) 9 0 aC rfl (vc_0 V 13 _)
    exact ih (k + 1) (n + 1) c t m1 aC aF aT (by omega) I1 (li_step K (iP k kc) (hPI.2 k kc).1 L eu nu) N1 (fun l hl => by rw [fr1 l hl]; exact fr l hl) V1
theorem xw_takeParts (K : PK q iR) (IV : iv_T q aI) (V : VC m aC) {F : Pz q} {tm n : Nat} {c t : Nat → Nat} (sF : pz_s F ≤ 9) (t0 : 0 < tm) (I : FI F tm n c t (m 10)) (N : NA n c t aF aT) {post : SX → Prop} (h : ∀ (n : Nat) (c t : Nat → Nat) (m' : Nat → Pz q) (fB fC : Int32) (aC aM aR aB aP aF aT : Nat → Int32), FI F tm n c t (m' 10) → (∀ (f : Pz q) (e : Nat), ir_r f → mn_m f → ml_m f (m' 10) e → (fq_v e : Fin (q + 1)) = 0) → pz_s (m' 10) ≤ pz_s (m 10) → NA n c t aF aT → (∀ l, l < 4 → m' l = m l) → VC m' aC → post ((nI (q + 1)), fL, (nI n), fB, fC, aC, aI, aM, aR, aB, aP, aD, aF, aT, aQ)) : wpX_takeParts post ((nI (q + 1)), fL, (nI n), fB, fC, aC, aI, aM, aR, aB, aP, aD, aF, aT, aQ) (nI tm) := by
  have mh := I.2.2.2.1
  have h0 := mn_nz K mh
  unfold wpX_takeParts
  dsimp only
  refine xw_copy V (to := 11) (fr := 10) (by omega) (by omega) (fun aC V1 => ?_)
  refine xw_deriveInto K V1 (to := 12) (fr := 10) (by omega) (by omega) (fun aC V2 => ?_)
  rw [st_n (l := 11) (j := 10) (by omega)] at V2
  refine xw_copy V2 (to := 13) (fr := 12) (by omega) (by omega) (fun aC V3 => ?_)
  rw [st_s] at V3
  refine xw_divisorInto K IV V3 (a := 11) (b := 13) (by omega) (by omega) (by omega) (by omega) (by omega) (by omega) (by omega) (fun g m4 aC hg zg e11 fr4 V4 => ?_)
  rw [st_n (by omega), st_n (by omega), st_s, st_s] at hg
  have fr5 : ∀ l, l ≠ 11 → l ≠ 12 → l ≠ 13 → l ≠ 4 → l ≠ 5 → m4 l = m l := fun l l1 l2 l3 l4 l5 => by
    rw [fr4 l l1 l3 l4 l5, st_n l3, st_n l2, st_n l1]
  have g0 := (dv_sz K hg.1 h0).1
  have mg := zg.resolve_left g0
  refine xw_copy V4 (to := 14) (fr := 10) (by omega) (by omega) (fun aC V5 => ?_)
  rw [fr5 10 (by omega) (by omega) (by omega) (by omega) (by omega)] at V5
  refine xw_divideInto K IV V5 (qo := 15) (a := 14) (b := 11) (by omega) (by omega) (by omega) (by omega) (by omega) (by omega) (by rw [st_n (by omega), e11]; exact g0) (fun w r aC ew hr V6 => ?_)
  rw [st_s, st_n (l := 14) (j := 11) (by omega), e11] at ew
  rw [st_n (l := 14) (j := 11) (by omega), e11] at hr
  have r0 : r = 0 := dv_small K (a := g) (dv_of_add (b := g * w) (by rw [← ew]; exact hg.1) (dv_l g w)) hr
  have eh : m 10 = g * w := by rw [ew, r0]; grind
  have w0 := (nz_of_mul K (f := g) (g := w) (by rw [← eh]; exact h0)).2
  have e15 : (st_l (st_l (st_l m4 14 (m 10)) 15 w) 14 r) 15 = w := by rw [st_n (by omega), st_s]
  have e10 : (st_l (st_l (st_l m4 14 (m 10)) 15 w) 14 r) 10 = m 10 := by
    rw [st_n (by omega), st_n (by omega), st_n (by omega)]
    exact fr5 10 (by omega) (by omega) (by omega) (by omega) (by omega)
  have fr6 : ∀ l, l < 4 → (st_l (st_l (st_l m4 14 (m 10)) 15 w) 14 r) l = m l := fun l hl => by
    rw [st_n (by omega), st_n (by omega), st_n (by omega)]
    exact fr5 l (by omega) (by omega) (by omega) (by omega) (by omega)
  have sw9 := vc_s V6 (l := 15) (by omega)
  rw [e15] at sw9
  dsimp only
  refine xw_degreeOf K V6 (l := 15) (by omega) ?_
  rw [e15]
  refine br_c (fun z => ?_) (fun z => ?_)
  · have s1 := (dn_le0 (by omega)).mp z
    refine h n c t _ _ _ aC _ _ _ _ _ _ (by rw [e10]; exact I) (fun f e hf mf he => ?_) (by rw [e10]; exact Nat.le_refl _) N fr6 V6
    rw [e10] at he
    exact Classical.byContradiction (fun ne => ir_nc K hf w0 s1 ((sp_dv K hg eh hf he).mpr ne))
  · have s2 : 2 ≤ pz_s w := Nat.lt_of_not_le (fun y => z ((dn_le0 (by omega)).mpr y))
    refine xw_splitPart K IV V6 (by rw [e15]; exact s2) (by rw [e15]; exact sp_sq K h0 hg eh) (fun w2 cnt P m7 fB aC aM aR aB aP hM hPI iP hP fr7 V7 => ?_)
    rw [e15] at hM
    have hM2 : dv_d w2 w ∧ dv_d w w2 := by
      rcases hM with ⟨z, _⟩ | z
      · exact absurd z w0
      · exact z.2.2
    have e7 : m7 10 = m 10 := by rw [fr7 10 (by omega)]; exact e10
    have sq2 := sq_dv (sp_sq K h0 hg eh) hM2.1
    have w20 := (dv_sz K hM2.1 w0).1
    have hc8 : cnt ≤ 8 := by
      have := pi_len K hPI
      have := (dv_sz K hM2.1 w0).2
      omega
    refine ⟨cnt + 1, xl_t67 K IV (h0 := m 10) (w := w2) sF t0 hP hPI iP sq2 (fun f e hf he => ?_) h0 hc8 (m0 := m) (fun n c t m8 aC aF aT I8 hz d8 N8 fr8 V8 => ?_) cnt 0 n c t m7 aC aF aT (by omega) (by rw [e7]; exact I) ⟨fun j hj => by omega, fun f _ _ _ e he => by rw [e7]; exact he, by rw [e7]; exact dv_refl _⟩ N (fun l hl => by rw [fr7 l (by omega)]; exact fr6 l hl) V7⟩
    · rw [← sp_dv K hg eh hf he]
      exact ⟨fun d => dv_trans d hM2.1, fun d => dv_trans d hM2.2⟩
    · exact h n c t m8 _ _ aC aM aR aB aP aF aT I8 hz (dv_sz K d8 h0).2 N8 fr8 V8
end
end
section
/-! X: split -/
section
variable {q : Nat} {iR : Lean.Grind.CommRing (Pz q)}
variable {fL fF fB fC : Int32} {aC aI aM aR aB aP aD aF aT aQ : Nat → Int32} {m : Nat → Pz q}
theorem xl_split (K : PK q iR) (IV : iv_T q aI) {F : Pz q} (sF : pz_s F ≤ 9) {m0 : Nat → Pz q} {post : Int32 → SX → Prop} (h : ∀ (n : Nat) (c t : Nat → Nat) (m : Nat → Pz q) (fB fC : Int32) (aC aM aR aB aP aF aT : Nat → Int32), fl_F F n c t → NA n c t aF aT → n ≤ 8 → (∀ i, i < n → c i < 1953125) → (∀ l, l < 4 → m l = m0 l) → VC m aC → post 0 ((nI (q + 1)), fL, (nI n), fB, fC, aC, aI, aM, aR, aB, aP, aD, aF, aT, aQ)) : ∀ (d r n : Nat) (c t : Nat → Nat) (m : Nat → Pz q) (fB fC : Int32) (aC aM aR aB aP aF aT : Nat → Int32), r + d = 5 → FI F ((q + 1) ^ r) n c t (m 10) → (pz_s (m 10) - 1) * 2 ^ r ≤ 8 → NA n c t aF aT → (∀ l, l < 4 → m l = m0 l) → VC m aC → wX_split_42 post (d + 1) (nI ((q + 1) ^ r)) (nI r) (nI (q + 1)) fL (nI n) fB fC aC aI aM aR aB aP aD aF aT aQ := by
  have fin : ∀ (tm n : Nat) (c t : Nat → Nat) (m : Nat → Pz q) (fB fC : Int32) (aC aM aR aB aP aF aT : Nat → Int32), FI F tm n c t (m 10) → pz_s (m 10) ≤ 1 → NA n c t aF aT → (∀ l, l < 4 → m l = m0 l) → VC m aC → post 0 ((nI (q + 1)), fL, (nI n), fB, fC, aC, aI, aM, aR, aB, aP, aD, aF, aT, aQ) := fun tm n c t m fB fC aC aM aR aB aP aF aT I s1 N fr V => by
    have hs := I.2.2.2.2
    obtain ⟨s, hs2⟩ := sz_nz K (mn_nz K I.2.2.2.1)
    exact h n c t m fB fC aC aM aR aB aP aF aT (fi_end K I s1) N (by omega) (fun i hi => fi_c K I sF hi) fr V
  intro d
  induction d with
  | zero =>
    intro r n c t m fB fC aC aM aR aB aP aF aT hr I hs N fr V
    have e : r = 5 := by omega
    subst e
    exact br_t (nI_le (a := 5) (b := 5) (by omega) (by omega)) (fin _ n c t m fB fC aC aM aR aB aP aF aT I (by omega) N fr V)
  | succ d ih =>
    intro r n c t m fB fC aC aM aR aB aP aF aT hr I hs N fr V
    refine br_f (nI_ge (a := r) (b := 5) (by omega) (by omega)) ?_
    refine xw_degreeOf K V (l := 10) (by omega) ?_
    have s9 := vc_s V (l := 10) (by omega)
    refine br_c (fun z => fin _ n c t m fB fC aC aM aR aB aP aF aT I ((dn_le0 (by omega)).mp z) N fr V) (fun z => ?_)
    dsimp only
    refine xw_takeParts K IV V sF (Nat.pow_pos (by omega)) I N (fun n c t m1 fB fC aC aM aR aB aP aF aT I1 hz sl N1 fr1 V1 => ?_)
    have hR := fi_root K I1 hz
    refine nm_r (e' := nI ((q + 1) ^ (r + 1))) (by rw [pk_mul, Nat.pow_succ]) ?_
    dsimp only
    refine xw_rootOfPower K V1 (fun aC V2 => nm_r (nI_1 r) ?_)
    refine ih (r + 1) n c t _ fB fC aC aM aR aB aP aF aT (by omega) ?_ ?_ N1 (fun l hl => by rw [st_n (by omega), fr1 l hl]; exact fr l hl) V2
    · rw [st_s, Nat.pow_succ]; exact hR.1
    · rw [st_s, Nat.pow_succ]
      have h2 := k_2 K
      have e1 := hR.2
      have e2 : 2 * (pz_s (rt_r (m1 10)) - 1) ≤ (q + 1) * (pz_s (rt_r (m1 10)) - 1) := Nat.mul_le_mul_right _ h2
      have e3 : (pz_s (rt_r (m1 10)) - 1) * 2 ≤ pz_s (m 10) - 1 := by omega
      have e4 : (pz_s (rt_r (m1 10)) - 1) * 2 * 2 ^ r ≤ (pz_s (m 10) - 1) * 2 ^ r := Nat.mul_le_mul_right _ e3
      have e5 : (pz_s (rt_r (m1 10)) - 1) * (2 ^ r * 2) = (pz_s (rt_r (m1 10)) - 1) * 2 * 2 ^ r := by ac_rfl
      omega
theorem xw_split (K : PK q iR) (IV : iv_T q aI) (V : VC m aC) {a : Nat} (ha : a < 3) (a0 : m a ≠ 0) {post : Int32 → SX → Prop} (h : ∀ (F : Pz q) (n : Nat) (c t : Nat → Nat) (m' : Nat → Pz q) (fB fC : Int32) (aC aM aR aB aP aF aT : Nat → Int32), mo_M (m a) F → fl_F F n c t → NA n c t aF aT → n ≤ 8 → (∀ i, i < n → c i < 1953125) → (∀ l, l < 4 → m' l = m l) → VC m' aC → post 0 ((nI (q + 1)), fL, (nI n), fB, fC, aC, aI, aM, aR, aB, aP, aD, aF, aT, aQ)) : wpX_split post ((nI (q + 1)), fL, fF, fB, fC, aC, aI, aM, aR, aB, aP, aD, aF, aT, aQ) (nI a) := by
  have s9 := vc_s V (l := a) (by omega)
  unfold wpX_split
  dsimp only
  refine xr_yes ha (br_f (by decide) ?_)
  refine xw_degreeOf K V (l := a) (by omega) ?_
  obtain ⟨s, hs⟩ := sz_nz K a0
  refine br_t ((dn_pos (by omega)).mpr (by omega)) ?_
  refine xw_copy V (to := 10) (fr := a) (by omega) (by omega) (fun aC V1 => ?_)
  dsimp only
  refine xw_makeMonic K IV V1 (a := 10) (by omega) (fun F aC hM V2 => ?_)
  rw [st_s] at hM
  rw [st_st] at V2
  have mF : mn_m F ∧ pz_s F = pz_s (m a) := by
    rcases hM with ⟨z, _⟩ | z
    · exact absurd z a0
    · exact ⟨z.1, z.2.1⟩
  refine ⟨6, xl_split K IV (F := F) (by omega) (m0 := m) (fun n c t m1 fB fC aC aM aR aB aP aF aT hF N n8 hc fr V3 => h F n c t m1 fB fC aC aM aR aB aP aF aT hM hF N n8 hc fr V3) 5 0 0 (fun _ => 0) (fun _ => 0) _ _ _ aC _ _ _ _ _ _ rfl ?_ ?_ (fun i hi => by omega) (fun l hl => by rw [st_n (by omega)]) V2⟩
  · rw [st_s]
    exact fi_start K mF.1 (by omega) _ _
  · rw [st_s]
    omega
theorem xw_split0 (K : PK q iR) (V : VC m aC) {a : Nat} (ha : a < 3) (a0 : m a = 0) {post : Int32 → SX → Prop} (h : post (-2) ((nI (q + 1)), fL, fF, fB, fC, aC, aI, aM, aR, aB, aP, aD, aF, aT, aQ)) : wpX_split post ((nI (q + 1)), fL, fF, fB, fC, aC, aI, aM, aR, aB, aP, aD, aF, aT, aQ) (nI a) := by
  unfold wpX_split
  dsimp only
  refine xr_yes ha (br_f (by decide) ?_)
  refine xw_degreeOf K V (l := a) (by omega) ?_
  rw [a0, sz_0 K]
  exact br_f (by decide) h
theorem xw_splitN {a : Int32} (ha : a < 0 ∨ 2 < a) {fP : Int32} {post : Int32 → SX → Prop} (h : post (-1) (fP, fL, fF, fB, fC, aC, aI, aM, aR, aB, aP, aD, aF, aT, aQ)) : wpX_split post (fP, fL, fF, fB, fC, aC, aI, aM, aR, aB, aP, aD, aF, aT, aQ) a := by
  unfold wpX_split
  dsimp only
  exact xr_no ha (br_t rfl h)
end
end
section
/-! Y: digits, degree, sums, products, quotients of codes -/
section
variable {q : Nat} {iR : Lean.Grind.CommRing (Pz q)}
variable {gE gR gF : Int32} {bR bF bO : Nat → Int32}
theorem yb_yes {fP : Int32} {post : Int32 → Prop} {l : Nat} (hl : l < 3) (h : post 0) : wpY_bad post (fP, gE, gR, gF, bR, bF, bO) (nI l) :=
  br_f (nI_pos (by omega)) (br_t (nI_le (a := l) (b := 2) (by omega) (by omega)) h)
theorem yb_no {fP : Int32} {post : Int32 → Prop} {x : Int32} (hx : x < 0 ∨ 2 < x) (h : post 1) : wpY_bad post (fP, gE, gR, gF, bR, bF, bO) x :=
  br_c (fun _ => h) (fun n => br_f (Int32.not_le.mpr (hx.resolve_left n)) h)
theorem dn_1 (i : Nat) : dn i + 1 = dn (i + 1) := by
  rw [dn_s]
  show nI i + (-1) + 1 = nI i
  rw [Int32.add_assoc, show (-1 : Int32) + 1 = 0 from rfl, Int32.add_zero]
theorem yl_degreeOf (K : PK q iR) {f : Pz q} (hf : pz_s f ≤ 9) {post : Int32 → Prop} (h : post (dn (pz_s f))) : ∀ d i, i + d = pz_s f → wY_degreeOf_7 post (nI (q + 1)) gE gR gF bR bF bO (d + 1) (dn i) (nI (ce_e f / (q + 1) ^ i)) (nI i) := by
  have hC := ce_31 K hf
  intro d
  induction d with
  | zero =>
    intro i hi
    have e : i = pz_s f := by omega
    subst e
    rw [Nat.div_eq_of_lt (ce_lt f (Nat.le_refl _))]
    exact br_f (nI_ge (a := pz_s f) (b := 20) (by omega) (by omega)) (br_t (by decide) h)
  | succ d ih =>
    intro i hi
    have h1 := Nat.div_le_self (ce_e f) ((q + 1) ^ i)
    have h2 : 0 < ce_e f / (q + 1) ^ i := Nat.div_pos (Nat.le_of_not_lt (fun c => by
      have := (ce_sz K).mp c
      omega)) (Nat.pow_pos (by omega))
    refine br_f (nI_ge (a := i) (b := 20) (by omega) (by omega)) (br_f (nI_nle h2 (by omega)) ⟨p_nz K, nm_r (e' := nI (ce_e f / (q + 1) ^ (i + 1))) ?_ (nm_r (dn_1 i) (nm_r (nI_1 i) (ih (i + 1) (by omega))))⟩)
    rw [dv_p K (by omega), Nat.div_div_eq_div_mul, ← Nat.pow_succ]
theorem yw_degreeOf (K : PK q iR) {f : Pz q} (hf : pz_s f ≤ 9) {post : Int32 → Prop} (h : post (dn (pz_s f))) : wpY_degreeOf post ((nI (q + 1)), gE, gR, gF, bR, bF, bO) (nI (ce_e f)) := by
  refine ⟨pz_s f + 1, ?_⟩
  have h1 : wY_degreeOf_7 post (nI (q + 1)) gE gR gF bR bF bO (pz_s f + 1) (dn 0) (nI (ce_e f / (q + 1) ^ 0)) (nI 0) := yl_degreeOf K hf h (pz_s f) 0 (by omega)
  rw [Nat.pow_zero, Nat.div_one] at h1
  exact h1
theorem yl_digit (K : PK q iR) {f : Pz q} (hf : pz_s f ≤ 9) {i : Nat} (hi : i ≤ 9) {post : Int32 → Prop} (h : post (nI (pz_c f i).val)) : ∀ d k, k + d = i → wY_digit_5 post (nI i) (nI (q + 1)) gE gR gF bR bF bO (d + 1) (nI (ce_e f / (q + 1) ^ k)) (nI k) := by
  have hC := ce_31 K hf
  intro d
  induction d with
  | zero =>
    intro k hk
    have e : k = i := by omega
    subst e
    have h1 := Nat.div_le_self (ce_e f) ((q + 1) ^ k)
    refine br_t (nI_le (by omega) (by omega)) ⟨p_nz K, ?_⟩
    rw [rm_p K (by omega), fv_val, ce_dg]
    exact h
  | succ d ih =>
    intro k hk
    have h1 := Nat.div_le_self (ce_e f) ((q + 1) ^ k)
    refine br_f (nI_ge (by omega) (by omega)) ⟨p_nz K, nm_r (e' := nI (ce_e f / (q + 1) ^ (k + 1))) ?_ (nm_r (nI_1 k) (ih (k + 1) (by omega)))⟩
    rw [dv_p K (by omega), Nat.div_div_eq_div_mul, ← Nat.pow_succ]
theorem yw_digit (K : PK q iR) {f : Pz q} (hf : pz_s f ≤ 9) {i : Nat} (hi : i ≤ 9) {post : Int32 → Prop} (h : post (nI (pz_c f i).val)) : wpY_digit post ((nI (q + 1)), gE, gR, gF, bR, bF, bO) (nI (ce_e f)) (nI i) := by
  refine ⟨i + 1, ?_⟩
  have h1 : wY_digit_5 post (nI i) (nI (q + 1)) gE gR gF bR bF bO (i + 1) (nI (ce_e f / (q + 1) ^ 0)) (nI 0) := yl_digit K hf hi h i 0 (by omega)
  rw [Nat.pow_zero, Nat.div_one] at h1
  exact h1
theorem yl_lead (K : PK q iR) {f : Pz q} {n : Nat} (hn : n ≤ 8) (hf : pz_s f = n + 1) {post : Int32 → Prop} (h : post (nI (pz_c f n).val)) : ∀ d i, i + d = n → wY_lead_4 post (nI (q + 1)) gE gR gF bR bF bO (d + 1) (nI (ce_e f / (q + 1) ^ i)) (nI i) := by
  have hC := ce_31 K (f := f) (by omega)
  have q5 := q_5 K
  intro d
  induction d with
  | zero =>
    intro i hi
    have e : i = n := by omega
    subst e
    rw [ce_top K (Nat.le_of_eq hf)]
    exact br_f (nI_ge (a := i) (b := 20) (by omega) (by omega)) (br_t (nI_lt (pz_c f i).isLt (by omega)) h)
  | succ d ih =>
    intro i hi
    have h1 := Nat.div_le_self (ce_e f) ((q + 1) ^ i)
    have h2 : q + 1 ≤ ce_e f / (q + 1) ^ i := by
      rw [Nat.le_div_iff_mul_le (Nat.pow_pos (by omega)), Nat.mul_comm, ← Nat.pow_succ]
      exact Nat.le_of_not_lt (fun c => by
        have := (ce_sz K).mp c
        omega)
    refine br_f (nI_ge (a := i) (b := 20) (by omega) (by omega)) (br_f (nI_nlt h2 (by omega)) ⟨p_nz K, nm_r (e' := nI (ce_e f / (q + 1) ^ (i + 1))) ?_ (nm_r (nI_1 i) (ih (i + 1) (by omega)))⟩)
    rw [dv_p K (by omega), Nat.div_div_eq_div_mul, ← Nat.pow_succ]
theorem yw_lead (K : PK q iR) {f : Pz q} {n : Nat} (hn : n ≤ 8) (hf : pz_s f = n + 1) {post : Int32 → Prop} (h : post (nI (pz_c f n).val)) : wpY_lead post ((nI (q + 1)), gE, gR, gF, bR, bF, bO) (nI (ce_e f)) := by
  refine ⟨n + 1, ?_⟩
  have h1 : wY_lead_4 post (nI (q + 1)) gE gR gF bR bF bO (n + 1) (nI (ce_e f / (q + 1) ^ 0)) (nI 0) := yl_lead K hn hf h n 0 (by omega)
  rw [Nat.pow_zero, Nat.div_one] at h1
  exact h1
theorem yl_inverse (K : PK q iR) {c t : Fin (q + 1)} (ht : c * t = 1) {post : Int32 → Prop} (h : post (nI t.val)) : ∀ d k, k + d = t.val → wY_inverse_2 post (nI c.val) (nI (q + 1)) gE gR gF bR bF bO (d + 1) (nI k) := by
  have q5 := q_5 K
  have b1 := pv_lt c K
  have b2 := t.isLt
  have key : ∀ k, k < q + 1 → (nI c.val * nI k - nI c.val * nI k / nI (q + 1) * nI (q + 1) = 1 ↔ k = t.val) := fun k hk => by
    have b3 : c.val * k ≤ 5 * 5 := Nat.mul_le_mul (by omega) (by omega)
    have b4 := pv_lt (c * fq_v k) K
    rw [pk_mul, rm_p K (by omega), fv_mul, fv_of, show (1 : Int32) = nI 1 from rfl, nI_eq (by omega) (by omega)]
    have e1 : ((1 : Fin (q + 1)).val) = 1 := Nat.mod_eq_of_lt (k_2 K)
    constructor
    · intro e
      have e2 : c * fq_v k = 1 := Fin.ext (by rw [e, e1])
      have e3 : (fq_v k : Fin (q + 1)) = t := by
        have : t * (c * fq_v k) = t * 1 := by rw [e2]
        rw [← Lean.Grind.Semiring.mul_assoc, Lean.Grind.CommSemiring.mul_comm t c, ht, Lean.Grind.Semiring.one_mul, Lean.Grind.Semiring.mul_one] at this
        exact this
      rw [← e3, fv_val, Nat.mod_eq_of_lt hk]
    · intro e
      rw [e, fv_of, ht, e1]
  intro d
  induction d with
  | zero =>
    intro k hk
    have e : k = t.val := by omega
    subst e
    exact br_f (nI_ge b2 (by omega)) ⟨p_nz K, br_t ((key _ b2).mpr rfl) h⟩
  | succ d ih =>
    intro k hk
    exact br_f (nI_ge (by omega) (by omega)) ⟨p_nz K, br_f (fun z => by have := (key k (by omega)).mp z; omega) (nm_r (nI_1 k) (ih (k + 1) (by omega)))⟩
theorem yw_inverse (K : PK q iR) {c : Fin (q + 1)} (hc : c ≠ 0) {post : Int32 → Prop} (h : ∀ t : Fin (q + 1), c * t = 1 → post (nI t.val)) : wpY_inverse post ((nI (q + 1)), gE, gR, gF, bR, bF, bO) (nI c.val) := by
  obtain ⟨t, ht⟩ := fq_inv K hc
  have t0 : t ≠ 0 := fun z => by
    rw [z, Lean.Grind.Semiring.mul_zero] at ht
    exact fq_1 K ht.symm
  have t1 : t.val ≠ 0 := fun z => t0 (Fin.ext z)
  exact ⟨t.val - 1 + 1, yl_inverse K ht (h t ht) (t.val - 1) 1 (by omega)⟩
theorem yl_plus (K : PK q iR) {f g : Pz q} {tm : Nat} (hf : ce_e f < 2 ^ 31) (hg : ce_e g < 2 ^ 31) (ht : tm ≤ 5) {F : Pz q} (eF : F = f + pz_mo (fq_v tm) 0 * g) {post : Int32 → Prop} (h : post (nI (ce_v F 9))) : ∀ d i, i + d = 9 → wY_plus_15 post (nI tm) (nI (q + 1)) gE gR gF bR bF bO (d + 1) (nI (ce_v F i)) (nI ((q + 1) ^ i)) (nI (ce_e f / (q + 1) ^ i)) (nI (ce_e g / (q + 1) ^ i)) (nI i) := by
  intro d
  induction d with
  | zero =>
    intro i hi
    have e : i = 9 := by omega
    subst e
    exact br_t (nI_le (a := 9) (b := 9) (by omega) (by omega)) h
  | succ d ih =>
    intro i hi
    have h1 := Nat.div_le_self (ce_e f) ((q + 1) ^ i)
    have h2 := Nat.div_le_self (ce_e g) ((q + 1) ^ i)
    refine br_f (nI_ge (a := i) (b := 9) (by omega) (by omega)) ⟨p_nz K, p_nz K, p_nz K, nm_r (e' := nI (ce_v F (i + 1))) ?_ (nm_r (e' := nI ((q + 1) ^ (i + 1))) ?_ ⟨p_nz K, nm_r (e' := nI (ce_e f / (q + 1) ^ (i + 1))) ?_ ⟨p_nz K, nm_r (e' := nI (ce_e g / (q + 1) ^ (i + 1))) ?_ (nm_r (nI_1 i) (ih (i + 1) (by omega)))⟩⟩)⟩
    · have b1 := pv_lt (pz_c f i) K
      have b2 := pv_lt (pz_c g i) K
      have b3 : tm * (pz_c g i).val ≤ 5 * 5 := Nat.mul_le_mul ht (by omega)
      rw [rm_p K (N := ce_e f / (q + 1) ^ i) (by omega), rm_p K (N := ce_e g / (q + 1) ^ i) (by omega), fv_val, fv_val, ce_dg, ce_dg, pk_mul, nI_add, rm_p K (by omega), fv_add, fv_mul, fv_of, fv_of, pk_mul, nI_add, ce_v, eF, pz_add K, C_mul K]
    · rw [pk_mul, Nat.pow_succ]
    · rw [dv_p K (by omega), Nat.div_div_eq_div_mul, ← Nat.pow_succ]
    · rw [dv_p K (by omega), Nat.div_div_eq_div_mul, ← Nat.pow_succ]
theorem yw_plus (K : PK q iR) {f g : Pz q} {tm : Nat} (hf : ce_e f < 2 ^ 31) (hg : ce_e g < 2 ^ 31) (ht : tm ≤ 5) (hs : pz_s (f + pz_mo (fq_v tm) 0 * g) ≤ 9) {post : Int32 → Prop} (h : post (nI (ce_e (f + pz_mo (fq_v tm) 0 * g)))) : wpY_plus post ((nI (q + 1)), gE, gR, gF, bR, bF, bO) (nI (ce_e f)) (nI (ce_e g)) (nI tm) := by
  refine ⟨10, ?_⟩
  rw [← ce_ve hs] at h
  have h1 : wY_plus_15 post (nI tm) (nI (q + 1)) gE gR gF bR bF bO 10 (nI (ce_v (f + pz_mo (fq_v tm) 0 * g) 0)) (nI ((q + 1) ^ 0)) (nI (ce_e f / (q + 1) ^ 0)) (nI (ce_e g / (q + 1) ^ 0)) (nI 0) := yl_plus K hf hg ht rfl h 9 0 rfl
  rw [Nat.pow_zero, Nat.div_one, Nat.div_one] at h1
  exact h1
/-- X to the i times f -/
theorem ce_sh (K : PK q iR) (f : Pz q) (i : Nat) : ce_e (pz_mo 1 i * f) = (q + 1) ^ i * ce_e f := by
  have e : pz_mo 1 i * f = ce_d ((q + 1) ^ i * ce_e f) := pz_ext (fun j => by
    rw [mo_mul K, ce_dc K]
    by_cases c : i ≤ j
    · obtain ⟨k, rfl⟩ : ∃ k, j = i + k := ⟨j - i, by omega⟩
      rw [if_pos c, Nat.add_sub_cancel_left, Nat.pow_add, Nat.mul_div_mul_left _ _ (Nat.pow_pos (by omega)), Lean.Grind.Semiring.one_mul]
      exact Fin.ext (ce_dg f k).symm
    · obtain ⟨k, rfl⟩ : ∃ k, i = j + 1 + k := ⟨i - j - 1, by omega⟩
      have e2 : (q + 1) ^ (j + 1 + k) * ce_e f = (q + 1) ^ j * ((q + 1) * ((q + 1) ^ k * ce_e f)) := by
        rw [Nat.pow_add, Nat.pow_succ]; ac_rfl
      rw [if_neg c, e2, Nat.mul_div_cancel_left _ (Nat.pow_pos (by omega))]
      exact (fv_z.mpr (Nat.mul_mod_right _ _)).symm)
  rw [e, ce_ed K]
/-- one more coefficient -/
theorem ce_am (K : PK q iR) {f : Pz q} {i : Nat} (c : Fin (q + 1)) (hi : pz_c f i = 0) : ce_e (f + pz_mo c i) = ce_e f + c.val * (q + 1) ^ i := by
  have key : ∀ n, ce_v (f + pz_mo c i) n = ce_v f n + if i < n then c.val * (q + 1) ^ i else 0 := fun n => by
    induction n with
    | zero => rw [if_neg (by omega)]; rfl
    | succ n ih =>
      rw [ce_v, ce_v, ih, pz_add K, mo_c]
      by_cases e : n = i
      · rw [if_pos e, if_neg (by omega), if_pos (by omega), e, hi, Lean.Grind.AddCommMonoid.zero_add]
        show ce_v f i + 0 + c.val * (q + 1) ^ i = ce_v f i + 0 * (q + 1) ^ i + c.val * (q + 1) ^ i
        omega
      · rw [if_neg e, Lean.Grind.Semiring.add_zero]
        by_cases e2 : i < n
        · rw [if_pos e2, if_pos (by omega)]; omega
        · rw [if_neg e2, if_neg (by omega)]; omega
  rw [← ce_ve (f := f + pz_mo c i) (n := pz_s (f + pz_mo c i) + pz_s f + i + 1) (by omega), key, if_pos (by omega), ce_ve (f := f) (by omega)]
end
end
section
/-! Y: product, quotient, monic, common divisor, value -/
section
variable {q : Nat} {iR : Lean.Grind.CommRing (Pz q)}
variable {gE gR gF : Int32} {bR bF bO : Nat → Int32}
theorem yl_product (K : PK q iR) {f g : Pz q} (f0 : f ≠ 0) (g0 : g ≠ 0) (hs : pz_s f + pz_s g ≤ 10) {post : Int32 → Prop} (h : post (nI (ce_e (f * g)))) : ∀ (d i U : Nat), i + d = 9 → (i < pz_s g → U = (q + 1) ^ i * ce_e f) → U < 1953125 → wY_product_11 post (nI (q + 1)) gE gR gF bR bF bO (d + 1) (nI (ce_e (f * pz_x i g 0))) (nI U) (nI (ce_e g / (q + 1) ^ i)) (nI i) := by
  obtain ⟨a, ha⟩ := sz_nz K f0
  obtain ⟨b, hb⟩ := sz_nz K g0
  have z9 : pz_s (0 : Pz q) ≤ 9 := by rw [sz_0 K]; omega
  have hg := ce_31 K (f := g) (by omega)
  have px : ∀ i, pz_s (pz_x i g 0) ≤ b + 1 := fun i => sz_le (fun j hj => by
    rw [x_c]
    by_cases c : j < i
    · rw [if_pos c]; exact sz_ge (by omega)
    · rw [if_neg c, pz_zero K])
  have sP : ∀ i, pz_s (f * pz_x i g 0) ≤ 9 := fun i => by
    have := sz_mul_le K (f := f) (g := pz_x i g 0) (a := a) (b := b) (by omega) (px i)
    omega
  intro d
  induction d with
  | zero =>
    intro i U hi hU hU2
    have e : i = 9 := by omega
    subst e
    rw [x_9 (by omega) z9]
    exact br_t (nI_le (a := 9) (b := 9) (by omega) (by omega)) h
  | succ d ih =>
    intro i U hi hU hU2
    have h1 := Nat.div_le_self (ce_e g) ((q + 1) ^ i)
    have eU : ce_e (ce_d U : Pz q) = U := ce_ed K U
    have step : f * pz_x i g 0 + pz_mo (fq_v (pz_c g i).val) 0 * ce_d U = f * pz_x (i + 1) g 0 := by
      rw [fv_of, x_s K]
      by_cases c : i < pz_s g
      · have e1 : (ce_d U : Pz q) = pz_mo 1 i * f := by rw [hU c, ← ce_sh K, ce_de K]
        have e2 : (pz_mo (pz_c g i) i : Pz q) = pz_mo (pz_c g i) 0 * pz_mo 1 i := by rw [mo_mo K, Nat.zero_add, Lean.Grind.Semiring.mul_one]
        rw [e1, e2]; grind
      · rw [sz_ge (f := g) (i := i) (by omega), mo_zero K, mo_zero K]; grind
    refine br_f (nI_ge (a := i) (b := 9) (by omega) (by omega)) ⟨p_nz K, ?_⟩
    rw [rm_p K (N := ce_e g / (q + 1) ^ i) (by omega), fv_val, ce_dg, ← eU]
    have b5 := pv_lt (pz_c g i) K
    refine yw_plus K (by have := ce_31 K (sP i); omega) (by rw [eU]; omega) (by omega) (by rw [step]; exact sP _) ⟨p_nz K, nm_r (e' := nI (ce_e g / (q + 1) ^ (i + 1))) ?_ ?_⟩
    · rw [dv_p K (by omega), Nat.div_div_eq_div_mul, ← Nat.pow_succ]
    · rw [step, eU]
      have h2 := Nat.div_le_self (ce_e g) ((q + 1) ^ (i + 1))
      have lt_iff : ce_e g / (q + 1) ^ (i + 1) ≤ 0 ↔ pz_s g ≤ i + 1 := by
        rw [← ce_sz K, Nat.le_zero, Nat.div_eq_zero_iff]
        have : 0 < (q + 1) ^ (i + 1) := Nat.pow_pos (by omega)
        omega
      refine pk_le (ce_e g / (q + 1) ^ (i + 1)) 0 (fun z => nm_r (nI_1 i) (ih (i + 1) U (by omega) (fun c => ?_) hU2)) (fun z => nm_r (pk_mul U (q + 1)) (nm_r (nI_1 i) (ih (i + 1) _ (by omega) (fun c => ?_) ?_))) rfl rfl (by omega) (by omega)
      · have := lt_iff.mp z
        omega
      · rw [hU (by omega), Nat.pow_succ]; ac_rfl
      · have c : i + 1 < pz_s g := Nat.lt_of_not_le (fun y => by have := lt_iff.mpr y; omega)
        have e1 : U * (q + 1) = ce_e (pz_mo 1 (i + 1) * f) := by
          rw [ce_sh K, hU (by omega), Nat.pow_succ]; ac_rfl
        rw [e1]
        refine ce_31 K ?_
        have := sz_mul_le K (f := pz_mo 1 (i + 1)) (g := f) (a := i + 1) (b := a) (sz_mo_le _ _) (by omega)
        omega
theorem yw_product (K : PK q iR) {f g : Pz q} (f0 : f ≠ 0) (g0 : g ≠ 0) (hs : pz_s f + pz_s g ≤ 10) {post : Int32 → Prop} (h : post (nI (ce_e (f * g)))) : wpY_product post ((nI (q + 1)), gE, gR, gF, bR, bF, bO) (nI (ce_e f)) (nI (ce_e g)) := by
  obtain ⟨b, hb⟩ := sz_nz K g0
  refine ⟨10, ?_⟩
  have e0 : f * pz_x 0 g 0 = 0 := by rw [x_0]; grind
  have h1 : wY_product_11 post (nI (q + 1)) gE gR gF bR bF bO 10 (nI (ce_e (f * pz_x 0 g 0))) (nI (ce_e f)) (nI (ce_e g / (q + 1) ^ 0)) (nI 0) := yl_product K f0 g0 hs h 9 0 (ce_e f) rfl (fun _ => by rw [Nat.pow_zero, Nat.one_mul]) (ce_31 K (by omega))
  rw [Nat.pow_zero, Nat.div_one, e0, ce_z K] at h1
  exact h1
theorem yl_q90 (K : PK q iR) {i c : Nat} {C : Nat} (hi : i ≤ 8) {x3 x4 x6 : Int32} {post : Int32 → SY → Prop} {J : Int32 → Int32 → Int32 → Prop} (h : wpY_plus (fun r_30 => (∀ x3_38 : Int32, x3_38 = x3 + nI (c * (q + 1) ^ i) → (∀ x7_39 : Int32, x7_39 = nI i + (-1) → (J x3_38 x7_39 r_30)))) ((nI (q + 1)), gE, gR, gF, bR, bF, bO) gR (nI ((q + 1) ^ i * C)) (nI (q + 1) - nI c)) : ∀ d j, j + d = i → wY_quotient_90 post J (nI C) x3 x4 x6 (nI i) (nI c) (nI (q + 1)) gE gR gF bR bF bO (d + 1) (nI ((q + 1) ^ j * C)) (nI (c * (q + 1) ^ j)) (nI j) := by
  intro d
  induction d with
  | zero =>
    intro j hj
    have e : j = i := by omega
    subst e
    exact br_t (nI_le (by omega) (by omega)) h
  | succ d ih =>
    intro j hj
    refine br_f (nI_ge (by omega) (by omega)) (nm_r (e' := nI ((q + 1) ^ (j + 1) * C)) ?_ (nm_r (e' := nI (c * (q + 1) ^ (j + 1))) ?_ (nm_r (nI_1 j) (ih (j + 1) (by omega)))))
    · rw [pk_mul]; exact congrArg nI (by rw [Nat.pow_succ]; ac_rfl)
    · rw [pk_mul]; exact congrArg nI (by rw [Nat.pow_succ]; ac_rfl)
theorem yl_q33 (K : PK q iR) {f g : Pz q} {db : Nat} {t : Fin (q + 1)} (sg : pz_s g = db + 1) (hdb : db ≤ 8) (ht : pz_c g db * t = 1) {post : Int32 → SY → Prop} (h : ∀ Q r : Pz q, f = g * Q + r → pz_s r < pz_s g → pz_s r ≤ 9 → post (nI (ce_e Q)) ((nI (q + 1)), gE, (nI (ce_e r)), gF, bR, bF, bO)) : ∀ (k : Nat) (Q r : Pz q), k ≤ 9 → f = g * Q + r → pz_s r ≤ 9 → pz_s r ≤ k + db → (∀ j, j < k → pz_c Q j = 0) → wY_quotient_33 post (nI (ce_e g)) (nI db) (nI t.val) (nI (q + 1)) gE gF bR bF bO (k + 1) (nI (ce_e Q)) (dn k) (nI (ce_e r)) := by
  have q5 := q_5 K
  have t0 : t ≠ 0 := fun z => by
    rw [z, Lean.Grind.Semiring.mul_zero] at ht
    exact fq_1 K ht.symm
  intro k
  induction k with
  | zero =>
    intro Q r hk e s9 sr hQ
    exact br_t ((dn_neg (by omega)).mpr rfl) (h Q r e (by omega) s9)
  | succ k ih =>
    intro Q r hk e s9 sr hQ
    have hQ2 : ∀ j, j < k → pz_c Q j = 0 := fun j hj => hQ j (by omega)
    rw [dn_s]
    refine br_f (nI_pos (by omega)) ?_
    rw [nI_add]
    refine pk_lt 8 (k + db) (fun c => ?_) (fun c => ?_) rfl rfl (by omega) (by omega)
    · exact br_t (by decide) (nm_e (ih Q r (by omega) e s9 (by omega) hQ2))
    · refine yw_digit K s9 (by omega) ⟨p_nz K, ?_⟩
      have b1 := pv_lt (pz_c r (k + db)) K
      have b2 := pv_lt t K
      have b3 : (pz_c r (k + db)).val * t.val ≤ 5 * 5 := Nat.mul_le_mul (by omega) (by omega)
      rw [pk_mul, rm_p K (by omega), fv_mul, fv_of, fv_of]
      have b4 := pv_lt (pz_c r (k + db) * t) K
      by_cases c0 : pz_c r (k + db) * t = 0
      · have r0 : pz_c r (k + db) = 0 := Classical.byContradiction (fun y => fq_mul K y t0 c0)
        rw [c0]
        refine br_t (show nI 0 ≤ (0 : Int32) by decide) (nm_e (ih Q r (by omega) e s9 (sz_le (fun j hj => ?_)) hQ2))
        by_cases ej : j = k + db
        · rw [ej]; exact r0
        · exact sz_ge (by omega)
      · have v0 : (pz_c r (k + db) * t).val ≠ 0 := fun y => c0 (Fin.ext y)
        have vl := (pz_c r (k + db) * t).isLt
        refine br_f (nI_nle (Nat.pos_of_ne_zero v0) (Nat.lt_of_lt_of_le b4 (by decide))) ⟨k + 1, ?_⟩
        have hs := red_step K (f := r) (g := g) (k := k + db) (d := db) (t := t) (by omega) (by omega) (by omega) ht
        rw [Nat.add_sub_cancel] at hs
        have eg : ce_e (pz_mo 1 k * g) = (q + 1) ^ k * ce_e g := ce_sh K g k
        have sg9 : pz_s (pz_mo 1 k * g) ≤ 9 := by
          have := sz_mul_le K (f := pz_mo 1 k) (g := g) (a := k) (b := db) (sz_mo_le _ _) (by omega)
          omega
        have er : r + pz_mo (fq_v (q + 1 - (pz_c r (k + db) * t).val)) 0 * (pz_mo 1 k * g) = r - pz_mo (pz_c r (k + db) * t) k * g := by
          rw [fv_neg, mo_neg K]
          have e2 : (pz_mo (pz_c r (k + db) * t) k : Pz q) = pz_mo (pz_c r (k + db) * t) 0 * pz_mo 1 k := by rw [mo_mo K, Nat.zero_add, Lean.Grind.Semiring.mul_one]
          rw [e2]; grind
        have h1 := yl_q90 (q := q) (gE := gE) (gR := nI (ce_e r)) (gF := gF) (bR := bR) (bF := bF) (bO := bO) K (i := k) (c := (pz_c r (k + db) * t).val) (C := ce_e g) (by omega) (x3 := nI (ce_e Q)) (x4 := nI db) (x6 := nI t.val) (post := post) (J := wY_quotient_33 post (nI (ce_e g)) (nI db) (nI t.val) (nI (q + 1)) gE gF bR bF bO (k + 1)) (by
          rw [pk_sub (Nat.le_of_lt vl), ← eg]
          refine yw_plus K (by have := ce_31 K s9; omega) (by have := ce_31 K sg9; omega) (Nat.le_trans (Nat.sub_le _ _) q5) (by rw [er]; omega) ?_
          rw [er]
          refine nm_r (e' := nI (ce_e (Q + pz_mo (pz_c r (k + db) * t) k))) (by rw [nI_add, ce_am K _ (hQ k (by omega))]) (nm_e (ih _ _ (by omega) ?_ (by omega) hs (fun j hj => ?_)))
          · rw [e]; grind
          · rw [pz_add K, mo_c, if_neg (by omega), hQ j (by omega)]; exact Lean.Grind.Semiring.add_zero _) k 0 (by omega)
        rw [Nat.pow_zero, Nat.one_mul, Nat.mul_one] at h1
        exact h1
theorem yw_quotient (K : PK q iR) {f g : Pz q} (sf : pz_s f ≤ 9) (sg9 : pz_s g ≤ 9) (g0 : g ≠ 0) {post : Int32 → SY → Prop} (h : ∀ Q r : Pz q, f = g * Q + r → pz_s r < pz_s g → pz_s r ≤ 9 → post (nI (ce_e Q)) ((nI (q + 1)), gE, (nI (ce_e r)), gF, bR, bF, bO)) : wpY_quotient post ((nI (q + 1)), gE, gR, gF, bR, bF, bO) (nI (ce_e f)) (nI (ce_e g)) := by
  obtain ⟨db, sg⟩ := sz_nz K g0
  refine yw_degreeOf K sg9 ?_
  refine yw_lead K (by omega) sg ?_
  refine yw_inverse K (sz_top sg) (fun t ht => ⟨10, ?_⟩)
  rw [sg, dn_s]
  have h1 := yl_q33 K sg (by omega) ht h 9 0 f (by omega) (by grind) sf (by omega) (fun j _ => pz_zero K j)
  rw [ce_z K] at h1
  exact h1
theorem yw_monic (K : PK q iR) {f : Pz q} (sf : pz_s f ≤ 9) {post : Int32 → Prop} (h : ∀ F : Pz q, mo_M f F → pz_s F = pz_s f → post (nI (ce_e F))) : wpY_monic post ((nI (q + 1)), gE, gR, gF, bR, bF, bO) (nI (ce_e f)) := by
  by_cases c : f = 0
  · refine br_t (by rw [c, ce_z K]; rfl) ?_
    have := h 0 (Or.inl ⟨c, rfl⟩) (by rw [c])
    rw [ce_z K] at this
    exact this
  · obtain ⟨n, hn⟩ := sz_nz K c
    have c0 : ce_e f ≠ 0 := fun z => by have := (ce_0 K).mp z; omega
    have c31 := ce_31 K sf
    refine br_f (nI_ne0 (by omega) (by omega)) ?_
    refine yw_lead K (by omega) hn ?_
    refine yw_inverse K (sz_top hn) (fun t ht => ?_)
    have hM := mn_t K hn ht
    have hs : pz_s (pz_mo t 0 * f) = pz_s f := by
      rcases hM with ⟨z, _⟩ | z
      · exact absurd z c
      · exact z.2.1
    have e1 : 0 + pz_mo (fq_v t.val) 0 * f = pz_mo t 0 * f := by rw [fv_of]; grind
    have b := pv_lt t K
    have h1 : wpY_plus (fun r_18 => post r_18) ((nI (q + 1)), gE, gR, gF, bR, bF, bO) (nI (ce_e (0 : Pz q))) (nI (ce_e f)) (nI t.val) := by
      refine yw_plus K (by rw [ce_z K]; omega) (by omega) (by omega) (by rw [e1]; omega) ?_
      rw [e1]
      exact h _ hM hs
    rw [ce_z K] at h1
    exact h1
theorem yl_common (K : PK q iR) {A B : Pz q} {post : Int32 → SY → Prop} (h : ∀ (F : Pz q) (gR : Int32), gd_d A B F → (F = 0 ∨ mn_m F) → pz_s F ≤ 9 → post (nI (ce_e F)) ((nI (q + 1)), gE, gR, gF, bR, bF, bO)) : ∀ (d k : Nat) (u v : Pz q) (gR : Int32), k + d = 12 → k + pz_s v ≤ 12 → pz_s u ≤ 9 → pz_s v ≤ 9 → (∀ D, gd_d u v D → gd_d A B D) → wY_common_8 post (d + 1) (nI (ce_e u)) (nI (ce_e v)) (nI k) (nI (q + 1)) gE gR gF bR bF bO := by
  intro d
  induction d with
  | zero =>
    intro k u v gR hk hv su sv hg
    have e : k = 12 := by omega
    subst e
    have v0 := sz_z K (f := v) (by omega)
    refine br_t (nI_le (a := 12) (b := 12) (by omega) (by omega)) ?_
    refine yw_monic K su (fun F hM hs => ?_)
    have h5 := gd_end hM
    exact h F gR (hg F (by rw [v0]; exact h5.1)) h5.2 (by omega)
  | succ d ih =>
    intro k u v gR hk hv su sv hg
    have c31 := ce_31 K sv
    refine br_f (nI_ge (a := k) (b := 12) (by omega) (by omega)) ?_
    refine pk_eq (ce_e v) 0 (fun z => ?_) (fun z => ?_) rfl rfl (by omega) (by omega)
    · have := (ce_0 K).mp z
      exact nm_r (nI_1 k) (ih (k + 1) u v gR (by omega) (by omega) su sv hg)
    · have v0 : v ≠ 0 := fun y => z (by rw [y, ce_z K])
      refine yw_quotient K su sv v0 (fun Q r e hr s9 => nm_r (nI_1 k) ?_)
      exact ih (k + 1) v r _ (by omega) (by omega) sv s9 (fun D hD => hg D (gd_step e hD))
theorem yw_common (K : PK q iR) {A B : Pz q} (sA : pz_s A ≤ 9) (sB : pz_s B ≤ 9) {post : Int32 → SY → Prop} (h : ∀ (F : Pz q) (gR : Int32), gd_d A B F → (F = 0 ∨ mn_m F) → pz_s F ≤ 9 → post (nI (ce_e F)) ((nI (q + 1)), gE, gR, gF, bR, bF, bO)) : wpY_common post ((nI (q + 1)), gE, gR, gF, bR, bF, bO) (nI (ce_e A)) (nI (ce_e B)) :=
  ⟨13, yl_common K h 12 0 A B gR rfl (by omega) sA sB (fun _ x => x)⟩
theorem yl_value (K : PK q iR) {f : Pz q} {x : Nat} (sf : pz_s f ≤ 9) (hx : x ≤ 5) {post : Int32 → Prop} (h : post (nI (ho_v f x 9))) : ∀ k d, k + d = 9 → wY_value_6 post (nI (ce_e f)) (nI x) (nI (q + 1)) gE gR gF bR bF bO (k + 1) (nI (ho_v f x d)) (dn k) := by
  intro k
  induction k with
  | zero =>
    intro d hd
    have e : d = 9 := by omega
    subst e
    exact br_t ((dn_neg (by omega)).mpr rfl) h
  | succ k ih =>
    intro d hd
    rw [dn_s]
    refine br_f (nI_pos (by omega)) (yw_digit K sf (by omega) ⟨p_nz K, nm_r (e' := nI (ho_v f x (d + 1))) ?_ (nm_e (ih (d + 1) (by omega)))⟩)
    have b1 := pv_lt (pz_c f k) K
    have b2 := ho_lt K f x d
    have b4 : ho_v f x d * x ≤ 5 * 5 := Nat.mul_le_mul (by omega) hx
    rw [pk_mul, nI_add, pk_rem (by omega) (by omega) (by have := q_5 K; omega), ho_v, show 8 - d = k by omega]
theorem yw_value (K : PK q iR) {f : Pz q} {x : Nat} (sf : pz_s f ≤ 9) (hx : x ≤ 5) {post : Int32 → Prop} (h : post (nI (ho_v f x 9))) : wpY_value post ((nI (q + 1)), gE, gR, gF, bR, bF, bO) (nI (ce_e f)) (nI x) :=
  ⟨10, yl_value K sf hx h 9 0 rfl⟩
end
end
section
/-! plain laws for trial division by rising codes -/
def yi_Y {q : Nat} [Lean.Grind.CommRing (Pz q)] (F : Pz q) (n : Nat) (c t : Nat → Nat) (r : Pz q) (k : Nat) : Prop :=
  (∀ i j, i < j → j < n → c i < c j) ∧
  (∀ i, i < n → ir_r (ce_d (c i) : Pz q) ∧ mn_m (ce_d (c i) : Pz q) ∧ ml_m (ce_d (c i)) F (t i) ∧ 0 < t i ∧ c i < k) ∧
  (∀ f : Pz q, ir_r f → mn_m f → ce_e f < k → ¬ dv_d f r ∧ (dv_d f F → ∃ i, i < n ∧ c i = ce_e f)) ∧
  (∀ f : Pz q, ir_r f → mn_m f → k ≤ ce_e f → ∀ e, ml_m f F e → ml_m f r e) ∧ mn_m r ∧ n + pz_s r ≤ 9
section
variable {q : Nat} {iR : Lean.Grind.CommRing (Pz q)}
theorem yi_up (K : PK q iR) {F r : Pz q} {n k k' : Nat} {c t : Nat → Nat} (F0 : F ≠ 0) (I : yi_Y F n c t r k) (h : k ≤ k') (no : ∀ f : Pz q, ir_r f → mn_m f → k ≤ ce_e f → ce_e f < k' → ¬ dv_d f r) : yi_Y F n c t r k' := by
  obtain ⟨h1, h2, h3, h4, h5, h6⟩ := I
  refine ⟨h1, fun i hi => ?_, fun f hf mf hk => ?_, fun f hf mf hk e he => h4 f hf mf (by omega) e he, h5, h6⟩
  · obtain ⟨a, b, d, e, g⟩ := h2 i hi
    exact ⟨a, b, d, e, by omega⟩
  · by_cases z : ce_e f < k
    · exact h3 f hf mf z
    · have nd := no f hf mf (by omega) hk
      refine ⟨nd, fun dF => ?_⟩
      obtain ⟨e, he, _⟩ := ml_ex K hf F0
      exact absurd ((ml_0' K hf (h4 f hf mf (by omega) e he)).mpr ((ml_0' K hf he).mp dF)) nd
theorem yi_0 (K : PK q iR) {F : Pz q} (mF : mn_m F) (s9 : pz_s F ≤ 9) (c t : Nat → Nat) : yi_Y F 0 c t F (q + 1) :=
  ⟨fun i j _ h => by omega, fun i h => by omega, fun f hf _ h => by
    have h1 := (ce_sz K (f := f) (n := 1)).mp (by rw [Nat.pow_one]; exact h)
    have := hf.1
    omega, fun f _ _ _ e he => he, mF, by omega⟩
/-- what divides the rest and is monic is irreducible, if nothing smaller divides the rest -/
theorem yi_ir (K : PK q iR) {F r g : Pz q} {n : Nat} {c t : Nat → Nat} (I : yi_Y F n c t r (ce_e g)) (g2 : 2 ≤ pz_s g) (d : dv_d g r) : ir_r g := by
  refine ⟨g2, fun a b e => Classical.byContradiction (fun z => ?_)⟩
  have g0 : g ≠ 0 := sz_ne K (by omega)
  have nz := nz_of_mul K (f := a) (g := b) (by rw [← e]; exact g0)
  have hs := sz_mulN K nz.1 nz.2
  rw [← e] at hs
  obtain ⟨f, hf, mf, df⟩ := ir_ex K (f := a) (by omega)
  have s1 := (dv_sz K df nz.1).2
  exact (I.2.2.1 f hf mf (ce_ord K (by omega))).1 (dv_trans df (dv_trans (by rw [e]; exact dv_l a b) d))
/-- a rest that isn't large is irreducible -/
theorem yi_big (K : PK q iR) {F r : Pz q} {n k d : Nat} {c t : Nat → Nat} (I : yi_Y F n c t r k) (hk : (q + 1) ^ d ≤ k) (r2 : 2 ≤ pz_s r) (hs : pz_s r ≤ 2 * d) : ir_r r := by
  refine ⟨r2, fun a b e => Classical.byContradiction (fun z => ?_)⟩
  have r0 : r ≠ 0 := sz_ne K (by omega)
  have nz := nz_of_mul K (f := a) (g := b) (by rw [← e]; exact r0)
  have hs2 := sz_mulN K nz.1 nz.2
  rw [← e] at hs2
  have small : ∀ x : Pz q, x ≠ 0 → 2 ≤ pz_s x → pz_s x ≤ d → dv_d x r → False := fun x x0 x2 xd dx => by
    obtain ⟨f, hf, mf, df⟩ := ir_ex K x2
    have s1 := (dv_sz K df x0).2
    have := ce_lt f (n := d) (by omega)
    exact (I.2.2.1 f hf mf (by omega)).1 (dv_trans df dx)
  by_cases c1 : pz_s a ≤ d
  · exact small a nz.1 (by omega) c1 (by rw [e]; exact dv_l a b)
  · exact small b nz.2 (by omega) (by omega) (by rw [e]; exact dv_r a b)
/-- the rest is divided by g as often as it goes -/
theorem yi_strip0 (K : PK q iR) {F r g : Pz q} {n : Nat} {c t : Nat → Nat} (F0 : F ≠ 0) (I : yi_Y F n c t r (ce_e g)) (nd : ¬ dv_d g r) : yi_Y F n c t r (ce_e g + 1) :=
  yi_up K F0 I (by omega) (fun f hf mf h1 h2 => by
    have e : f = g := ce_inj K (by omega)
    rw [e]; exact nd)
theorem yi_strip1 (K : PK q iR) {F r g u : Pz q} {n e : Nat} {c t : Nat → Nat} (F0 : F ≠ 0) (I : yi_Y F n c t r (ce_e g)) (g2 : 2 ≤ pz_s g) (mg : mn_m g) (eu : r = g ^ e * u) (nu : ¬ dv_d g u) (e0 : 0 < e) : yi_Y F (n + 1) (st_l c n (ce_e g)) (st_l t n e) u (ce_e g + 1) := by
  have mge : ml_m g r e := ⟨u, eu, nu⟩
  have dg : dv_d g r := by
    obtain ⟨j, rfl⟩ : ∃ j, e = j + 1 := ⟨e - 1, by omega⟩
    rw [eu, Lean.Grind.Semiring.pow_succ]
    exact dv_mulR u (dv_r _ _)
  have hg := yi_ir K I g2 dg
  obtain ⟨h1, h2, h3, h4, h5, h6⟩ := I
  have du : dv_d u r := by rw [eu]; exact dv_r _ _
  refine ⟨fun i j hij hj => ?_, fun i hi => ?_, fun f hf mf hk => ?_, fun f hf mf hk e1 he1 => ?_, ?_, ?_⟩
  · by_cases z : j = n
    · rw [z, st_s, st_n (by omega)]
      exact (h2 i (by omega)).2.2.2.2
    · rw [st_n z, st_n (by omega)]
      exact h1 i j hij (by omega)
  · by_cases z : i = n
    · rw [z, st_s, st_s, ce_de K]
      obtain ⟨e2, he2, _⟩ := ml_ex K hg F0
      have := ml_un K hg mge (h4 g hg mg (Nat.le_refl _) e2 he2)
      rw [← this] at he2
      exact ⟨hg, mg, he2, e0, by omega⟩
    · rw [st_n z, st_n z]
      obtain ⟨a, b, d, y, x⟩ := h2 i (by omega)
      exact ⟨a, b, d, y, by omega⟩
  · by_cases z : ce_e f = ce_e g
    · have ef := ce_inj K z
      rw [ef]
      exact ⟨nu, fun _ => ⟨n, by omega, st_s⟩⟩
    · obtain ⟨a, b⟩ := h3 f hf mf (by omega)
      refine ⟨fun y => a (dv_trans y du), fun y => ?_⟩
      obtain ⟨i, hi, ei⟩ := b y
      exact ⟨i, by omega, by rw [st_n (by omega)]; exact ei⟩
  · have m1 := h4 f hf mf (by omega) e1 he1
    have nd : ¬ dv_d f g := fun y => by
      have := ir_eq K hf hg mf mg y
      rw [this] at hk
      omega
    have m2 := ml_pow K hf (ml_0 nd) e
    rw [Nat.mul_zero] at m2
    rw [eu] at m1
    obtain ⟨x, hx, ex⟩ := ml_quo K hf m1 m2
    rw [ex, Nat.zero_add]
    exact hx
  · exact mn_div K (mn_pow K mg e) (by rw [← eu]; exact h5)
  · have u0 := (nz_of_mul K (f := g ^ e) (g := u) (by rw [← eu]; exact mn_nz K h5)).2
    obtain ⟨a, ha⟩ := sz_nz K (ir_nz K hg)
    obtain ⟨b, hb⟩ := sz_nz K u0
    have s1 := sz_mul K (sz_pow K ha e) hb
    rw [← eu] at s1
    have : 1 * 1 ≤ e * a := Nat.mul_le_mul e0 (by omega)
    omega
/-- no monic code between 2 p^d and p^(d+1) -/
theorem yi_next (K : PK q iR) {F r : Pz q} {n d : Nat} {c t : Nat → Nat} (F0 : F ≠ 0) (I : yi_Y F n c t r (2 * (q + 1) ^ d)) : yi_Y F n c t r ((q + 1) ^ (d + 1)) := by
  refine yi_up K F0 I ?_ (fun f hf mf h1 h2 => ?_)
  · rw [Nat.pow_succ, Nat.mul_comm]
    exact Nat.mul_le_mul_left _ (k_2 K)
  · obtain ⟨j, hj, _⟩ := mn_sz K mf
    have h3 := (ce_mn K (f := f) (n := j)).mp ⟨hj, mf⟩
    have s1 := (ce_sz K).mp h2
    have e1 : j = d := by
      have : ¬ j < d := fun y => by
        have h4 := ce_lt f (n := d) (by omega)
        omega
      omega
    rw [e1] at h3
    omega
theorem yi_end (K : PK q iR) {F r : Pz q} {n : Nat} {c t : Nat → Nat} (F0 : F ≠ 0) (s9 : pz_s F ≤ 9) (I : yi_Y F n c t r ((q + 1) ^ 9)) : fl_F F n c t := by
  obtain ⟨h1, h2, h3, h4, h5, h6⟩ := I
  refine ⟨h1, fun i hi => ?_, fun f hf mf df => ?_⟩
  · obtain ⟨a, b, d, e, _⟩ := h2 i hi
    exact ⟨a, b, d, e⟩
  · exact (h3 f hf mf (ce_lt f (by have := (dv_sz K df F0).2; omega))).2 df
theorem mn_le1 (K : PK q iR) {u : Pz q} (mu : mn_m u) : ce_e u ≤ 1 ↔ pz_s u ≤ 1 := by
  obtain ⟨j, hj, _⟩ := mn_sz K mu
  have h3 := (ce_mn K (f := u) (n := j)).mp ⟨hj, mu⟩
  constructor
  · intro h
    refine Nat.le_of_not_lt (fun c => ?_)
    have : (q + 1) ^ 1 ≤ (q + 1) ^ j := Nat.pow_le_pow_right (by omega) (by omega)
    rw [Nat.pow_one] at this
    have := k_2 K
    omega
  · intro h
    have e : j = 0 := by omega
    rw [e, Nat.pow_zero] at h3
    omega
end
end
section
/-! Y: strip, split -/
section
variable {q : Nat} {iR : Lean.Grind.CommRing (Pz q)}
variable {gE gR gF : Int32} {bR bF bO : Nat → Int32}
theorem yl_strip (K : PK q iR) {r0 g : Pz q} (s0 : pz_s r0 ≤ 9) (m0 : mn_m r0) (mg : mn_m g) (g2 : 2 ≤ pz_s g) (g9 : pz_s g ≤ 9) {post : Int32 → SY → Prop} (h : ∀ (e : Nat) (u : Pz q) (gR : Int32), r0 = g ^ e * u → ¬ dv_d g u → mn_m u → pz_s u ≤ 9 → e ≤ 8 → wY_strip_76 post (nI (ce_e g)) (nI (ce_e u)) (nI e) (nI (q + 1)) gE gR gF bR bF bO) : ∀ (d e : Nat) (u : Pz q) (gR : Int32), e + d = 8 → r0 = g ^ e * u → wY_strip_11 post (nI (ce_e g)) (d + 2) (nI (ce_e u)) (nI e) 1 (nI e) (nI (q + 1)) gE gR gF bR bF bO := by
  have fin : ∀ (m : Nat) (x3 x4 x6 : Int32) (gR : Int32), wY_strip_76 post (nI (ce_e g)) x3 x4 (nI (q + 1)) gE gR gF bR bF bO → wY_strip_11 post (nI (ce_e g)) (m + 1) x3 x4 0 x6 (nI (q + 1)) gE gR gF bR bF bO := fun m x3 x4 x6 gR z => br_c (fun _ => z) (fun _ => br_t rfl z)
  have stop : ∀ (m e : Nat) (u : Pz q) (gR z0 : Int32), r0 = g ^ e * u → ¬ dv_d g u → mn_m u → pz_s u ≤ 9 → e ≤ 8 → wY_strip_56 post (wY_strip_11 post (nI (ce_e g)) (m + 1)) (nI (ce_e g)) (nI (ce_e u)) (nI e) (nI e) z0 (nI (q + 1)) gE gR gF bR bF bO := fun m e u gR z0 e1 nu mu su e8 => by
    unfold wY_strip_56 wY_strip_57
    exact br_t rfl (nm_e (fin m _ _ _ gR (h e u gR e1 nu mu su e8)))
  have base : ∀ (m e : Nat) (u : Pz q) (gR : Int32), r0 = g ^ e * u → mn_m u → pz_s u ≤ 1 → e ≤ 8 → wY_strip_11 post (nI (ce_e g)) (m + 2) (nI (ce_e u)) (nI e) 1 (nI e) (nI (q + 1)) gE gR gF bR bF bO := fun m e u gR e1 mu su e8 => by
    have c1 := (mn_le1 K mu).mpr su
    refine br_f (nI_ge (a := e) (b := 9) (by omega) (by omega)) (br_f (by decide) (br_t (nI_le (b := 1) c1 (by omega)) ?_))
    unfold wY_strip_38
    have u1 := mn_c K mu su
    refine br_t (nI_le (b := 1) c1 (by omega)) (stop m e u gR 0 e1 ?_ mu (by omega) e8)
    rw [u1]
    intro y
    have := (dv_sz K y (mn_nz K (mn_1 K))).2
    rw [sz_1 K] at this
    omega
  intro d
  induction d with
  | zero =>
    intro e u gR hd e1
    have ee : e = 8 := by omega
    subst ee
    have mu := mn_div K (mn_pow K mg 8) (by rw [← e1]; exact m0)
    obtain ⟨a, ha⟩ := sz_nz K (mn_nz K mg)
    obtain ⟨b, hb⟩ := sz_nz K (mn_nz K mu)
    have s1 := sz_mul K (sz_pow K ha 8) hb
    rw [← e1] at s1
    exact base 0 8 u gR e1 mu (by omega) (by omega)
  | succ d ih =>
    intro e u gR hd e1
    have mu := mn_div K (mn_pow K mg e) (by rw [← e1]; exact m0)
    have su : pz_s u ≤ 9 := by
      have := (dv_sz K (a := u) (b := r0) (by rw [e1]; exact dv_r _ _) (mn_nz K m0)).2
      omega
    by_cases c1 : pz_s u ≤ 1
    · exact base (d + 1) e u gR e1 mu c1 (by omega)
    · have c31 := ce_31 K su
      have c2 : ¬ nI (ce_e u) ≤ 1 := nI_ge (a := 1) (b := ce_e u) (Nat.lt_of_not_le (fun y => c1 ((mn_le1 K mu).mp y))) (by omega)
      refine br_f (nI_ge (a := e) (b := 9) (by omega) (by omega)) (br_f (by decide) (br_f c2 ?_))
      refine yw_quotient K su g9 (mn_nz K mg) (fun Q r eQ hr r9 => ?_)
      have r31 := ce_31 K r9
      dsimp only
      unfold wY_strip_38
      refine br_f c2 (pk_eq (ce_e r) 0 (fun z => ?_) (fun z => ?_) rfl rfl (by omega) (by omega))
      · have z1 := sz_z K ((ce_0 K).mp z)
        unfold wY_strip_57
        refine br_f (by decide) (nm_r (nI_1 e) (nm_r (nI_1 e) (ih (e + 1) Q _ (by omega) ?_)))
        rw [e1, eQ, z1, Lean.Grind.Semiring.pow_succ]; grind
      · refine stop (d + 1) e u _ _ e1 (fun y => z ?_) mu su (by omega)
        rw [eQ] at y
        rw [dv_small K (dv_of_add y (dv_l g Q)) hr, ce_z K]
theorem yw_strip (K : PK q iR) {F r g : Pz q} {n : Nat} {c t : Nat → Nat} (F0 : F ≠ 0) (I : yi_Y F n c t r (ce_e g)) (mg : mn_m g) (g2 : 2 ≤ pz_s g) (g9 : pz_s g ≤ 9) (N : NA n c t bF bO) {post : Int32 → SY → Prop} (h : ∀ (n : Nat) (c t : Nat → Nat) (u : Pz q) (gR : Int32) (bF bO : Nat → Int32), yi_Y F n c t u (ce_e g + 1) → NA n c t bF bO → post (nI (ce_e u)) ((nI (q + 1)), gE, gR, (nI n), bR, bF, bO)) : wpY_strip post ((nI (q + 1)), gE, gR, (nI n), bR, bF, bO) (nI (ce_e r)) (nI (ce_e g)) := by
  have mr := I.2.2.2.2.1
  have hn := I.2.2.2.2.2
  obtain ⟨a, ha⟩ := sz_nz K (mn_nz K mr)
  refine ⟨10, yl_strip K (r0 := r) (by omega) mr mg g2 g9 (fun e u gR e1 nu mu su e8 => ?_) 8 0 r gR rfl (by rw [Lean.Grind.Semiring.pow_zero]; grind)⟩
  by_cases e0 : e = 0
  · rw [e0] at e1 ⊢
    refine br_t (by decide) ?_
    have er : u = r := by rw [e1, Lean.Grind.Semiring.pow_zero]; grind
    rw [er] at nu ⊢
    exact h n c t r gR bF bO (yi_strip0 K F0 I nu) N
  · have I1 := yi_strip1 K F0 I g2 mg e1 nu (by omega)
    have hn1 := I1.2.2.2.2.2
    obtain ⟨b, hb⟩ := sz_nz K (mn_nz K mu)
    have du := (dv_sz K (a := u) (b := r) (by rw [e1]; exact dv_r _ _) (mn_nz K mr)).2
    have n8 : n + 1 ≤ 8 := by omega
    refine br_f (nI_nle (by omega) (by omega)) (br_f (nI_ge (a := n) (b := 8) (by omega) (by omega)) ⟨vp_in_nI (by omega) (by omega), nm_r (e' := upd bF n (nI (ce_e g))) (by rw [nI_clamp (by omega)]) ⟨vp_in_nI (by omega) (by omega), nm_r (e' := upd bO n (nI e)) (by rw [nI_clamp (by omega)]) (nm_r (nI_1 n) (h (n + 1) _ _ u gR _ _ I1 (fun i hi => ?_)))⟩⟩)
    by_cases z : i = n
    · rw [z, pk_us, pk_us, st_s, st_s]; exact ⟨rfl, rfl⟩
    · rw [pk_un z, pk_un z, st_n z, st_n z]; exact N i (by omega)
/-- one code: the rest, of the degree known, is divided by it -/
theorem yl_82 (K : PK q iR) {F r : Pz q} {n k d : Nat} {c t : Nat → Nat} (F0 : F ≠ 0) (I : yi_Y F n c t r k) (hd : 1 ≤ d) (hd8 : d ≤ 8) (k1 : (q + 1) ^ d ≤ k) (k2 : k < 2 * (q + 1) ^ d) (N : NA n c t bF bO) {x3 x4 : Int32} {post : SY → Prop} {J1 : Int32 → Int32 → Int32 → Int32 → Int32 → Int32 → Int32 → (Nat → Int32) → (Nat → Int32) → (Nat → Int32) → Prop} {J2 : Int32 → Int32 → Int32 → Int32 → Int32 → Int32 → (Nat → Int32) → (Nat → Int32) → (Nat → Int32) → Prop} (h : ∀ (n : Nat) (c t : Nat → Nat) (r : Pz q) (gR : Int32) (bF bO : Nat → Int32), yi_Y F n c t r (k + 1) → NA n c t bF bO → J2 (nI (ce_e r)) (nI (k + 1)) (nI (q + 1)) gE gR (nI n) bR bF bO) : wY_split_82 post J1 J2 (nI (ce_e r)) x3 x4 (nI k) (dn (pz_s r)) (nI (q + 1)) gE gR (nI n) bR bF bO := by
  have ek : ce_e (ce_d k : Pz q) = k := ce_ed K k
  have hg := (ce_mn K (f := (ce_d k : Pz q)) (n := d)).mpr (by rw [ek]; exact ⟨k1, k2⟩)
  have hn := I.2.2.2.2.2
  have mr := I.2.2.2.2.1
  by_cases c1 : pz_s r ≤ 1
  · refine br_t ((dn_le0 (by omega)).mpr c1) (nm_r (nI_1 k) (h n c t r gR bF bO (yi_up K F0 I (by omega) (fun f hf mf _ _ => ?_)) N))
    exact ir_nc K hf (mn_nz K mr) c1
  · refine br_f (fun z => c1 ((dn_le0 (by omega)).mp z)) ?_
    have e1 : nI k = nI (ce_e (ce_d k : Pz q)) := by rw [ek]
    rw [← ek] at I
    rw [e1]
    refine yw_strip K F0 I hg.2 (by omega) (by omega) N (fun n c t u gR bF bO I1 N1 => nm_r (nI_1 _) ?_)
    rw [ek] at I1 ⊢
    exact h n c t u gR bF bO I1 N1
theorem yl_s29 (K : PK q iR) {F : Pz q} {d : Nat} (F0 : F ≠ 0) (hd : 1 ≤ d) (hd8 : d ≤ 8) {post : SY → Prop} {J : Int32 → Int32 → Int32 → Int32 → Int32 → Int32 → Int32 → (Nat → Int32) → (Nat → Int32) → (Nat → Int32) → Prop} (h : ∀ (n : Nat) (c t : Nat → Nat) (r : Pz q) (gR : Int32) (bF bO : Nat → Int32), yi_Y F n c t r ((q + 1) ^ (d + 1)) → NA n c t bF bO → J (nI (ce_e r)) (nI ((q + 1) ^ (d + 1))) (nI (d + 1)) (nI (q + 1)) gE gR (nI n) bR bF bO) : ∀ (fu k n : Nat) (c t : Nat → Nat) (r : Pz q) (gR : Int32) (bF bO : Nat → Int32), (q + 1) ^ d ≤ k → k ≤ 2 * (q + 1) ^ d → 2 * (q + 1) ^ d - k < fu → yi_Y F n c t r k → NA n c t bF bO → wY_split_29 post J (nI ((q + 1) ^ d)) (nI d) fu (nI (ce_e r)) (nI k) (nI (q + 1)) gE gR (nI n) bR bF bO := by
  have p8 := p9_le K (i := d) (by omega)
  have e2 : (2 : Int32) * nI ((q + 1) ^ d) = nI (2 * (q + 1) ^ d) := pk_mul 2 _
  have e2d : (2 : Int32) * nI d = nI (2 * d) := pk_mul 2 _
  intro fu
  induction fu with
  | zero => intro k n c t r gR bF bO _ _ hf; omega
  | succ fu ih =>
    intro k n c t r gR bF bO k1 k2 hf I N
    have hn := I.2.2.2.2.2
    have mr := I.2.2.2.2.1
    have s9 : pz_s r ≤ 9 := by omega
    have c31 := ce_31 K s9
    show (_ → _) ∧ (_ → _)
    rw [e2, e2d]
    refine pk_le (2 * (q + 1) ^ d) k (fun z => ?_) (fun z => ?_) rfl rfl (by omega) (by omega)
    · have ek : k = 2 * (q + 1) ^ d := by omega
      rw [ek] at I
      refine nm_r (e' := nI ((q + 1) ^ (d + 1))) (by rw [pk_mul, Nat.pow_succ]) (nm_r (nI_1 d) (h n c t r gR bF bO (yi_next K F0 I) N))
    · have go : ∀ (k' : Nat), k ≤ k' → k' < 2 * (q + 1) ^ d → yi_Y F n c t r k' → wY_split_82 post J (wY_split_29 post J (nI ((q + 1) ^ d)) (nI d) fu) (nI (ce_e r)) (nI ((q + 1) ^ d)) (nI d) (nI k') (dn (pz_s r)) (nI (q + 1)) gE gR (nI n) bR bF bO := fun k' kk k3 I' =>
        yl_82 K F0 I' hd hd8 (by omega) k3 N (fun n c t r gR bF bO I2 N2 => ih (k' + 1) n c t r gR bF bO (by omega) (by omega) (by omega) I2 N2)
      have last : (∀ f : Pz q, ir_r f → mn_m f → k ≤ ce_e f → ce_e f < 2 * (q + 1) ^ d - 1 → ¬ dv_d f r) → wY_split_75 post J (wY_split_29 post J (nI ((q + 1) ^ d)) (nI d) fu) (nI (ce_e r)) (nI ((q + 1) ^ d)) (nI d) (dn (pz_s r)) (nI (q + 1)) gE gR (nI n) bR bF bO := fun no => by
        unfold wY_split_75 wY_split_80
        rw [e2, show nI (2 * (q + 1) ^ d) - 1 = nI (2 * (q + 1) ^ d - 1) from pk_sub (b := 1) (by omega)]
        exact go _ (by omega) (by omega) (yi_up K F0 I (by omega) no)
      refine yw_degreeOf K s9 ?_
      have t1 : nI (2 * d) ≤ dn (pz_s r) ↔ 2 * d + 1 ≤ pz_s r := by rw [← dn_s, dn_le (by omega) (by omega)]
      refine br_c (fun y => go k (Nat.le_refl _) z I) (fun y => ?_)
      have s2d : pz_s r ≤ 2 * d := Nat.le_of_not_lt (fun x => y (t1.mpr x))
      refine br_c (fun y => last (fun f hf mf _ _ => ?_)) (fun y => ?_)
      · exact ir_nc K hf (mn_nz K mr) ((dn_le0 (by omega)).mp y)
      · have r2 : 2 ≤ pz_s r := Nat.lt_of_not_le (fun x => y ((dn_le0 (by omega)).mpr x))
        have ir := yi_big K I k1 r2 s2d
        refine pk_le (2 * (q + 1) ^ d) (ce_e r) (fun x => last (fun f hf mf f1 f2 df => ?_)) (fun x => ?_) rfl rfl (by omega) (by omega)
        · have := ir_eq K hf ir mf mr df
          rw [this] at f2
          omega
        · refine pk_lt (ce_e r) k (fun w => ?_) (fun w => ?_) rfl rfl (by omega) (by omega)
          · exact absurd (dv_refl r) (I.2.2.1 r ir mr w).1
          · unfold wY_split_80
            refine go (ce_e r) w x (yi_up K F0 I w (fun f hf mf f1 f2 df => ?_))
            have := ir_eq K hf ir mf mr df
            rw [this] at f2
            omega
theorem yl_s19 (K : PK q iR) {F : Pz q} (F0 : F ≠ 0) (s9 : pz_s F ≤ 9) {post : SY → Prop} (h : ∀ (n : Nat) (c t : Nat → Nat) (gR : Int32) (bF bO : Nat → Int32), fl_F F n c t → NA n c t bF bO → n ≤ 8 → post ((nI (q + 1)), gE, gR, (nI n), bR, bF, bO)) : ∀ (fu d n : Nat) (c t : Nat → Nat) (r : Pz q) (gR : Int32) (bF bO : Nat → Int32), d + fu = 9 → 1 ≤ d → yi_Y F n c t r ((q + 1) ^ d) → NA n c t bF bO → wY_split_19 post (fu + 1) (nI (ce_e r)) (nI ((q + 1) ^ d)) (nI d) (nI (q + 1)) gE gR (nI n) bR bF bO := by
  intro fu
  induction fu with
  | zero =>
    intro d n c t r gR bF bO hd d1 I N
    have e : d = 9 := by omega
    subst e
    have hn := I.2.2.2.2.2
    obtain ⟨b, hb⟩ := sz_nz K (mn_nz K I.2.2.2.2.1)
    exact br_t (nI_le (a := 9) (b := 9) (by omega) (by omega)) (h n c t gR bF bO (yi_end K F0 s9 I) N (by omega))
  | succ fu ih =>
    intro d n c t r gR bF bO hd d1 I N
    refine br_f (nI_ge (a := d) (b := 9) (by omega) (by omega)) ⟨2 * (q + 1) ^ d + 1, ?_⟩
    exact yl_s29 K F0 d1 (by omega) (fun n c t r gR bF bO I2 N2 => ih (d + 1) n c t r gR bF bO (by omega) (by omega) I2 N2) _ _ n c t r gR bF bO (Nat.le_refl _) (by omega) (by omega) I N
theorem yw_split (K : PK q iR) {f : Pz q} (f0 : f ≠ 0) (s9 : pz_s f ≤ 9) {post : SY → Prop} (h : ∀ (F : Pz q) (n : Nat) (c t : Nat → Nat) (gR : Int32) (bF bO : Nat → Int32), mo_M f F → fl_F F n c t → NA n c t bF bO → n ≤ 8 → post ((nI (q + 1)), gE, gR, (nI n), bR, bF, bO)) : wpY_split post ((nI (q + 1)), gE, gR, gF, bR, bF, bO) (nI (ce_e f)) := by
  unfold wpY_split
  dsimp only
  refine yw_monic K s9 (fun F hM hs => ⟨9, ?_⟩)
  have mF : mn_m F := by
    rcases hM with ⟨z, _⟩ | z
    · exact absurd z f0
    · exact z.1
  have h1 := yl_s19 K (mn_nz K mF) (by omega) (fun n c t gR bF bO hF N n8 => h F n c t gR bF bO hM hF N n8) 8 1 0 (fun _ => 0) (fun _ => 0) F gR bF bO rfl (by omega) (by rw [Nat.pow_one]; exact yi_0 K mF (by omega) _ _) (fun i hi => by omega)
  rw [Nat.pow_one] at h1
  exact h1
end
end
section
/-! the relation, and the methods that don't factor -/
/-- the same field, limit, and the codes of X's first three lines in Y's registers; X's lines and its table of inverses are right -/
def i_Rel (k : Nat) (u : SX) (v : SY) : Prop := match u, v with
  | (fP, fL, fF, fB, fC, aC, aI, aM, aR, aB, aP, aD, aF, aT, aQ), (gP, gE, gR, gF, bR, bF, bO) => ∃ (q : Nat) (m : Nat → Pz q), (q = 1 ∨ q = 2 ∨ q = 4) ∧ fP = nI (q + 1) ∧ gP = nI (q + 1) ∧ fL = nI ((q + 1) ^ 9) ∧ gE = nI ((q + 1) ^ 9) ∧ iv_T q aI ∧ VC m aC ∧ ∀ l, l < 3 → bR l = nI (ce_e (m l))
theorem i_up {k : Nat} {u : SX} {v : SY} (h : i_Rel k u v) : i_Rel (k + 4) u v := h
section
variable {q : Nat} {iR : Lean.Grind.CommRing (Pz q)} {k : Nat}
variable {fF fB fC : Int32} {aC aI aM aR aB aP aD aF aT aQ : Nat → Int32} {gR gF : Int32} {bR bF bO : Nat → Int32} {m : Nat → Pz q}
theorem rl_mk (K : PK q iR) (IV : iv_T q aI) (V : VC m aC) (hR : ∀ l, l < 3 → bR l = nI (ce_e (m l))) : i_Rel k ((nI (q + 1)), (nI ((q + 1) ^ 9)), fF, fB, fC, aC, aI, aM, aR, aB, aP, aD, aF, aT, aQ) ((nI (q + 1)), (nI ((q + 1) ^ 9)), gR, gF, bR, bF, bO) :=
  ⟨q, m, K.2, rfl, rfl, rfl, rfl, IV, V, hR⟩
theorem rl_el {P : SX → SY → Prop} {u : SX} {v : SY} (h : ∀ (q : Nat) (iR : Lean.Grind.CommRing (Pz q)) (m : Nat → Pz q) (fF fB fC : Int32) (aC aI aM aR aB aP aD aF aT aQ : Nat → Int32) (gR gF : Int32) (bR bF bO : Nat → Int32), PK q iR → iv_T q aI → VC m aC → (∀ l, l < 3 → bR l = nI (ce_e (m l))) → P ((nI (q + 1)), (nI ((q + 1) ^ 9)), fF, fB, fC, aC, aI, aM, aR, aB, aP, aD, aF, aT, aQ) ((nI (q + 1)), (nI ((q + 1) ^ 9)), gR, gF, bR, bF, bO)) (I : i_Rel k u v) : P u v := by
  obtain ⟨fP, fL, fF, fB, fC, aC, aI, aM, aR, aB, aP, aD, aF, aT, aQ⟩ := u
  obtain ⟨gP, gE, gR, gF, bR, bF, bO⟩ := v
  obtain ⟨q, m, hq, e1, e2, e3, e4, IV, V, hR⟩ := I
  subst e1 e2 e3 e4
  exact h q (poR (Fin (q + 1))) m fF fB fC aC aI aM aR aB aP aD aF aT aQ gR gF bR bF bO ⟨rfl, hq⟩ IV V hR
theorem rl_set (hR : ∀ l, l < 3 → bR l = nI (ce_e (m l))) {m' : Nat → Pz q} {l : Nat} (h : ∀ j, j < 3 → j ≠ l → m' j = m j) : ∀ j, j < 3 → (upd bR l (nI (ce_e (m' l)))) j = nI (ce_e (m' j)) := fun j hj => by
  by_cases e : j = l
  · rw [e, pk_us]
  · rw [pk_un e, h j hj e]; exact hR j hj
theorem rl_same (hR : ∀ l, l < 3 → bR l = nI (ce_e (m l))) {m' : Nat → Pz q} (h : ∀ j, j < 4 → m' j = m j) : ∀ j, j < 3 → bR j = nI (ce_e (m' j)) := fun j hj => by
  rw [h j (by omega)]; exact hR j hj
/-! the constructors -/
theorem xl_155 (K : PK q iR) {fL : Int32} {x : Nat} (hx : x < q + 1) (x0 : 0 < x) {post : SX → Prop} {J : Int32 → (Nat → Int32) → (Nat → Int32) → (Nat → Int32) → (Nat → Int32) → (Nat → Int32) → (Nat → Int32) → (Nat → Int32) → (Nat → Int32) → (Nat → Int32) → (Nat → Int32) → Prop} (h : ∀ aI, (∀ c : Fin (q + 1), c ≠ 0 → c.val < x + 1 → ∃ t : Fin (q + 1), c * t = 1 ∧ aI c.val = nI t.val) → J (nI (x + 1)) aC aI aM aR aB aP aD aF aT aQ) : ∀ (d y : Nat) (aI : Nat → Int32), y + d = q + 1 → 0 < y → (∀ c : Fin (q + 1), c ≠ 0 → c.val < x → ∃ t : Fin (q + 1), c * t = 1 ∧ aI c.val = nI t.val) → (∀ t : Fin (q + 1), fq_v x * t = 1 → t.val < y → aI x = nI t.val) → wX_init_155 post J (nI x) (nI (q + 1)) fL fF fB fC (d + 1) (nI y) aC aI aM aR aB aP aD aF aT aQ := by
  have q5 := q_5 K
  have vx : (fq_v x : Fin (q + 1)).val = x := by rw [fv_val, Nat.mod_eq_of_lt hx]
  intro d
  induction d with
  | zero =>
    intro y aI hy y0 h1 h2
    refine br_t (nI_le (by omega) (by omega)) (nm_r (nI_1 x) (h aI (fun c c0 hc => ?_)))
    by_cases e : c.val = x
    · have ec : c = fq_v x := by rw [← e, fv_of]
      obtain ⟨t, ht⟩ := fq_inv K c0
      refine ⟨t, ht, ?_⟩
      rw [e]
      exact h2 t (by rw [← ec]; exact ht) (by have := t.isLt; omega)
    · exact h1 c c0 (by omega)
  | succ d ih =>
    intro y aI hy y0 h1 h2
    have hxy : x * y ≤ 5 * 5 := Nat.mul_le_mul (by omega) (by omega)
    have vy : (fq_v y : Fin (q + 1)).val = y := by rw [fv_val, Nat.mod_eq_of_lt (by omega)]
    have b4 := pv_lt (fq_v x * fq_v y : Fin (q + 1)) K
    have key : nI x * nI y - nI x * nI y / nI (q + 1) * nI (q + 1) = 1 ↔ (fq_v x * fq_v y : Fin (q + 1)) = 1 := by
      rw [pk_mul, rm_p K (by omega), fv_mul, show (1 : Int32) = nI 1 from rfl, nI_eq (by omega) (by omega)]
      have e1 : ((1 : Fin (q + 1)).val) = 1 := Nat.mod_eq_of_lt (k_2 K)
      exact ⟨fun e => Fin.ext (by rw [e, e1]), fun e => by rw [e, e1]⟩
    refine br_f (nI_ge (by omega) (by omega)) ⟨p_nz K, br_c (fun z => ⟨vp_in_nI (by omega) (by omega), nm_r (e' := upd aI x (nI y)) (by rw [nI_clamp (by omega)]) (nm_r (nI_1 y) (ih (y + 1) _ (by omega) (by omega) (fun c c0 hc => ?_) (fun t ht hty => ?_)))⟩) (fun z => nm_r (nI_1 y) (ih (y + 1) _ (by omega) (by omega) h1 (fun t ht hty => ?_)))⟩
    · obtain ⟨t, ht, et⟩ := h1 c c0 hc
      exact ⟨t, ht, by rw [pk_un (by omega)]; exact et⟩
    · have e1 := key.mp z
      have e2 : t = fq_v y := by
        have : fq_v y * (fq_v x * t) = fq_v y * 1 := by rw [ht]
        rw [← Lean.Grind.Semiring.mul_assoc, Lean.Grind.CommSemiring.mul_comm (fq_v y) (fq_v x), e1, Lean.Grind.Semiring.one_mul, Lean.Grind.Semiring.mul_one] at this
        exact this
      rw [pk_us, e2, vy]
    · refine h2 t ht (Nat.lt_of_le_of_ne (by omega) (fun e => z (key.mpr ?_)))
      rw [← e, fv_of]; exact ht
theorem xl_145 (K : PK q iR) {fL : Int32} {post : SX → Prop} (h : ∀ aI, iv_T q aI → post ((nI (q + 1)), fL, fF, fB, fC, aC, aI, aM, aR, aB, aP, aD, aF, aT, aQ)) : ∀ (d x : Nat) (aI : Nat → Int32), x + d = q + 1 → 0 < x → (∀ c : Fin (q + 1), c ≠ 0 → c.val < x → ∃ t : Fin (q + 1), c * t = 1 ∧ aI c.val = nI t.val) → wX_init_145 post (nI (q + 1)) fL fF fB fC (d + 1) (nI x) aC aI aM aR aB aP aD aF aT aQ := by
  have q5 := q_5 K
  intro d
  induction d with
  | zero =>
    intro x aI hx x0 h1
    exact br_t (nI_le (by omega) (by omega)) (h aI (fun c c0 => h1 c c0 (by have := c.isLt; omega)))
  | succ d ih =>
    intro x aI hx x0 h1
    refine br_f (nI_ge (by omega) (by omega)) ⟨q + 1, ?_⟩
    exact xl_155 K (by omega) x0 (fun aI h2 => ih (x + 1) aI (by omega) (by omega) h2) q 1 aI (by omega) (by omega) h1 (fun t ht h0 => by
      have e : t = 0 := Fin.ext (by show t.val = 0; omega)
      rw [e, Lean.Grind.Semiring.mul_zero] at ht
      exact absurd ht.symm (fq_1 K))
theorem xl_118 (K : PK q iR) {post : SX → Prop} (h : ∀ aI, iv_T q aI → post ((nI (q + 1)), (nI ((q + 1) ^ 9)), fF, fB, fC, aC, aI, aM, aR, aB, aP, aD, aF, aT, aQ)) : ∀ d i, i + d = 9 → wX_init_118 post (nI (q + 1)) fF fB fC aC aI aM aR aB aP aD aF aT aQ (d + 1) (nI i) (nI ((q + 1) ^ i)) := by
  intro d
  induction d with
  | zero =>
    intro i hi
    have e : i = 9 := by omega
    subst e
    exact br_t (nI_le (a := 9) (b := 9) (by omega) (by omega)) ⟨q + 1, xl_145 K h q 1 aI (by omega) (by omega) (fun c c0 hc => absurd (Fin.ext (by show c.val = 0; omega)) c0)⟩
  | succ d ih =>
    intro i hi
    exact br_f (nI_ge (a := i) (b := 9) (by omega) (by omega)) (nm_r (e' := nI ((q + 1) ^ (i + 1))) (by rw [pk_mul, Nat.pow_succ]) (nm_r (nI_1 i) (ih (i + 1) (by omega))))
theorem yl_56 {post : SY → Prop} (h : post ((nI (q + 1)), (nI ((q + 1) ^ 9)), gR, gF, bR, bF, bO)) : ∀ d i, i + d = 9 → wY_init_56 post (nI (q + 1)) gR gF bR bF bO (d + 1) (nI i) (nI ((q + 1) ^ i)) := by
  intro d
  induction d with
  | zero =>
    intro i hi
    have e : i = 9 := by omega
    subst e
    exact br_t (nI_le (a := 9) (b := 9) (by omega) (by omega)) h
  | succ d ih =>
    intro i hi
    exact br_f (nI_ge (a := i) (b := 9) (by omega) (by omega)) (nm_r (e' := nI ((q + 1) ^ (i + 1))) (by rw [pk_mul, Nat.pow_succ]) (nm_r (nI_1 i) (ih (i + 1) (by omega))))
theorem rl_0 (K : PK q iR) (IV : iv_T q aI) : i_Rel 1 ((nI (q + 1)), (nI ((q + 1) ^ 9)), fF, fB, fC, (fun _ => 0), aI, aM, aR, aB, aP, aD, aF, aT, aQ) ((nI (q + 1)), (nI ((q + 1) ^ 9)), gR, gF, (fun _ => 0), bF, bO) := by
  refine rl_mk K IV (m := fun _ => 0) (fun l hl => ⟨by rw [sz_0 K]; omega, fun i hi => by rw [pz_zero K]; rfl⟩) (fun l hl => ?_)
  rw [ce_z K]; rfl
theorem x_init (K : PK q iR) {post : SX → Prop} (h : ∀ aI, iv_T q aI → post ((nI (q + 1)), (nI ((q + 1) ^ 9)), fF, fB, fC, aC, aI, aM, aR, aB, aP, aD, aF, aT, aQ)) : ∃ n, wX_init_118 post (nI (q + 1)) fF fB fC aC aI aM aR aB aP aD aF aT aQ n 0 1 := by
  have h1 := xl_118 (aI := aI) K h 9 0 rfl
  rw [Nat.pow_zero] at h1
  exact ⟨10, h1⟩
theorem y_init {post : SY → Prop} (h : post ((nI (q + 1)), (nI ((q + 1) ^ 9)), gR, gF, bR, bF, bO)) : ∃ n, wY_init_56 post (nI (q + 1)) gR gF bR bF bO n 0 1 := by
  have h1 := yl_56 h 9 0 rfl
  rw [Nat.pow_zero] at h1
  exact ⟨10, h1⟩
end
theorem pk_1 : PK 1 (poR (Fin 2)) := ⟨rfl, Or.inl rfl⟩
theorem pk_2 : PK 2 (poR (Fin 3)) := ⟨rfl, Or.inr (Or.inl rfl)⟩
theorem pk_4 : PK 4 (poR (Fin 5)) := ⟨rfl, Or.inr (Or.inr rfl)⟩
theorem i_vc0 (k0 : Int32) : wpX_init (fun u => wpY_init (fun v => i_Rel 1 u v) k0) k0 := by
  by_cases c0 : k0 = 0
  · refine br_t c0 (x_init pk_1 (fun aI IV => ?_))
    exact br_t c0 (y_init (q := 1) (rl_0 pk_1 IV))
  · by_cases c1 : k0 = 1
    · refine br_f c0 (br_t c1 (x_init pk_2 (fun aI IV => ?_)))
      exact br_f c0 (br_t c1 (y_init (q := 2) (rl_0 pk_2 IV)))
    · refine br_f c0 (br_f c1 (x_init pk_4 (fun aI IV => ?_)))
      exact br_f c0 (br_f c1 (y_init (q := 4) (rl_0 pk_4 IV)))
end
section
/-! the methods that don't factor -/
section
variable {q : Nat} {iR : Lean.Grind.CommRing (Pz q)}
variable {fL fF fB fC : Int32} {aC aI aM aR aB aP aD aF aT aQ : Nat → Int32} {gE gR gF : Int32} {bR bF bO : Nat → Int32} {m : Nat → Pz q}
theorem sz_C9 (K : PK q iR) {f g : Pz q} (c : Fin (q + 1)) (hf : pz_s f ≤ 9) (hg : pz_s g ≤ 9) : pz_s (f + pz_mo c 0 * g) ≤ 9 :=
  sz_add K hf (sz_le (fun i hi => by rw [C_mul K, sz_ge (by omega)]; exact Lean.Grind.Semiring.mul_zero _))
theorem vr_c (K : PK q iR) (v : Int32) : ∃ x : Nat, x < q + 1 ∧ ((0 ≤ v - v / nI (q + 1) * nI (q + 1) ∧ v - v / nI (q + 1) * nI (q + 1) = nI x) ∨ (¬ 0 ≤ v - v / nI (q + 1) * nI (q + 1) ∧ v - v / nI (q + 1) * nI (q + 1) + nI (q + 1) = nI x)) := by
  have q5 := q_5 K
  have e1 := rem_toInt v (nI (q + 1))
  rw [nI_toInt (by omega)] at e1
  have e2 := tmod_bounds (a := v.toInt) (M := ((q + 1 : Nat) : Int)) (by omega)
  generalize v - v / nI (q + 1) * nI (q + 1) = R at *
  by_cases c : 0 ≤ R
  · obtain ⟨j, hj, rfl⟩ := nI_of (Int32.not_lt.mpr c)
    rw [nI_toInt hj] at e1
    exact ⟨j, by omega, Or.inl ⟨c, rfl⟩⟩
  · have c1 : R.toInt < 0 := by
      have := Int32.not_le.mp c
      rw [Int32.lt_iff_toInt_lt] at this
      exact this
    have e3 : (R + nI (q + 1)).toInt = R.toInt + ((q + 1 : Nat) : Int) := by
      rw [Int32.toInt_add, nI_toInt (by omega)]
      exact Int.bmod_eq_of_le (by omega) (by omega)
    have c2 : ¬ R + nI (q + 1) < 0 := by
      rw [Int32.lt_iff_toInt_lt, e3, show (0 : Int32).toInt = 0 from rfl]
      omega
    obtain ⟨j, hj, ej⟩ := nI_of c2
    rw [ej, nI_toInt hj] at e3
    exact ⟨j, by omega, Or.inr ⟨c, ej⟩⟩
theorem yl_derive (K : PK q iR) {f : Pz q} (sf : pz_s f ≤ 9) {l : Nat} (hl : l < 3) (hb : bR l = nI (ce_e f)) {post : Int32 → SY → Prop} (h : post (nI (ce_e (dr_d f))) ((nI (q + 1)), gE, gR, gF, (upd bR l (nI (ce_e (dr_d f)))), bF, bO)) : ∀ d j, j + d = 8 → wY_derive_17 post (nI l) (nI (q + 1)) gE gR gF bR bF bO (d + 1) (nI (ce_v (dr_d f) j)) (nI ((q + 1) ^ j)) (nI (j + 1)) := by
  intro d
  induction d with
  | zero =>
    intro j hj
    have e : j = 8 := by omega
    subst e
    rw [ce_ve (dr_sz sf)]
    refine br_t (nI_le (a := 9) (b := 9) (by omega) (by omega)) ⟨vp_in_nI hl (by omega), nm_r (e' := upd bR l (nI (ce_e (dr_d f)))) (by rw [nI_clamp (by omega)]) h⟩
  | succ d ih =>
    intro j hj
    refine br_f (nI_ge (a := j + 1) (b := 9) (by omega) (by omega)) ⟨vp_in_nI hl (by omega), ?_⟩
    rw [nI_clamp (by omega), hb]
    refine yw_digit K sf (by omega) ⟨p_nz K, nm_r (e' := nI (ce_v (dr_d f) (j + 1))) ?_ (nm_r (e' := nI ((q + 1) ^ (j + 1))) (by rw [pk_mul, Nat.pow_succ]) (nm_r (nI_1 (j + 1)) (ih (j + 1) (by omega))))⟩
    have b1 := pv_lt (pz_c f (j + 1)) K
    have b2 : (pz_c f (j + 1)).val * (j + 1) ≤ 5 * 9 := Nat.mul_le_mul (by omega) (by omega)
    rw [pk_mul, rm_p K (by omega), pk_mul, nI_add, ce_v, dr_c, fv_mul, fv_of, Lean.Grind.CommSemiring.mul_comm (pz_c f (j + 1))]
theorem yl_roots (K : PK q iR) {f : Pz q} (sf : pz_s f ≤ 9) {l : Nat} (hl : l < 3) (hb : bR l = nI (ce_e f)) {post : Int32 → Prop} (h : post (nI (ro_c f (q + 1)))) : ∀ d k, k + d = q + 1 → wY_roots_14 post (nI l) (nI (q + 1)) gE gR gF bR bF bO (d + 1) (nI (ro_c f k)) (nI k) := by
  have h5 := q_5 K
  intro d
  induction d with
  | zero =>
    intro k hk
    have e : k = q + 1 := by omega
    subst e
    exact br_t (nI_le (by omega) (by omega)) h
  | succ d ih =>
    intro k hk
    have i1 := ih (k + 1) (by omega)
    rw [ro_c] at i1
    refine br_f (nI_ge (by omega) (by omega)) ⟨vp_in_nI hl (by omega), ?_⟩
    rw [nI_clamp (by omega), hb]
    refine yw_value K sf (by omega) ?_
    have b := ho_lt K f k 9
    refine br_c (fun z => nm_r (nI_1 _) (nm_r (nI_1 k) ?_)) (fun z => nm_r (nI_1 k) ?_)
    · rw [if_pos ((nI_eq (a := ho_v f k 9) (b := 0) (by omega) (by omega)).mp z)] at i1
      exact i1
    · rw [if_neg (fun c => z (by rw [c]; rfl))] at i1
      exact i1
end
theorem i_vc_prime {k : Nat} {u : SX} {v : SY} (I : i_Rel k u v) (hk : k + 4 ≤ 2049) : wpX_prime (fun r => wpY_prime (fun r' => r' = r ∧ i_Rel (k + 4) u v) v) u := by
  refine rl_el (P := fun u v => wpX_prime (fun r => wpY_prime (fun r' => r' = r ∧ i_Rel (k + 4) u v) v) u) ?_ I
  intro q iR m fF fB fC aC aI aM aR aB aP aD aF aT aQ gR gF bR bF bO K IV V hR
  exact ⟨rfl, rl_mk K IV V hR⟩
theorem i_vc_load {k : Nat} {u : SX} {v : SY} (I : i_Rel k u v) (hk : k + 4 ≤ 2049) (v1 : Int32) (v2 : Int32) : wpX_load (fun r u' => wpY_load (fun r' v' => r' = r ∧ i_Rel (k + 4) u' v') v v1 v2) u v1 v2 := by
  refine rl_el (P := fun u v => wpX_load (fun r u' => wpY_load (fun r' v' => r' = r ∧ i_Rel (k + 4) u' v') v v1 v2) u v1 v2) ?_ I
  intro q iR m fF fB fC aC aI aM aR aB aP aD aF aT aQ gR gF bR bF bO K IV V hR
  have q9 := p9_le K (i := 9) (by omega)
  rcases rg_c v1 with ⟨l, hl, rfl⟩ | hx
  · have stay : ∀ r : Int32, (i_Rel (k + 4) ((nI (q + 1)), (nI ((q + 1) ^ 9)), fF, fB, fC, aC, aI, aM, aR, aB, aP, aD, aF, aT, aQ) ((nI (q + 1)), (nI ((q + 1) ^ 9)), gR, gF, bR, bF, bO)) := fun _ => rl_mk K IV V hR
    unfold wpX_load
    dsimp only
    refine xr_yes hl (br_f (by decide) ?_)
    by_cases c0 : v2 < 0
    · refine br_t c0 ?_
      unfold wpY_load
      dsimp only
      exact yb_yes hl (br_t rfl (br_t c0 ⟨rfl, rl_mk K IV V hR⟩))
    · refine br_f c0 ?_
      obtain ⟨c, hc, rfl⟩ := nI_of c0
      by_cases c1 : c < (q + 1) ^ 9
      · refine br_t (nI_lt c1 (by omega)) ?_
        refine xw_codeOf K V (l := l) (by omega) ?_
        refine xw_decode K V (l := l) (by omega) c1 (fun aC V1 => ?_)
        unfold wpY_load
        dsimp only
        refine yb_yes hl (br_t rfl (br_f c0 (br_t (nI_lt c1 (by omega)) ⟨vp_in_nI hl (by omega), nm_e ⟨vp_in_nI hl (by omega), nm_r (e' := upd bR l (nI c)) (by rw [nI_clamp (by omega)]) ⟨?_, ?_⟩⟩⟩)))
        · rw [nI_clamp (by omega)]; exact hR l hl
        · have h1 := rl_set hR (m' := st_l m l (ce_d c)) (l := l) (fun j hj e => st_n e)
          rw [st_s, ce_ed K] at h1
          exact rl_mk K IV V1 h1
      · refine br_f (nI_nlt (by omega) (by omega)) ?_
        unfold wpY_load
        dsimp only
        exact yb_yes hl (br_t rfl (br_f c0 (br_f (nI_nlt (by omega) (by omega)) ⟨rfl, rl_mk K IV V hR⟩)))
  · unfold wpX_load
    dsimp only
    refine xr_no hx (br_t rfl ?_)
    unfold wpY_load
    dsimp only
    exact yb_no hx (br_f (by decide) ⟨rfl, rl_mk K IV V hR⟩)
theorem i_vc_code {k : Nat} {u : SX} {v : SY} (I : i_Rel k u v) (hk : k + 4 ≤ 2049) (v1 : Int32) : wpX_code (fun r => wpY_code (fun r' => r' = r ∧ i_Rel (k + 4) u v) v v1) u v1 := by
  refine rl_el (P := fun u v => wpX_code (fun r => wpY_code (fun r' => r' = r ∧ i_Rel (k + 4) u v) v v1) u v1) ?_ I
  intro q iR m fF fB fC aC aI aM aR aB aP aD aF aT aQ gR gF bR bF bO K IV V hR
  rcases rg_c v1 with ⟨l, hl, rfl⟩ | hx
  · unfold wpX_code
    dsimp only
    refine xr_yes hl (br_f (by decide) (xw_codeOf K V (l := l) (by omega) ?_))
    unfold wpY_code
    dsimp only
    refine yb_yes hl (br_t rfl ⟨vp_in_nI hl (by omega), ?_, rl_mk K IV V hR⟩)
    rw [nI_clamp (by omega)]; exact hR l hl
  · unfold wpX_code
    dsimp only
    refine xr_no hx (br_t rfl ?_)
    unfold wpY_code
    dsimp only
    exact yb_no hx (br_f (by decide) ⟨rfl, rl_mk K IV V hR⟩)
theorem i_vc_degree {k : Nat} {u : SX} {v : SY} (I : i_Rel k u v) (hk : k + 4 ≤ 2049) (v1 : Int32) : wpX_degree (fun r => wpY_degree (fun r' => r' = r ∧ i_Rel (k + 4) u v) v v1) u v1 := by
  refine rl_el (P := fun u v => wpX_degree (fun r => wpY_degree (fun r' => r' = r ∧ i_Rel (k + 4) u v) v v1) u v1) ?_ I
  intro q iR m fF fB fC aC aI aM aR aB aP aD aF aT aQ gR gF bR bF bO K IV V hR
  rcases rg_c v1 with ⟨l, hl, rfl⟩ | hx
  · unfold wpX_degree
    dsimp only
    refine xr_yes hl (br_f (by decide) (xw_degreeOf K V (l := l) (by omega) ?_))
    unfold wpY_degree
    dsimp only
    refine yb_yes hl (br_t rfl ⟨vp_in_nI hl (by omega), ?_⟩)
    rw [nI_clamp (by omega), hR l hl]
    exact yw_degreeOf K (vc_s V (by omega)) ⟨rfl, rl_mk K IV V hR⟩
  · unfold wpX_degree
    dsimp only
    refine xr_no hx (br_t rfl ?_)
    unfold wpY_degree
    dsimp only
    exact yb_no hx (br_f (by decide) ⟨rfl, rl_mk K IV V hR⟩)
theorem i_vc_add {k : Nat} {u : SX} {v : SY} (I : i_Rel k u v) (hk : k + 4 ≤ 2049) (v1 : Int32) (v2 : Int32) : wpX_add (fun r u' => wpY_add (fun r' v' => r' = r ∧ i_Rel (k + 4) u' v') v v1 v2) u v1 v2 := by
  refine rl_el (P := fun u v => wpX_add (fun r u' => wpY_add (fun r' v' => r' = r ∧ i_Rel (k + 4) u' v') v v1 v2) u v1 v2) ?_ I
  intro q iR m fF fB fC aC aI aM aR aB aP aD aF aT aQ gR gF bR bF bO K IV V hR
  unfold wpX_add
  dsimp only
  rcases rg_c v1 with ⟨a, ha, rfl⟩ | hx
  · refine xr_yes ha (br_f (by decide) ?_)
    rcases rg_c v2 with ⟨b, hb, rfl⟩ | hx2
    · refine xr_yes hb (br_f (by decide) ?_)
      have hs := sz_C9 K (fq_v 1) (vc_s V (l := a) (by omega)) (vc_s V (l := b) (by omega))
      refine xw_addTimes K V (a := a) (b := b) (fac := 1) (up := 0) (by omega) (by omega) (by omega) (by omega) hs (fun aC V1 => ?_)
      dsimp only
      refine xw_codeOf K V1 (l := a) (by omega) ?_
      unfold wpY_add
      dsimp only
      refine yb_yes ha (br_t rfl (yb_yes hb (br_t rfl ⟨vp_in_nI ha (by omega), vp_in_nI hb (by omega), ?_⟩)))
      rw [nI_clamp (by omega), nI_clamp (by omega), hR a ha, hR b hb]
      refine yw_plus K (tm := 1) (by have := ce_31 K (vc_s V (l := a) (by omega)); omega) (by have := ce_31 K (vc_s V (l := b) (by omega)); omega) (by omega) hs ⟨vp_in_nI ha (by omega), nm_e ⟨vp_in_nI ha (by omega), ?_, ?_⟩⟩
      · rw [pk_us, st_s]
      · have h1 := rl_set hR (m' := st_l m a (m a + pz_mo (fq_v 1) 0 * m b)) (l := a) (fun j hj e => st_n e)
        rw [st_s] at h1
        exact rl_mk K IV V1 h1
    · refine xr_no hx2 (br_t rfl ?_)
      unfold wpY_add
      dsimp only
      exact yb_yes ha (br_t rfl (yb_no hx2 (br_f (by decide) ⟨rfl, rl_mk K IV V hR⟩)))
  · refine xr_no hx (br_t rfl ?_)
    unfold wpY_add
    dsimp only
    exact yb_no hx (br_f (by decide) ⟨rfl, rl_mk K IV V hR⟩)
theorem i_vc_subtract {k : Nat} {u : SX} {v : SY} (I : i_Rel k u v) (hk : k + 4 ≤ 2049) (v1 : Int32) (v2 : Int32) : wpX_subtract (fun r u' => wpY_subtract (fun r' v' => r' = r ∧ i_Rel (k + 4) u' v') v v1 v2) u v1 v2 := by
  refine rl_el (P := fun u v => wpX_subtract (fun r u' => wpY_subtract (fun r' v' => r' = r ∧ i_Rel (k + 4) u' v') v v1 v2) u v1 v2) ?_ I
  intro q iR m fF fB fC aC aI aM aR aB aP aD aF aT aQ gR gF bR bF bO K IV V hR
  have q5 := q_5 K
  have ep : nI (q + 1) - 1 = nI q := nI_pred q
  unfold wpX_subtract
  dsimp only
  rcases rg_c v1 with ⟨a, ha, rfl⟩ | hx
  · refine xr_yes ha (br_f (by decide) ?_)
    rcases rg_c v2 with ⟨b, hb, rfl⟩ | hx2
    · refine xr_yes hb (br_f (by decide) ?_)
      have hs := sz_C9 K (fq_v q) (vc_s V (l := a) (by omega)) (vc_s V (l := b) (by omega))
      rw [ep]
      refine xw_addTimes K V (a := a) (b := b) (fac := q) (up := 0) (by omega) (by omega) (by omega) (by omega) hs (fun aC V1 => ?_)
      dsimp only
      refine xw_codeOf K V1 (l := a) (by omega) ?_
      unfold wpY_subtract
      dsimp only
      refine yb_yes ha (br_t rfl (yb_yes hb (br_t rfl ⟨vp_in_nI ha (by omega), vp_in_nI hb (by omega), ?_⟩)))
      rw [nI_clamp (by omega), nI_clamp (by omega), hR a ha, hR b hb, ep]
      refine yw_plus K (tm := q) (by have := ce_31 K (vc_s V (l := a) (by omega)); omega) (by have := ce_31 K (vc_s V (l := b) (by omega)); omega) (by omega) hs ⟨vp_in_nI ha (by omega), nm_e ⟨vp_in_nI ha (by omega), ?_, ?_⟩⟩
      · rw [pk_us, st_s]
      · have h1 := rl_set hR (m' := st_l m a (m a + pz_mo (fq_v q) 0 * m b)) (l := a) (fun j hj e => st_n e)
        rw [st_s] at h1
        exact rl_mk K IV V1 h1
    · refine xr_no hx2 (br_t rfl ?_)
      unfold wpY_subtract
      dsimp only
      exact yb_yes ha (br_t rfl (yb_no hx2 (br_f (by decide) ⟨rfl, rl_mk K IV V hR⟩)))
  · refine xr_no hx (br_t rfl ?_)
    unfold wpY_subtract
    dsimp only
    exact yb_no hx (br_f (by decide) ⟨rfl, rl_mk K IV V hR⟩)
end
section
/-! divide, divisor, derive, valueAt, roots -/
theorem i_vc_divide {k : Nat} {u : SX} {v : SY} (I : i_Rel k u v) (hk : k + 4 ≤ 2049) (v1 : Int32) (v2 : Int32) (v3 : Int32) : wpX_divide (fun r u' => wpY_divide (fun r' v' => r' = r ∧ i_Rel (k + 4) u' v') v v1 v2 v3) u v1 v2 v3 := by
  refine rl_el (P := fun u v => wpX_divide (fun r u' => wpY_divide (fun r' v' => r' = r ∧ i_Rel (k + 4) u' v') v v1 v2 v3) u v1 v2 v3) ?_ I
  intro q iR m fF fB fC aC aI aM aR aB aP aD aF aT aQ gR gF bR bF bO K IV V hR
  unfold wpX_divide
  dsimp only
  rcases rg_c v1 with ⟨qo, hq, rfl⟩ | hx
  · refine xr_yes hq (br_f (by decide) ?_)
    rcases rg_c v2 with ⟨a, ha, rfl⟩ | hx2
    · refine xr_yes ha (br_f (by decide) ?_)
      rcases rg_c v3 with ⟨b, hb, rfl⟩ | hx3
      · refine xr_yes hb (br_f (by decide) ?_)
        refine pk_eq qo a (fun e => ?_) (fun n1 => ?_) rfl rfl (by omega) (by omega)
        · unfold wpY_divide
          dsimp only
          exact yb_yes hq (br_t rfl (yb_yes ha (br_t rfl (yb_yes hb (br_t rfl (br_t (by rw [e]) ⟨rfl, rl_mk K IV V hR⟩))))))
        · refine pk_eq qo b (fun e => ?_) (fun n2 => ?_) rfl rfl (by omega) (by omega)
          · unfold wpY_divide
            dsimp only
            exact yb_yes hq (br_t rfl (yb_yes ha (br_t rfl (yb_yes hb (br_t rfl (br_f (fun z => n1 ((nI_eq (by omega) (by omega)).mp z)) (br_t (by rw [e]) ⟨rfl, rl_mk K IV V hR⟩)))))))
          · refine pk_eq a b (fun e => ?_) (fun n3 => ?_) rfl rfl (by omega) (by omega)
            · unfold wpY_divide
              dsimp only
              exact yb_yes hq (br_t rfl (yb_yes ha (br_t rfl (yb_yes hb (br_t rfl (br_f (fun z => n1 ((nI_eq (by omega) (by omega)).mp z)) (br_f (fun z => n2 ((nI_eq (by omega) (by omega)).mp z)) (br_t (by rw [e]) ⟨rfl, rl_mk K IV V hR⟩))))))))
            · have sb := vc_s V (l := b) (by omega)
              have sa := vc_s V (l := a) (by omega)
              have cb := ce_31 K sb
              refine xw_degreeOf K V (l := b) (by omega) ?_
              by_cases b0 : m b = 0
              · refine br_f (fun z => ?_) ?_
                · have := (dn_pos (by omega)).mp z
                  rw [b0, sz_0 K] at this
                  omega
                · unfold wpY_divide
                  dsimp only
                  refine yb_yes hq (br_t rfl (yb_yes ha (br_t rfl (yb_yes hb (br_t rfl (br_f (fun z => n1 ((nI_eq (by omega) (by omega)).mp z)) (br_f (fun z => n2 ((nI_eq (by omega) (by omega)).mp z)) (br_f (fun z => n3 ((nI_eq (by omega) (by omega)).mp z)) ⟨vp_in_nI hb (by omega), br_t ?_ ⟨rfl, rl_mk K IV V hR⟩⟩))))))))
                  rw [nI_clamp (by omega), hR b hb, b0, ce_z K]; rfl
              · obtain ⟨s, hs⟩ := sz_nz K b0
                refine br_t ((dn_pos (by omega)).mpr (by omega)) ?_
                refine xw_divideInto K IV V (qo := qo) (a := a) (b := b) (by omega) (by omega) (by omega) n1 n2 n3 b0 (fun Q r aC e hr V1 => ?_)
                dsimp only
                refine xw_codeOf K V1 (l := qo) (by omega) ?_
                unfold wpY_divide
                dsimp only
                refine yb_yes hq (br_t rfl (yb_yes ha (br_t rfl (yb_yes hb (br_t rfl (br_f (fun z => n1 ((nI_eq (by omega) (by omega)).mp z)) (br_f (fun z => n2 ((nI_eq (by omega) (by omega)).mp z)) (br_f (fun z => n3 ((nI_eq (by omega) (by omega)).mp z)) ⟨vp_in_nI hb (by omega), br_f ?_ ⟨vp_in_nI ha (by omega), vp_in_nI hb (by omega), ?_⟩⟩))))))))
                · rw [nI_clamp (by omega), hR b hb]
                  exact nI_ne0 (Nat.pos_of_ne_zero (fun z => by have := (ce_0 K).mp z; omega)) (by omega)
                · rw [nI_clamp (n := qo) (by omega), nI_clamp (n := a) (by omega), nI_clamp (n := b) (by omega), hR a ha, hR b hb]
                  refine yw_quotient K sa sb b0 (fun Q' r' e' hr' _ => ?_)
                  obtain ⟨eQ, er⟩ := dv_un K (e.symm.trans e') hr hr'
                  subst eQ er
                  dsimp only
                  refine ⟨vp_in_nI hq (by omega), nm_r (e' := upd bR qo (nI (ce_e Q))) rfl ⟨vp_in_nI ha (by omega), nm_r (e' := upd (upd bR qo (nI (ce_e Q))) a (nI (ce_e r))) rfl ⟨vp_in_nI hq (by omega), ?_, ?_⟩⟩⟩
                  · rw [pk_un n1, pk_us, st_n n1, st_s]
                  · refine rl_mk K IV V1 (fun j hj => ?_)
                    by_cases e1 : j = a
                    · rw [e1, pk_us, st_s]
                    · rw [pk_un e1, st_n e1]
                      by_cases e2 : j = qo
                      · rw [e2, pk_us, st_s]
                      · rw [pk_un e2, st_n e2]; exact hR j hj
      · refine xr_no hx3 (br_t rfl ?_)
        unfold wpY_divide
        dsimp only
        exact yb_yes hq (br_t rfl (yb_yes ha (br_t rfl (yb_no hx3 (br_f (by decide) ⟨rfl, rl_mk K IV V hR⟩)))))
    · refine xr_no hx2 (br_t rfl ?_)
      unfold wpY_divide
      dsimp only
      exact yb_yes hq (br_t rfl (yb_no hx2 (br_f (by decide) ⟨rfl, rl_mk K IV V hR⟩)))
  · refine xr_no hx (br_t rfl ?_)
    unfold wpY_divide
    dsimp only
    exact yb_no hx (br_f (by decide) ⟨rfl, rl_mk K IV V hR⟩)
theorem i_vc_divisor {k : Nat} {u : SX} {v : SY} (I : i_Rel k u v) (hk : k + 4 ≤ 2049) (v1 : Int32) (v2 : Int32) : wpX_divisor (fun r u' => wpY_divisor (fun r' v' => r' = r ∧ i_Rel (k + 4) u' v') v v1 v2) u v1 v2 := by
  refine rl_el (P := fun u v => wpX_divisor (fun r u' => wpY_divisor (fun r' v' => r' = r ∧ i_Rel (k + 4) u' v') v v1 v2) u v1 v2) ?_ I
  intro q iR m fF fB fC aC aI aM aR aB aP aD aF aT aQ gR gF bR bF bO K IV V hR
  unfold wpX_divisor
  dsimp only
  rcases rg_c v1 with ⟨a, ha, rfl⟩ | hx
  · refine xr_yes ha (br_f (by decide) ?_)
    rcases rg_c v2 with ⟨b, hb, rfl⟩ | hx2
    · refine xr_yes hb (br_f (by decide) ?_)
      refine xw_copy V (to := 3) (fr := b) (by omega) (by omega) (fun aC V1 => ?_)
      dsimp only
      refine xw_divisorInto K IV V1 (a := a) (b := 3) (by omega) (by omega) (by omega) (by omega) (by omega) (by omega) (by omega) (fun F m2 aC hF zF ea fr V2 => ?_)
      rw [st_s, st_n (by omega)] at hF
      dsimp only
      refine xw_codeOf K V2 (l := a) (by omega) ?_
      unfold wpY_divisor
      dsimp only
      refine yb_yes ha (br_t rfl (yb_yes hb (br_t rfl ⟨vp_in_nI ha (by omega), vp_in_nI hb (by omega), ?_⟩)))
      rw [nI_clamp (by omega), nI_clamp (by omega), hR a ha, hR b hb]
      refine yw_common K (vc_s V (by omega)) (vc_s V (by omega)) (fun F' gR hF' zF' _ => ?_)
      have eF := gd_un K hF hF' zF zF'
      subst eF
      dsimp only
      refine ⟨vp_in_nI ha (by omega), nm_e ⟨vp_in_nI ha (by omega), ?_, ?_⟩⟩
      · rw [pk_us, ea]
      · have h1 := rl_set hR (m' := m2) (l := a) (fun j hj e => by rw [fr j e (by omega) (by omega) (by omega), st_n (by omega)])
        rw [ea] at h1
        exact rl_mk K IV V2 h1
    · refine xr_no hx2 (br_t rfl ?_)
      unfold wpY_divisor
      dsimp only
      exact yb_yes ha (br_t rfl (yb_no hx2 (br_f (by decide) ⟨rfl, rl_mk K IV V hR⟩)))
  · refine xr_no hx (br_t rfl ?_)
    unfold wpY_divisor
    dsimp only
    exact yb_no hx (br_f (by decide) ⟨rfl, rl_mk K IV V hR⟩)
theorem i_vc_derive {k : Nat} {u : SX} {v : SY} (I : i_Rel k u v) (hk : k + 4 ≤ 2049) (v1 : Int32) : wpX_derive (fun r u' => wpY_derive (fun r' v' => r' = r ∧ i_Rel (k + 4) u' v') v v1) u v1 := by
  refine rl_el (P := fun u v => wpX_derive (fun r u' => wpY_derive (fun r' v' => r' = r ∧ i_Rel (k + 4) u' v') v v1) u v1) ?_ I
  intro q iR m fF fB fC aC aI aM aR aB aP aD aF aT aQ gR gF bR bF bO K IV V hR
  unfold wpX_derive
  dsimp only
  rcases rg_c v1 with ⟨a, ha, rfl⟩ | hx
  · refine xr_yes ha (br_f (by decide) ?_)
    refine xw_deriveInto K V (to := a) (fr := a) (by omega) (by omega) (fun aC V1 => ?_)
    dsimp only
    refine xw_codeOf K V1 (l := a) (by omega) ?_
    rw [st_s]
    unfold wpY_derive
    dsimp only
    refine yb_yes ha (br_t rfl ⟨9, ?_⟩)
    refine yl_derive K (vc_s V (by omega)) ha (hR a ha) ⟨rfl, ?_⟩ 8 0 rfl
    have h1 := rl_set hR (m' := st_l m a (dr_d (m a))) (l := a) (fun j hj e => st_n e)
    rw [st_s] at h1
    exact rl_mk K IV V1 h1
  · refine xr_no hx (br_t rfl ?_)
    unfold wpY_derive
    dsimp only
    exact yb_no hx (br_f (by decide) ⟨rfl, rl_mk K IV V hR⟩)
theorem i_vc_valueAt {k : Nat} {u : SX} {v : SY} (I : i_Rel k u v) (hk : k + 4 ≤ 2049) (v1 : Int32) (v2 : Int32) : wpX_valueAt (fun r => wpY_valueAt (fun r' => r' = r ∧ i_Rel (k + 4) u v) v v1 v2) u v1 v2 := by
  refine rl_el (P := fun u v => wpX_valueAt (fun r => wpY_valueAt (fun r' => r' = r ∧ i_Rel (k + 4) u v) v v1 v2) u v1 v2) ?_ I
  intro q iR m fF fB fC aC aI aM aR aB aP aD aF aT aQ gR gF bR bF bO K IV V hR
  unfold wpX_valueAt
  dsimp only
  rcases rg_c v1 with ⟨a, ha, rfl⟩ | hx
  · have q5 := q_5 K
    obtain ⟨x, hx, hv⟩ := vr_c K v2
    refine xr_yes ha (br_f (by decide) ⟨p_nz K, nm_e ?_⟩)
    rcases hv with ⟨c, e⟩ | ⟨c, e⟩
    · refine br_t c ?_
      unfold wX_valueAt_32
      rw [e]
      refine xw_valueOf K V (l := a) (by omega) (by omega) ?_
      unfold wpY_valueAt
      dsimp only
      refine yb_yes ha (br_t rfl ⟨p_nz K, nm_e ⟨vp_in_nI ha (by omega), br_t c ?_⟩⟩)
      unfold wY_valueAt_38
      rw [e, nI_clamp (by omega), hR a ha]
      exact yw_value K (vc_s V (by omega)) (by omega) ⟨rfl, rl_mk K IV V hR⟩
    · refine br_f c ?_
      unfold wX_valueAt_32
      rw [e]
      refine xw_valueOf K V (l := a) (by omega) (by omega) ?_
      unfold wpY_valueAt
      dsimp only
      refine yb_yes ha (br_t rfl ⟨p_nz K, nm_e ⟨vp_in_nI ha (by omega), br_f c ?_⟩⟩)
      unfold wY_valueAt_38
      rw [e, nI_clamp (by omega), hR a ha]
      exact yw_value K (vc_s V (by omega)) (by omega) ⟨rfl, rl_mk K IV V hR⟩
  · refine xr_no hx (br_t rfl ?_)
    unfold wpY_valueAt
    dsimp only
    exact yb_no hx (br_f (by decide) ⟨rfl, rl_mk K IV V hR⟩)
theorem i_vc_roots {k : Nat} {u : SX} {v : SY} (I : i_Rel k u v) (hk : k + 4 ≤ 2049) (v1 : Int32) : wpX_roots (fun r => wpY_roots (fun r' => r' = r ∧ i_Rel (k + 4) u v) v v1) u v1 := by
  refine rl_el (P := fun u v => wpX_roots (fun r => wpY_roots (fun r' => r' = r ∧ i_Rel (k + 4) u v) v v1) u v1) ?_ I
  intro q iR m fF fB fC aC aI aM aR aB aP aD aF aT aQ gR gF bR bF bO K IV V hR
  unfold wpX_roots
  dsimp only
  rcases rg_c v1 with ⟨a, ha, rfl⟩ | hx
  · refine xr_yes ha (br_f (by decide) ⟨q + 2, ?_⟩)
    refine xl_roots K V (l := a) (by omega) ?_ (q + 1) 0 (by omega)
    unfold wpY_roots
    dsimp only
    refine yb_yes ha (br_t rfl ⟨q + 2, ?_⟩)
    exact yl_roots K (vc_s V (by omega)) ha (hR a ha) ⟨rfl, rl_mk K IV V hR⟩ (q + 1) 0 (by omega)
  · refine xr_no hx (br_t rfl ?_)
    unfold wpY_roots
    dsimp only
    exact yb_no hx (br_f (by decide) ⟨rfl, rl_mk K IV V hR⟩)
end
section
/-! multiply, irreducible; both sides' factors agree -/
section
variable {q : Nat} {iR : Lean.Grind.CommRing (Pz q)}
variable {fL fF fB fC : Int32} {aC aI aM aR aB aP aD aF aT aQ : Nat → Int32} {gE gR gF : Int32} {bR bF bO : Nat → Int32} {m : Nat → Pz q}
theorem xl_m51 (K : PK q iR) {f : Pz q} (P : PQ f aQ) (s9 : pz_s f ≤ 9) {a : Nat} (ha : a < 16) (sa : pz_s (m a) ≤ 9) {post : Int32 → SX → Prop} (h : ∀ aC, VC (st_l m a f) aC → post (nI (ce_e f)) ((nI (q + 1)), fL, fF, fB, fC, aC, aI, aM, aR, aB, aP, aD, aF, aT, aQ)) : ∀ (d i : Nat) (aC : Nat → Int32), i + d = 9 → VC (st_l m a (pz_x i f (m a))) aC → wX_multiply_51 post (nI a) (nI (q + 1)) fL fF fB fC (d + 1) (nI i) aC aI aM aR aB aP aD aF aT aQ := by
  intro d
  induction d with
  | zero =>
    intro i aC hi V
    have e : i = 9 := by omega
    subst e
    have V1 := vc_9 V s9 sa
    refine br_t (nI_le (a := 9) (b := 9) (by omega) (by omega)) (xw_codeOf K V1 ha ?_)
    rw [st_s]
    exact h aC V1
  | succ d ih =>
    intro i aC hi V
    refine br_f (nI_ge (a := i) (b := 9) (by omega) (by omega)) ⟨vp_in_nI (by omega) (by omega), pk_in (9 * a + i) 144 (by omega) (ix_9 a i), nm_r (e' := upd aC (9 * a + i) (nI (pz_c f i).val)) ?_ (nm_r (nI_1 i) (ih (i + 1) _ (by omega) (vc_up V ha (by omega))))⟩
    rw [cl_9 (by omega), nI_clamp (by omega), P.2 i (by omega)]
theorem xl_m25 (K : PK q iR) (V : VC m aC) {f : Pz q} (P : PQ f aQ) {a : Nat} (ha : a < 16) {post : Int32 → SX → Prop} (h1 : pz_s f ≤ 9 → ∀ aC, VC (st_l m a f) aC → post (nI (ce_e f)) ((nI (q + 1)), fL, fF, fB, fC, aC, aI, aM, aR, aB, aP, aD, aF, aT, aQ)) (h0 : ¬ pz_s f ≤ 9 → post (-2) ((nI (q + 1)), fL, fF, fB, fC, aC, aI, aM, aR, aB, aP, aD, aF, aT, aQ)) : ∀ d i, i + d = 17 → 9 ≤ i → (∀ j, 9 ≤ j → j < i → pz_c f j = 0) → wX_multiply_25 post (nI a) (nI (q + 1)) fL fF fB fC aC aI aM aR aB aP aD aF aT aQ (d + 1) (nI i) := by
  intro d
  induction d with
  | zero =>
    intro i hi h9 hz
    have e : i = 17 := by omega
    subst e
    have s9 : pz_s f ≤ 9 := sz_le (fun j hj => by
      by_cases c : j < 17
      · exact hz j hj c
      · exact sz_ge (by have := P.1; omega))
    exact br_t (nI_le (a := 17) (b := 17) (by omega) (by omega)) ⟨10, xl_m51 K P s9 ha (vc_s V ha) (h1 s9) 9 0 aC rfl (vc_0 V a _)⟩
  | succ d ih =>
    intro i hi h9 hz
    refine br_f (nI_ge (a := i) (b := 17) (by omega) (by omega)) ⟨vp_in_nI (by omega) (by omega), ?_⟩
    rw [nI_clamp (by omega), P.2 i (by omega)]
    refine br_c (fun z => nm_r (nI_1 i) (ih (i + 1) (by omega) (by omega) (fun j a b => ?_))) (fun z => h0 (fun s => z ((nz_v K _).mpr (sz_ge (by omega)))))
    by_cases e : j = i
    · rw [e]; exact (nz_v K _).mp z
    · exact hz j a (by omega)
theorem mo_un (K : PK q iR) {f F F' : Pz q} (f0 : f ≠ 0) (h : mo_M f F) (h' : mo_M f F') : F = F' := by
  rcases h with ⟨z, _⟩ | ⟨a1, a2, a3, a4⟩
  · exact absurd z f0
  · rcases h' with ⟨z, _⟩ | ⟨b1, b2, b3, b4⟩
    · exact absurd z f0
    · exact mn_eq K a1 b1 (dv_trans a3 b4) (by omega)
theorem mo_mn (K : PK q iR) {f F : Pz q} (f0 : f ≠ 0) (h : mo_M f F) : mn_m F ∧ pz_s F = pz_s f ∧ (ir_r F ↔ ir_r f) := by
  rcases h with ⟨z, _⟩ | ⟨a1, a2, a3, a4⟩
  · exact absurd z f0
  · exact ⟨a1, a2, fun h => ir_as K h a3 a4, fun h => ir_as K h a4 a3⟩
theorem ml_lt (K : PK q iR) {f g : Pz q} {e : Nat} (hf : ir_r f) (h : ml_m f g e) : e < pz_s g := by
  obtain ⟨e2, h2, l⟩ := ml_ex K hf (ml_nz K hf h)
  rw [ml_un K hf h h2]; exact l
theorem fl_c (K : PK q iR) {F : Pz q} {n : Nat} {c t : Nat → Nat} (h : fl_F F n c t) (sF : pz_s F ≤ 9) {i : Nat} (hi : i < n) : c i < 1953125 ∧ pz_s (ce_d (c i) : Pz q) ≤ 9 ∧ t i < 9 := by
  obtain ⟨h1, h2, h3, h4⟩ := h.2.1 i hi
  have s1 := (dv_sz K ((ml_0' K h1 h3).mpr h4) (ml_nz K h1 h3)).2
  have h5 := ce_31 K (f := (ce_d (c i) : Pz q)) (by omega)
  rw [ce_ed K] at h5
  have := ml_lt K h1 h3
  exact ⟨h5, by omega, by omega⟩
theorem yw_isPrime (K : PK q iR) {f : Pz q} (s9 : pz_s f ≤ 9) {post : Int32 → SY → Prop} (h : ∀ (r : Nat) (gR gF : Int32) (bF bO : Nat → Int32), r ≤ 1 → (r = 1 ↔ ir_r f) → post (nI r) ((nI (q + 1)), gE, gR, gF, bR, bF, bO)) : wpY_isPrime post ((nI (q + 1)), gE, gR, gF, bR, bF, bO) (nI (ce_e f)) := by
  have c31 := ce_31 K s9
  have q5 := q_5 K
  have key : q + 1 ≤ ce_e f ↔ 2 ≤ pz_s f := by
    have := ce_sz K (f := f) (n := 1)
    rw [Nat.pow_one] at this
    omega
  unfold wpY_isPrime
  dsimp only
  refine pk_le (q + 1) (ce_e f) (fun z => ?_) (fun z => ?_) rfl rfl (by omega) (by omega)
  · have f2 := key.mp z
    have f0 : f ≠ 0 := sz_ne K (by omega)
    refine yw_split K f0 s9 (fun F n c t gR bF bO hM hF N n8 => ?_)
    obtain ⟨mF, sF, iF⟩ := mo_mn K f0 hM
    have key2 := (fl_ir K (by omega) mF hF).trans iF
    refine pk_eq n 1 (fun e => ?_) (fun e => ?_) rfl rfl (by omega) (by omega)
    · subst e
      dsimp only
      rw [(N 0 (by omega)).2]
      have t9 := (fl_c K hF (by omega) (i := 0) (by omega)).2.2
      refine pk_eq (t 0) 1 (fun e => ?_) (fun e => ?_) rfl rfl (by omega) (by omega)
      · exact h 1 gR _ bF bO (by omega) ⟨fun _ => key2.mp ⟨rfl, e⟩, fun _ => rfl⟩
      · exact h 0 gR _ bF bO (by omega) ⟨fun y => by omega, fun y => absurd (key2.mpr y).2 e⟩
    · exact h 0 gR _ bF bO (by omega) ⟨fun y => by omega, fun y => absurd (key2.mpr y).1 e⟩
  · exact h 0 gR gF bF bO (by omega) ⟨fun y => by omega, fun y => by have := y.1; omega⟩
theorem yw_ready (K : PK q iR) {f : Pz q} (s9 : pz_s f ≤ 9) (f0 : f ≠ 0) {l : Nat} (hl : l < 3) (hb : bR l = nI (ce_e f)) {post : Int32 → SY → Prop} (h : ∀ (F : Pz q) (n : Nat) (c t : Nat → Nat) (gR : Int32) (bF bO : Nat → Int32), mo_M f F → fl_F F n c t → NA n c t bF bO → n ≤ 8 → post 0 ((nI (q + 1)), gE, gR, (nI n), bR, bF, bO)) : wpY_ready post ((nI (q + 1)), gE, gR, gF, bR, bF, bO) (nI l) := by
  have c31 := ce_31 K s9
  unfold wpY_ready
  dsimp only
  refine yb_yes hl (br_t rfl ⟨vp_in_nI hl (by omega), ?_⟩)
  rw [nI_clamp (by omega), hb]
  refine br_f (nI_ne0 (Nat.pos_of_ne_zero (fun z => f0 (sz_z K ((ce_0 K).mp z)))) (by omega)) ⟨vp_in_nI hl (by omega), ?_⟩
  exact yw_split K f0 s9 h
theorem yw_ready0 (K : PK q iR) {l : Nat} (hl : l < 3) (hb : bR l = nI (ce_e (0 : Pz q))) {post : Int32 → SY → Prop} (h : post (-2) ((nI (q + 1)), gE, gR, gF, bR, bF, bO)) : wpY_ready post ((nI (q + 1)), gE, gR, gF, bR, bF, bO) (nI l) := by
  unfold wpY_ready
  dsimp only
  refine yb_yes hl (br_t rfl ⟨vp_in_nI hl (by omega), ?_⟩)
  rw [nI_clamp (by omega), hb, ce_z K]
  exact br_t rfl h
theorem yw_readyN {gP : Int32} {x : Int32} (hx : x < 0 ∨ 2 < x) {post : Int32 → SY → Prop} (h : post (-1) (gP, gE, gR, gF, bR, bF, bO)) : wpY_ready post (gP, gE, gR, gF, bR, bF, bO) x := by
  unfold wpY_ready
  dsimp only
  exact yb_no hx (br_f (by decide) h)
end
theorem i_vc_multiply {k : Nat} {u : SX} {v : SY} (I : i_Rel k u v) (hk : k + 4 ≤ 2049) (v1 : Int32) (v2 : Int32) : wpX_multiply (fun r u' => wpY_multiply (fun r' v' => r' = r ∧ i_Rel (k + 4) u' v') v v1 v2) u v1 v2 := by
  refine rl_el (P := fun u v => wpX_multiply (fun r u' => wpY_multiply (fun r' v' => r' = r ∧ i_Rel (k + 4) u' v') v v1 v2) u v1 v2) ?_ I
  intro q iR m fF fB fC aC aI aM aR aB aP aD aF aT aQ gR gF bR bF bO K IV V hR
  unfold wpX_multiply
  dsimp only
  rcases rg_c v1 with ⟨a, ha, rfl⟩ | hx
  · refine xr_yes ha (br_f (by decide) ?_)
    rcases rg_c v2 with ⟨b, hb, rfl⟩ | hx2
    · refine xr_yes hb (br_f (by decide) ?_)
      have sa := vc_s V (l := a) (by omega)
      have sb := vc_s V (l := b) (by omega)
      refine xw_multiplyLong K V (a := a) (b := b) (by omega) (by omega) (fun aQ P => ⟨9, ?_⟩)
      have fin : ∀ aC, VC (st_l m a (m a * m b)) aC → i_Rel (k + 4) ((nI (q + 1)), (nI ((q + 1) ^ 9)), fF, fB, fC, aC, aI, aM, aR, aB, aP, aD, aF, aT, aQ) ((nI (q + 1)), (nI ((q + 1) ^ 9)), gR, gF, (upd bR a (nI (ce_e (m a * m b)))), bF, bO) := fun aC V1 => by
        have h1 := rl_set hR (m' := st_l m a (m a * m b)) (l := a) (fun j hj e => st_n e)
        rw [st_s] at h1
        exact rl_mk K IV V1 h1
      refine xl_m25 K V P (by omega) (fun s9 aC V1 => ?_) (fun s9 => ?_) 8 9 rfl (by omega) (fun j a b => by omega)
      · unfold wpY_multiply
        dsimp only
        refine yb_yes ha (br_t rfl (yb_yes hb (br_t rfl ⟨vp_in_nI ha (by omega), ?_⟩)))
        rw [nI_clamp (n := a) (by omega), nI_clamp (n := b) (by omega), hR a ha, hR b hb]
        refine yw_degreeOf K sa ⟨vp_in_nI hb (by omega), yw_degreeOf K sb ?_⟩
        have zero : m a * m b = 0 → wY_multiply_76 (fun r' v' => r' = nI (ce_e (m a * m b)) ∧ i_Rel (k + 4) ((nI (q + 1)), (nI ((q + 1) ^ 9)), fF, fB, fC, aC, aI, aM, aR, aB, aP, aD, aF, aT, aQ) v') (nI a) (nI a) (nI (q + 1)) (nI ((q + 1) ^ 9)) gR gF bR bF bO := fun z => by
          refine ⟨vp_in_nI ha (by omega), nm_r (e' := upd bR a (nI (ce_e (m a * m b)))) (by rw [nI_clamp (by omega), z, ce_z K]; rfl) ⟨vp_in_nI ha (by omega), ?_, fin aC V1⟩⟩
          rw [nI_clamp (by omega), pk_us]
        by_cases a0 : m a = 0
        · have z : m a * m b = 0 := by rw [a0]; grind
          rw [show dn (pz_s (m a)) = dn 0 by rw [a0, sz_0 K]]
          exact br_t (by decide) (br_t (by decide) (zero z))
        · obtain ⟨s, hs⟩ := sz_nz K a0
          rw [hs, dn_s]
          refine br_f (nI_pos (by omega)) ?_
          by_cases b0 : m b = 0
          · have z : m a * m b = 0 := by rw [b0]; grind
            rw [show dn (pz_s (m b)) = dn 0 by rw [b0, sz_0 K]]
            exact br_t (by decide) (br_f (nI_pos (by omega)) (br_f (by decide) (zero z)))
          · obtain ⟨s', hs'⟩ := sz_nz K b0
            have sm := sz_mul K hs hs'
            rw [hs', dn_s]
            refine br_f (nI_pos (by omega)) ?_
            rw [nI_add]
            refine br_t (nI_le (b := 8) (by omega) (by omega)) (br_f (nI_pos (by omega)) (br_t (nI_pos' (by omega)) ⟨vp_in_nI ha (by omega), vp_in_nI hb (by omega), ?_⟩))
            rw [nI_clamp (n := a) (by omega), nI_clamp (n := b) (by omega), hR a ha, hR b hb]
            refine yw_product K a0 b0 (by omega) ⟨vp_in_nI ha (by omega), nm_e ⟨vp_in_nI ha (by omega), ?_, fin aC V1⟩⟩
            rw [pk_us]
      · unfold wpY_multiply
        dsimp only
        refine yb_yes ha (br_t rfl (yb_yes hb (br_t rfl ⟨vp_in_nI ha (by omega), ?_⟩)))
        rw [nI_clamp (n := a) (by omega), nI_clamp (n := b) (by omega), hR a ha, hR b hb]
        refine yw_degreeOf K sa ⟨vp_in_nI hb (by omega), yw_degreeOf K sb ?_⟩
        have nz := nz_of_mul K (f := m a) (g := m b) (fun z => s9 (by rw [z, sz_0 K]; omega))
        obtain ⟨s, hs⟩ := sz_nz K nz.1
        obtain ⟨s', hs'⟩ := sz_nz K nz.2
        have sm := sz_mul K hs hs'
        rw [hs, dn_s, hs', dn_s]
        refine br_f (nI_pos (by omega)) (br_f (nI_pos (by omega)) ?_)
        rw [nI_add]
        exact br_f (nI_ge (a := 8) (by omega) (by omega)) ⟨rfl, rl_mk K IV V hR⟩
    · refine xr_no hx2 (br_t rfl ?_)
      unfold wpY_multiply
      dsimp only
      exact yb_yes ha (br_t rfl (yb_no hx2 (br_f (by decide) ⟨rfl, rl_mk K IV V hR⟩)))
  · refine xr_no hx (br_t rfl ?_)
    unfold wpY_multiply
    dsimp only
    exact yb_no hx (br_f (by decide) ⟨rfl, rl_mk K IV V hR⟩)
theorem i_vc_irreducible {k : Nat} {u : SX} {v : SY} (I : i_Rel k u v) (hk : k + 4 ≤ 2049) (v1 : Int32) : wpX_irreducible (fun r u' => wpY_irreducible (fun r' v' => r' = r ∧ i_Rel (k + 4) u' v') v v1) u v1 := by
  refine rl_el (P := fun u v => wpX_irreducible (fun r u' => wpY_irreducible (fun r' v' => r' = r ∧ i_Rel (k + 4) u' v') v v1) u v1) ?_ I
  intro q iR m fF fB fC aC aI aM aR aB aP aD aF aT aQ gR gF bR bF bO K IV V hR
  unfold wpX_irreducible
  dsimp only
  rcases rg_c v1 with ⟨a, ha, rfl⟩ | hx
  · have sa := vc_s V (l := a) (by omega)
    refine xr_yes ha (br_f (by decide) (xw_degreeOf K V (l := a) (by omega) ?_))
    have yy : ∀ (r : Nat) (u : SX), r ≤ 1 → (r = 1 ↔ ir_r (m a)) → (∀ (gR gF : Int32) (bF bO : Nat → Int32), i_Rel (k + 4) u ((nI (q + 1)), (nI ((q + 1) ^ 9)), gR, gF, bR, bF, bO)) → wpY_irreducible (fun r' v' => r' = nI r ∧ i_Rel (k + 4) u v') ((nI (q + 1)), (nI ((q + 1) ^ 9)), gR, gF, bR, bF, bO) (nI a) := fun r u r1 hr hu => by
      unfold wpY_irreducible
      dsimp only
      refine yb_yes ha (br_t rfl ⟨vp_in_nI ha (by omega), ?_⟩)
      rw [nI_clamp (by omega), hR a ha]
      refine yw_isPrime K sa (fun r' gR gF bF bO r1' hr' => ?_)
      dsimp only
      have e : r' = r := by
        have h3 := hr'.trans hr.symm
        omega
      refine pk_eq r' 0 (fun z => ⟨?_, hu gR gF bF bO⟩) (fun z => ⟨?_, hu gR gF bF bO⟩) rfl rfl (by omega) (by omega)
      · rw [← e, z]; rfl
      · rw [← e, show r' = 1 by omega]; rfl
    refine br_c (fun z => ?_) (fun z => ?_)
    · have s1 := (dn_le0 (by omega)).mp z
      exact yy 0 _ (by omega) ⟨fun y => by omega, fun y => by have := y.1; omega⟩ (fun gR gF bF bO => rl_mk K IV V hR)
    · have s2 : 2 ≤ pz_s (m a) := Nat.lt_of_not_le (fun y => z ((dn_le0 (by omega)).mpr y))
      refine xw_isIrreducible K IV V (a := a) (by omega) s2 (fun r m1 fB aC aM aR aB r1 hr fr V1 => ?_)
      dsimp only
      have hu : ∀ (gR gF : Int32) (bF bO : Nat → Int32), i_Rel (k + 4) ((nI (q + 1)), (nI ((q + 1) ^ 9)), fF, fB, fC, aC, aI, aM, aR, aB, aP, aD, aF, aT, aQ) ((nI (q + 1)), (nI ((q + 1) ^ 9)), gR, gF, bR, bF, bO) := fun gR gF bF bO => rl_mk K IV V1 (rl_same hR fr)
      refine pk_eq r 0 (fun z => ?_) (fun z => ?_) rfl rfl (by omega) (by omega)
      · have := yy r _ r1 hr hu
        rw [z] at this
        exact this
      · have := yy r _ r1 hr hu
        rw [show r = 1 by omega] at this
        exact this
  · refine xr_no hx (br_t rfl ?_)
    unfold wpY_irreducible
    dsimp only
    exact yb_no hx (br_f (by decide) ⟨rfl, rl_mk K IV V hR⟩)
end
section
/-! factors, factor, multiplicity, greatest, squareFree, radical -/
section
variable {q : Nat} {iR : Lean.Grind.CommRing (Pz q)}
variable {fL fF fB fC : Int32} {aC aI aM aR aB aP aD aF aT aQ : Nat → Int32} {gE gR gF : Int32} {bR bF bO : Nat → Int32} {m : Nat → Pz q}
theorem yl_greatest (K : PK q iR) {F : Pz q} {n : Nat} {c t : Nat → Nat} (hF : fl_F F n c t) (sF : pz_s F ≤ 9) (n8 : n ≤ 8) (N : NA n c t bF bO) {post : Int32 → SY → Prop} (h0 : n = 0 → post 0 ((nI (q + 1)), gE, gR, (nI n), bR, bF, bO)) (h1 : ∀ j, n = j + 1 → post (dn (pz_s (ce_d (c j) : Pz q))) ((nI (q + 1)), gE, gR, (nI n), bR, bF, bO)) : ∀ (d i : Nat) (x : Int32), i + d = n → (i = 0 → x = 0) → (∀ j, i = j + 1 → x = dn (pz_s (ce_d (c j) : Pz q))) → wY_greatest_17 post (nI (q + 1)) gE gR (nI n) bR bF bO (d + 1) x (nI i) := by
  intro d
  induction d with
  | zero =>
    intro i x hi e0 e1
    have e : i = n := by omega
    subst e
    refine br_t (nI_le (by omega) (by omega)) ?_
    cases i with
    | zero => rw [e0 rfl]; exact h0 rfl
    | succ j => rw [e1 j rfl]; exact h1 j rfl
  | succ d ih =>
    intro i x hi e0 e1
    obtain ⟨c31, s9, _⟩ := fl_c K hF sF (i := i) (by omega)
    refine br_f (nI_ge (by omega) (by omega)) ⟨vp_in_nI (by omega) (by omega), ?_⟩
    rw [nI_clamp (by omega), (N i (by omega)).1, show nI (c i) = nI (ce_e (ce_d (c i) : Pz q)) by rw [ce_ed K]]
    refine yw_degreeOf K s9 ?_
    have s2 := (hF.2.1 i (by omega)).1.1
    refine br_c (fun z => ?_) (fun z => nm_r (nI_1 i) (ih (i + 1) _ (by omega) (fun y => by omega) (fun j y => ?_)))
    · refine nm_r (nI_1 i) (ih (i + 1) x (by omega) (fun y => by omega) (fun j y => ?_))
      have ej : j = i := by omega
      rw [ej]
      cases i with
      | zero =>
        rw [e0 rfl, dn_le0 (by omega)] at z
        omega
      | succ i =>
        have s9' := (fl_c K hF sF (i := i) (by omega)).2.1
        rw [e1 i rfl, dn_le (by omega) (by omega)] at z
        rw [e1 i rfl]
        have : ¬ pz_s (ce_d (c (i + 1)) : Pz q) < pz_s (ce_d (c i) : Pz q) := fun y => by
          have := ce_ord K y
          rw [ce_ed K, ce_ed K] at this
          have := hF.1 i (i + 1) (by omega) (by omega)
          omega
        exact congrArg dn (by omega)
    · have ej : j = i := by omega
      rw [ej]
theorem xl_sqf {n : Nat} {fP : Int32} {c t : Nat → Nat} (n8 : n ≤ 8) (N : NA n c t aF aT) (ht : ∀ i, i < n → t i < 9) {post : Int32 → SX → Prop} (h1 : (∀ i, i < n → t i ≤ 1) → post 1 (fP, fL, (nI n), fB, fC, aC, aI, aM, aR, aB, aP, aD, aF, aT, aQ)) (h0 : (∃ i, i < n ∧ 1 < t i) → post 0 (fP, fL, (nI n), fB, fC, aC, aI, aM, aR, aB, aP, aD, aF, aT, aQ)) : ∀ d i, i + d = n → (∀ j, j < i → t j ≤ 1) → wX_squareFree_14 post fP fL (nI n) fB fC aC aI aM aR aB aP aD aF aT aQ (d + 1) (nI i) := by
  intro d
  induction d with
  | zero =>
    intro i hi h
    exact br_t (nI_le (by omega) (by omega)) (h1 (fun j hj => h j (by omega)))
  | succ d ih =>
    intro i hi h
    have := ht i (by omega)
    refine br_f (nI_ge (by omega) (by omega)) ⟨vp_in_nI (by omega) (by omega), ?_⟩
    rw [nI_clamp (by omega), (N i (by omega)).2]
    refine pk_le (t i) 1 (fun z => nm_r (nI_1 i) (ih (i + 1) (by omega) (fun j hj => ?_))) (fun z => h0 ⟨i, by omega, z⟩) rfl rfl (by omega) (by omega)
    by_cases e : j = i
    · rw [e]; exact z
    · exact h j (by omega)
theorem yl_sqf {n : Nat} {gP : Int32} {c t : Nat → Nat} (n8 : n ≤ 8) (N : NA n c t bF bO) (ht : ∀ i, i < n → t i < 9) {post : Int32 → SY → Prop} (h1 : (∀ i, i < n → t i ≤ 1) → post 1 (gP, gE, gR, (nI n), bR, bF, bO)) (h0 : (∃ i, i < n ∧ 1 < t i) → post 0 (gP, gE, gR, (nI n), bR, bF, bO)) : ∀ d i, i + d = n → (∀ j, j < i → t j ≤ 1) → wY_squareFree_14 post gP gE gR (nI n) bR bF bO (d + 1) (nI i) := by
  intro d
  induction d with
  | zero =>
    intro i hi h
    exact br_t (nI_le (by omega) (by omega)) (h1 (fun j hj => h j (by omega)))
  | succ d ih =>
    intro i hi h
    have := ht i (by omega)
    refine br_f (nI_ge (by omega) (by omega)) ⟨vp_in_nI (by omega) (by omega), ?_⟩
    rw [nI_clamp (by omega), (N i (by omega)).2]
    refine pk_le (t i) 1 (fun z => nm_r (nI_1 i) (ih (i + 1) (by omega) (fun j hj => ?_))) (fun z => h0 ⟨i, by omega, z⟩) rfl rfl (by omega) (by omega)
    by_cases e : j = i
    · rw [e]; exact z
    · exact h j (by omega)
theorem xl_r48 {f : Pz q} (P : PQ f aQ) (s9 : pz_s f ≤ 9) {a : Nat} (ha : a < 16) (sa : pz_s (m a) ≤ 9) {i0 : Nat} {post : Int32 → SX → Prop} {J : Int32 → Int32 → Int32 → Int32 → Int32 → Int32 → (Nat → Int32) → (Nat → Int32) → (Nat → Int32) → (Nat → Int32) → (Nat → Int32) → (Nat → Int32) → (Nat → Int32) → (Nat → Int32) → (Nat → Int32) → (Nat → Int32) → Prop} (h : ∀ aC, VC (st_l m a f) aC → J (nI (i0 + 1)) (nI (q + 1)) fL fF fB fC aC aI aM aR aB aP aD aF aT aQ) : ∀ (d i : Nat) (aC : Nat → Int32), i + d = 9 → VC (st_l m a (pz_x i f (m a))) aC → wX_radical_48 post J (nI a) (nI i0) (nI (q + 1)) fL fF fB fC (d + 1) (nI i) aC aI aM aR aB aP aD aF aT aQ := by
  intro d
  induction d with
  | zero =>
    intro i aC hi V
    have e : i = 9 := by omega
    subst e
    exact br_t (nI_le (a := 9) (b := 9) (by omega) (by omega)) (nm_r (nI_1 i0) (h aC (vc_9 V s9 sa)))
  | succ d ih =>
    intro i aC hi V
    refine br_f (nI_ge (a := i) (b := 9) (by omega) (by omega)) ⟨vp_in_nI (by omega) (by omega), pk_in (9 * a + i) 144 (by omega) (ix_9 a i), nm_r (e' := upd aC (9 * a + i) (nI (pz_c f i).val)) ?_ (nm_r (nI_1 i) (ih (i + 1) _ (by omega) (vc_up V ha (by omega))))⟩
    rw [cl_9 (by omega), nI_clamp (by omega), P.2 i (by omega)]
theorem fl_ps (K : PK q iR) {F : Pz q} {n : Nat} {c t : Nat → Nat} (hF : fl_F F n c t) (F0 : F ≠ 0) (sF : pz_s F ≤ 9) {i : Nat} (hi : i ≤ n) : pz_s (zp_m i (fun j => (ce_d (c j) : Pz q))) ≤ 9 := by
  have := (dv_sz K (fl_prod K hF i hi) F0).2
  omega
theorem xl_r20 (K : PK q iR) {F : Pz q} {n : Nat} {c t : Nat → Nat} (hF : fl_F F n c t) (F0 : F ≠ 0) (sF : pz_s F ≤ 9) (n8 : n ≤ 8) (N : NA n c t aF aT) {a : Nat} (ha : a < 3) {m0 : Nat → Pz q} {post : Int32 → SX → Prop} (h : ∀ (m : Nat → Pz q) (aC aQ : Nat → Int32), m a = zp_m n (fun j => (ce_d (c j) : Pz q)) → (∀ l, l < 3 → l ≠ a → m l = m0 l) → VC m aC → post (nI (ce_e (m a))) ((nI (q + 1)), fL, (nI n), fB, fC, aC, aI, aM, aR, aB, aP, aD, aF, aT, aQ)) : ∀ (d i : Nat) (m : Nat → Pz q) (aC aQ : Nat → Int32), i + d = n → m a = zp_m i (fun j => (ce_d (c j) : Pz q)) → (∀ l, l < 3 → l ≠ a → m l = m0 l) → VC m aC → wX_radical_20 post (nI a) (d + 1) (nI i) (nI (q + 1)) fL (nI n) fB fC aC aI aM aR aB aP aD aF aT aQ := by
  intro d
  induction d with
  | zero =>
    intro i m aC aQ hi e fr V
    have ei : i = n := by omega
    subst ei
    exact br_t (nI_le (by omega) (by omega)) (xw_codeOf K V (by omega) (h m aC aQ e fr V))
  | succ d ih =>
    intro i m aC aQ hi e fr V
    obtain ⟨_, s9, _⟩ := fl_c K hF sF (i := i) (by omega)
    refine br_f (nI_ge (by omega) (by omega)) ⟨vp_in_nI (by omega) (by omega), ?_⟩
    rw [nI_clamp (by omega), (N i (by omega)).1]
    refine xw_decode K V (l := 3) (by omega) ((ce_dsz K).mpr s9) (fun aC V1 => ?_)
    dsimp only
    refine xw_multiplyLong K V1 (a := a) (b := 3) (by omega) (by omega) (fun aQ P => ⟨10, ?_⟩)
    have ep : (st_l m 3 (ce_d (c i)) a * st_l m 3 (ce_d (c i)) 3 : Pz q) = zp_m (i + 1) (fun j => (ce_d (c j) : Pz q)) := by
      rw [st_s, st_n (by omega), e]; rfl
    rw [ep] at P
    refine xl_r48 P (fl_ps K hF F0 sF (by omega)) (a := a) (by omega) (vc_s V1 (by omega)) (fun aC V2 => ?_) 9 0 aC rfl (vc_0 V1 a _)
    refine ih (i + 1) _ aC aQ (by omega) st_s (fun l hl hla => ?_) V2
    rw [st_n hla, st_n (by omega)]; exact fr l hl hla
theorem yl_r17 (K : PK q iR) {F : Pz q} {n : Nat} {c t : Nat → Nat} (hF : fl_F F n c t) (F0 : F ≠ 0) (sF : pz_s F ≤ 9) (n8 : n ≤ 8) (N : NA n c t bF bO) {a : Nat} (ha : a < 3) {post : Int32 → SY → Prop} (h : post (nI (ce_e (zp_m n (fun j => (ce_d (c j) : Pz q))))) ((nI (q + 1)), gE, gR, (nI n), (upd bR a (nI (ce_e (zp_m n (fun j => (ce_d (c j) : Pz q)))))), bF, bO)) : ∀ d i, i + d = n → wY_radical_17 post (nI a) (nI (q + 1)) gE gR (nI n) bR bF bO (d + 1) (nI (ce_e (zp_m i (fun j => (ce_d (c j) : Pz q))))) (nI i) := by
  intro d
  induction d with
  | zero =>
    intro i hi
    have ei : i = n := by omega
    subst ei
    exact br_t (nI_le (by omega) (by omega)) ⟨vp_in_nI ha (by omega), nm_r (e' := upd bR a (nI (ce_e (zp_m i (fun j => (ce_d (c j) : Pz q)))))) (by rw [nI_clamp (by omega)]) h⟩
  | succ d ih =>
    intro i hi
    refine br_f (nI_ge (by omega) (by omega)) ⟨vp_in_nI (by omega) (by omega), ?_⟩
    rw [nI_clamp (by omega), (N i (by omega)).1, show nI (c i) = nI (ce_e (ce_d (c i) : Pz q)) by rw [ce_ed K]]
    have mi : ∀ j, j < n → mn_m (ce_d (c j) : Pz q) := fun j hj => (hF.2.1 j hj).2.1
    have z0 := mn_nz K (zp_mn K (n := i) (g := fun j => (ce_d (c j) : Pz q)) (fun j hj => mi j (by omega)))
    have c0 := mn_nz K (mi i (by omega))
    have hs := sz_mulN K z0 c0
    have s9 := fl_ps K hF F0 sF (i := i + 1) (by omega)
    rw [zp_m] at s9
    exact yw_product K z0 c0 (by omega) (nm_r (nI_1 i) (ih (i + 1) (by omega)))
end
theorem i_vc_factors {k : Nat} {u : SX} {v : SY} (I : i_Rel k u v) (hk : k + 4 ≤ 2049) (v1 : Int32) : wpX_factors (fun r u' => wpY_factors (fun r' v' => r' = r ∧ i_Rel (k + 4) u' v') v v1) u v1 := by
  refine rl_el (P := fun u v => wpX_factors (fun r u' => wpY_factors (fun r' v' => r' = r ∧ i_Rel (k + 4) u' v') v v1) u v1) ?_ I
  intro q iR m fF fB fC aC aI aM aR aB aP aD aF aT aQ gR gF bR bF bO K IV V hR
  unfold wpX_factors
  dsimp only
  rcases rg_c v1 with ⟨a, ha, rfl⟩ | hx
  · have sa := vc_s V (l := a) (by omega)
    by_cases a0 : m a = 0
    · refine xw_split0 K V ha a0 ?_
      refine br_f (by decide) ?_
      unfold wpY_factors
      dsimp only
      exact yw_ready0 K ha (by rw [hR a ha, a0]) (br_f (by decide) ⟨rfl, rl_mk K IV V hR⟩)
    · refine xw_split K IV V ha a0 (fun F n c t m1 fB fC aC aM aR aB aP aF aT hM hF N n8 hc fr V1 => ?_)
      refine br_t (by decide) ?_
      unfold wpY_factors
      dsimp only
      refine yw_ready K sa a0 ha (hR a ha) (fun F' n' c' t' gR bF bO hM' hF' N' n8' => ?_)
      have eF := mo_un K a0 hM hM'
      subst eF
      obtain ⟨en, ec⟩ := fl_un K hF hF'
      subst en
      exact br_t (by decide) ⟨rfl, rl_mk K IV V1 (rl_same hR fr)⟩
  · refine xw_splitN hx ?_
    refine br_f (by decide) ?_
    unfold wpY_factors
    dsimp only
    exact yw_readyN hx (br_f (by decide) ⟨rfl, rl_mk K IV V hR⟩)
theorem i_vc_factor {k : Nat} {u : SX} {v : SY} (I : i_Rel k u v) (hk : k + 4 ≤ 2049) (v1 : Int32) (v2 : Int32) : wpX_factor (fun r u' => wpY_factor (fun r' v' => r' = r ∧ i_Rel (k + 4) u' v') v v1 v2) u v1 v2 := by
  refine rl_el (P := fun u v => wpX_factor (fun r u' => wpY_factor (fun r' v' => r' = r ∧ i_Rel (k + 4) u' v') v v1 v2) u v1 v2) ?_ I
  intro q iR m fF fB fC aC aI aM aR aB aP aD aF aT aQ gR gF bR bF bO K IV V hR
  unfold wpX_factor
  dsimp only
  rcases rg_c v1 with ⟨a, ha, rfl⟩ | hx
  · have sa := vc_s V (l := a) (by omega)
    by_cases a0 : m a = 0
    · refine xw_split0 K V ha a0 ?_
      refine br_f (by decide) ?_
      unfold wpY_factor
      dsimp only
      exact yw_ready0 K ha (by rw [hR a ha, a0]) (br_f (by decide) ⟨rfl, rl_mk K IV V hR⟩)
    · refine xw_split K IV V ha a0 (fun F n c t m1 fB fC aC aM aR aB aP aF aT hM hF N n8 hc fr V1 => ?_)
      refine br_t (by decide) ?_
      dsimp only
      have yy : ∀ r : Int32, (∀ (c' t' : Nat → Nat) (gR : Int32) (bF bO : Nat → Int32), (∀ i, i < n → c i = c' i ∧ t i = t' i) → NA n c' t' bF bO → ((v2 < 0 → (-3 : Int32) = r) ∧ (¬ v2 < 0 → ((v2 < nI n → (vp_in v2 8 ∧ bF v2.toNatClampNeg = r)) ∧ (¬ v2 < nI n → (-3 : Int32) = r))))) → wpY_factor (fun r' v' => r' = r ∧ i_Rel (k + 4) ((nI (q + 1)), (nI ((q + 1) ^ 9)), (nI n), fB, fC, aC, aI, aM, aR, aB, aP, aD, aF, aT, aQ) v') ((nI (q + 1)), (nI ((q + 1) ^ 9)), gR, gF, bR, bF, bO) (nI a) v2 := fun r hr => by
        unfold wpY_factor
        dsimp only
        refine yw_ready K sa a0 ha (hR a ha) (fun F' n' c' t' gR bF bO hM' hF' N' n8' => ?_)
        have eF := mo_un K a0 hM hM'
        subst eF
        obtain ⟨en, ec⟩ := fl_un K hF hF'
        subst en
        have h1 := hr c' t' gR bF bO ec N'
        have rel : i_Rel (k + 4) ((nI (q + 1)), (nI ((q + 1) ^ 9)), (nI n), fB, fC, aC, aI, aM, aR, aB, aP, aD, aF, aT, aQ) ((nI (q + 1)), (nI ((q + 1) ^ 9)), gR, (nI n), bR, bF, bO) := rl_mk K IV V1 (rl_same hR fr)
        refine br_t (by decide) ⟨fun z => ⟨h1.1 z, rel⟩, fun z => ⟨fun y => ⟨((h1.2 z).1 y).1, ((h1.2 z).1 y).2, rel⟩, fun y => ⟨(h1.2 z).2 y, rel⟩⟩⟩
      refine br_c (fun z => yy _ (fun c' t' gR bF bO _ _ => br_t z rfl)) (fun z => ?_)
      obtain ⟨j, hj, rfl⟩ := nI_of z
      refine pk_le n j (fun y => yy _ (fun c' t' gR bF bO _ _ => br_f z (br_f (nI_nlt y (by omega)) rfl))) (fun y => ⟨vp_in_nI (by omega) (by omega), ?_⟩) rfl rfl (by omega) hj
      refine yy _ (fun c' t' gR bF bO ec N' => br_f z (br_t (nI_lt y (by omega)) ⟨vp_in_nI (by omega) (by omega), ?_⟩))
      rw [nI_clamp (by omega), (N j y).1, (N' j y).1, (ec j y).1]
  · refine xw_splitN hx ?_
    refine br_f (by decide) ?_
    unfold wpY_factor
    dsimp only
    exact yw_readyN hx (br_f (by decide) ⟨rfl, rl_mk K IV V hR⟩)
theorem i_vc_multiplicity {k : Nat} {u : SX} {v : SY} (I : i_Rel k u v) (hk : k + 4 ≤ 2049) (v1 : Int32) (v2 : Int32) : wpX_multiplicity (fun r u' => wpY_multiplicity (fun r' v' => r' = r ∧ i_Rel (k + 4) u' v') v v1 v2) u v1 v2 := by
  refine rl_el (P := fun u v => wpX_multiplicity (fun r u' => wpY_multiplicity (fun r' v' => r' = r ∧ i_Rel (k + 4) u' v') v v1 v2) u v1 v2) ?_ I
  intro q iR m fF fB fC aC aI aM aR aB aP aD aF aT aQ gR gF bR bF bO K IV V hR
  unfold wpX_multiplicity
  dsimp only
  rcases rg_c v1 with ⟨a, ha, rfl⟩ | hx
  · have sa := vc_s V (l := a) (by omega)
    by_cases a0 : m a = 0
    · refine xw_split0 K V ha a0 ?_
      refine br_f (by decide) ?_
      unfold wpY_multiplicity
      dsimp only
      exact yw_ready0 K ha (by rw [hR a ha, a0]) (br_f (by decide) ⟨rfl, rl_mk K IV V hR⟩)
    · refine xw_split K IV V ha a0 (fun F n c t m1 fB fC aC aM aR aB aP aF aT hM hF N n8 hc fr V1 => ?_)
      refine br_t (by decide) ?_
      dsimp only
      have yy : ∀ r : Int32, (∀ (c' t' : Nat → Nat) (gR : Int32) (bF bO : Nat → Int32), (∀ i, i < n → c i = c' i ∧ t i = t' i) → NA n c' t' bF bO → ((v2 < 0 → (-3 : Int32) = r) ∧ (¬ v2 < 0 → ((v2 < nI n → (vp_in v2 8 ∧ bO v2.toNatClampNeg = r)) ∧ (¬ v2 < nI n → (-3 : Int32) = r))))) → wpY_multiplicity (fun r' v' => r' = r ∧ i_Rel (k + 4) ((nI (q + 1)), (nI ((q + 1) ^ 9)), (nI n), fB, fC, aC, aI, aM, aR, aB, aP, aD, aF, aT, aQ) v') ((nI (q + 1)), (nI ((q + 1) ^ 9)), gR, gF, bR, bF, bO) (nI a) v2 := fun r hr => by
        unfold wpY_multiplicity
        dsimp only
        refine yw_ready K sa a0 ha (hR a ha) (fun F' n' c' t' gR bF bO hM' hF' N' n8' => ?_)
        have eF := mo_un K a0 hM hM'
        subst eF
        obtain ⟨en, ec⟩ := fl_un K hF hF'
        subst en
        have h1 := hr c' t' gR bF bO ec N'
        have rel : i_Rel (k + 4) ((nI (q + 1)), (nI ((q + 1) ^ 9)), (nI n), fB, fC, aC, aI, aM, aR, aB, aP, aD, aF, aT, aQ) ((nI (q + 1)), (nI ((q + 1) ^ 9)), gR, (nI n), bR, bF, bO) := rl_mk K IV V1 (rl_same hR fr)
        refine br_t (by decide) ⟨fun z => ⟨h1.1 z, rel⟩, fun z => ⟨fun y => ⟨((h1.2 z).1 y).1, ((h1.2 z).1 y).2, rel⟩, fun y => ⟨(h1.2 z).2 y, rel⟩⟩⟩
      refine br_c (fun z => yy _ (fun c' t' gR bF bO _ _ => br_t z rfl)) (fun z => ?_)
      obtain ⟨j, hj, rfl⟩ := nI_of z
      refine pk_le n j (fun y => yy _ (fun c' t' gR bF bO _ _ => br_f z (br_f (nI_nlt y (by omega)) rfl))) (fun y => ⟨vp_in_nI (by omega) (by omega), ?_⟩) rfl rfl (by omega) hj
      refine yy _ (fun c' t' gR bF bO ec N' => br_f z (br_t (nI_lt y (by omega)) ⟨vp_in_nI (by omega) (by omega), ?_⟩))
      rw [nI_clamp (by omega), (N j y).2, (N' j y).2, (ec j y).2]
  · refine xw_splitN hx ?_
    refine br_f (by decide) ?_
    unfold wpY_multiplicity
    dsimp only
    exact yw_readyN hx (br_f (by decide) ⟨rfl, rl_mk K IV V hR⟩)
theorem i_vc_greatest {k : Nat} {u : SX} {v : SY} (I : i_Rel k u v) (hk : k + 4 ≤ 2049) (v1 : Int32) : wpX_greatest (fun r u' => wpY_greatest (fun r' v' => r' = r ∧ i_Rel (k + 4) u' v') v v1) u v1 := by
  refine rl_el (P := fun u v => wpX_greatest (fun r u' => wpY_greatest (fun r' v' => r' = r ∧ i_Rel (k + 4) u' v') v v1) u v1) ?_ I
  intro q iR m fF fB fC aC aI aM aR aB aP aD aF aT aQ gR gF bR bF bO K IV V hR
  unfold wpX_greatest
  dsimp only
  rcases rg_c v1 with ⟨a, ha, rfl⟩ | hx
  · have sa := vc_s V (l := a) (by omega)
    by_cases a0 : m a = 0
    · refine xw_split0 K V ha a0 ?_
      refine br_f (by decide) ?_
      unfold wpY_greatest
      dsimp only
      exact yw_ready0 K ha (by rw [hR a ha, a0]) (br_f (by decide) ⟨rfl, rl_mk K IV V hR⟩)
    · refine xw_split K IV V ha a0 (fun F n c t m1 fB fC aC aM aR aB aP aF aT hM hF N n8 hc fr V1 => ?_)
      have sF : pz_s F ≤ 9 := by have := (mo_mn K a0 hM).2.1; omega
      refine br_t (by decide) ?_
      dsimp only
      refine pk_eq n 0 (fun z => ?_) (fun z => ?_) rfl rfl (by omega) (by omega)
      · unfold wpY_greatest
        dsimp only
        refine yw_ready K sa a0 ha (hR a ha) (fun F' n' c' t' gR bF bO hM' hF' N' n8' => ?_)
        have eF := mo_un K a0 hM hM'
        subst eF
        obtain ⟨en, ec⟩ := fl_un K hF hF'
        subst en
        exact br_t (by decide) ⟨n + 1, yl_greatest K hF' sF n8 N' (fun _ => ⟨rfl, rl_mk K IV V1 (rl_same hR fr)⟩) (fun j e => by omega) n 0 0 (by omega) (fun _ => rfl) (fun j e => by omega)⟩
      · obtain ⟨j, rfl⟩ : ∃ j, n = j + 1 := ⟨n - 1, by omega⟩
        obtain ⟨c31, s9, _⟩ := fl_c K hF sF (i := j) (by omega)
        rw [nI_pred, nI_clamp (by omega), (N j (by omega)).1]
        refine ⟨vp_in_nI (by omega) (by omega), ?_⟩
        refine xw_decode K V1 (l := 3) (by omega) ((ce_dsz K).mpr s9) (fun aC V2 => ?_)
        dsimp only
        refine xw_degreeOf K V2 (l := 3) (by omega) ?_
        rw [st_s]
        unfold wpY_greatest
        dsimp only
        refine yw_ready K sa a0 ha (hR a ha) (fun F' n' c' t' gR bF bO hM' hF' N' n8' => ?_)
        have eF := mo_un K a0 hM hM'
        subst eF
        obtain ⟨en, ec⟩ := fl_un K hF hF'
        subst en
        refine br_t (by decide) ⟨j + 1 + 1, yl_greatest K hF' sF n8 N' (fun e => by omega) (fun j' e => ⟨?_, rl_mk K IV V2 (fun l hl => ?_)⟩) (j + 1) 0 0 (by omega) (fun _ => rfl) (fun j e => by omega)⟩
        · have ej : j' = j := by omega
          rw [ej, ← (ec j (by omega)).1]
        · rw [st_n (by omega)]; exact rl_same hR fr l hl
  · refine xw_splitN hx ?_
    refine br_f (by decide) ?_
    unfold wpY_greatest
    dsimp only
    exact yw_readyN hx (br_f (by decide) ⟨rfl, rl_mk K IV V hR⟩)
theorem i_vc_squareFree {k : Nat} {u : SX} {v : SY} (I : i_Rel k u v) (hk : k + 4 ≤ 2049) (v1 : Int32) : wpX_squareFree (fun r u' => wpY_squareFree (fun r' v' => r' = r ∧ i_Rel (k + 4) u' v') v v1) u v1 := by
  refine rl_el (P := fun u v => wpX_squareFree (fun r u' => wpY_squareFree (fun r' v' => r' = r ∧ i_Rel (k + 4) u' v') v v1) u v1) ?_ I
  intro q iR m fF fB fC aC aI aM aR aB aP aD aF aT aQ gR gF bR bF bO K IV V hR
  unfold wpX_squareFree
  dsimp only
  rcases rg_c v1 with ⟨a, ha, rfl⟩ | hx
  · have sa := vc_s V (l := a) (by omega)
    by_cases a0 : m a = 0
    · refine xw_split0 K V ha a0 ?_
      refine br_f (by decide) ?_
      unfold wpY_squareFree
      dsimp only
      exact yw_ready0 K ha (by rw [hR a ha, a0]) (br_f (by decide) ⟨rfl, rl_mk K IV V hR⟩)
    · refine xw_split K IV V ha a0 (fun F n c t m1 fB fC aC aM aR aB aP aF aT hM hF N n8 hc fr V1 => ?_)
      have sF : pz_s F ≤ 9 := by have := (mo_mn K a0 hM).2.1; omega
      refine br_t (by decide) ?_
      dsimp only
      refine ⟨n + 1, xl_sqf n8 N (fun i hi => (fl_c K hF sF hi).2.2) (fun h1 => ?_) (fun h1 => ?_) n 0 (by omega) (fun j hj => by omega)⟩
      · unfold wpY_squareFree
        dsimp only
        refine yw_ready K sa a0 ha (hR a ha) (fun F' n' c' t' gR bF bO hM' hF' N' n8' => ?_)
        have eF := mo_un K a0 hM hM'
        subst eF
        obtain ⟨en, ec⟩ := fl_un K hF hF'
        subst en
        refine br_t (by decide) ⟨n + 1, yl_sqf n8 N' (fun i hi => (fl_c K hF' sF hi).2.2) (fun _ => ⟨rfl, rl_mk K IV V1 (rl_same hR fr)⟩) (fun ⟨i, hi, y⟩ => ?_) n 0 (by omega) (fun j hj => by omega)⟩
        have := h1 i hi
        have := (ec i hi).2
        omega
      · unfold wpY_squareFree
        dsimp only
        refine yw_ready K sa a0 ha (hR a ha) (fun F' n' c' t' gR bF bO hM' hF' N' n8' => ?_)
        have eF := mo_un K a0 hM hM'
        subst eF
        obtain ⟨en, ec⟩ := fl_un K hF hF'
        subst en
        refine br_t (by decide) ⟨n + 1, yl_sqf n8 N' (fun i hi => (fl_c K hF' sF hi).2.2) (fun y => ?_) (fun _ => ⟨rfl, rl_mk K IV V1 (rl_same hR fr)⟩) n 0 (by omega) (fun j hj => by omega)⟩
        obtain ⟨i, hi, z⟩ := h1
        have := y i hi
        have := (ec i hi).2
        omega
  · refine xw_splitN hx ?_
    refine br_f (by decide) ?_
    unfold wpY_squareFree
    dsimp only
    exact yw_readyN hx (br_f (by decide) ⟨rfl, rl_mk K IV V hR⟩)
theorem i_vc_radical {k : Nat} {u : SX} {v : SY} (I : i_Rel k u v) (hk : k + 4 ≤ 2049) (v1 : Int32) : wpX_radical (fun r u' => wpY_radical (fun r' v' => r' = r ∧ i_Rel (k + 4) u' v') v v1) u v1 := by
  refine rl_el (P := fun u v => wpX_radical (fun r u' => wpY_radical (fun r' v' => r' = r ∧ i_Rel (k + 4) u' v') v v1) u v1) ?_ I
  intro q iR m fF fB fC aC aI aM aR aB aP aD aF aT aQ gR gF bR bF bO K IV V hR
  unfold wpX_radical
  dsimp only
  rcases rg_c v1 with ⟨a, ha, rfl⟩ | hx
  · have sa := vc_s V (l := a) (by omega)
    by_cases a0 : m a = 0
    · refine xw_split0 K V ha a0 ?_
      refine br_f (by decide) ?_
      unfold wpY_radical
      dsimp only
      exact yw_ready0 K ha (by rw [hR a ha, a0]) (br_f (by decide) ⟨rfl, rl_mk K IV V hR⟩)
    · refine xw_split K IV V ha a0 (fun F n c t m1 fB fC aC aM aR aB aP aF aT hM hF N n8 hc fr V1 => ?_)
      obtain ⟨mF, sF1, _⟩ := mo_mn K a0 hM
      have sF : pz_s F ≤ 9 := by omega
      have F0 := mn_nz K mF
      have e1 : ce_e (1 : Pz q) = 1 := by
        have := (ce_mn K (f := (1 : Pz q)) (n := 0)).mp ⟨sz_1 K, mn_1 K⟩
        rw [Nat.pow_zero] at this
        omega
      have d1 : (ce_d 1 : Pz q) = 1 := by rw [← e1, ce_de K]
      refine br_t (by decide) ?_
      dsimp only
      refine xw_decode K V1 (l := a) (c := 1) (by omega) (Nat.one_lt_pow (by omega) (k_2 K)) (fun aC V2 => ?_)
      rw [d1] at V2
      dsimp only
      refine ⟨n + 1, xl_r20 K hF F0 sF n8 N ha (m0 := m) (fun m2 aC aQ e fr2 V3 => ?_) n 0 _ aC _ (by omega) st_s (fun l hl hla => by rw [st_n hla]; exact fr l (by omega)) V2⟩
      unfold wpY_radical
      dsimp only
      refine yw_ready K sa a0 ha (hR a ha) (fun F' n' c' t' gR bF bO hM' hF' N' n8' => ?_)
      have eF := mo_un K a0 hM hM'
      subst eF
      obtain ⟨en, ec⟩ := fl_un K hF hF'
      subst en
      have ep : zp_m n (fun j => (ce_d (c' j) : Pz q)) = m2 a := by
        rw [e]
        exact zp_congr (fun j hj => by rw [(ec j hj).1])
      refine br_t (by decide) ⟨n + 1, ?_⟩
      dsimp only
      have go := yl_r17 (gE := nI ((q + 1) ^ 9)) (gR := gR) (bR := bR) K hF' F0 sF n8 N' ha (post := fun r' v' => r' = nI (ce_e (m2 a)) ∧ i_Rel (k + 4) ((nI (q + 1)), (nI ((q + 1) ^ 9)), (nI n), fB, fC, aC, aI, aM, aR, aB, aP, aD, aF, aT, aQ) v') (by
        rw [ep]
        exact ⟨rfl, rl_mk K IV V3 (rl_set hR (m' := m2) (l := a) (fun j hj e => fr2 j hj e))⟩) n 0 (by omega)
      rw [show zp_m 0 (fun j => (ce_d (c' j) : Pz q)) = 1 from rfl, e1] at go
      exact go
  · refine xw_splitN hx ?_
    refine br_f (by decide) ?_
    unfold wpY_radical
    dsimp only
    exact yw_readyN hx (br_f (by decide) ⟨rfl, rl_mk K IV V hR⟩)
end
section
/-! irreducible polynomials of degree at most 4: a test by numbers, and their count -/
def ir_v (p c r : Nat) : Nat := ((((c / p ^ 4 % p * r + c / p ^ 3 % p) * r + c / p ^ 2 % p) * r + c / p ^ 1 % p) * r + c / p ^ 0 % p) % p
def ir_b1 (p c a1 : Nat) : Nat := c / p ^ 3 % p + (p - a1)
def ir_b0 (p c a1 a0 : Nat) : Nat := c / p ^ 2 % p + (p - a0) + (p - a1) * ir_b1 p c a1
def ir_q (p c a1 a0 : Nat) : Bool := (c / p ^ 1 % p + (p - a1) * ir_b0 p c a1 a0 + (p - a0) * ir_b1 p c a1) % p == 0 && (c / p ^ 0 % p + (p - a0) * ir_b0 p c a1 a0) % p == 0
def ir_t (p d c : Nat) : Bool := d == 1 || ((List.range p).all (fun r => !(ir_v p c r == 0)) && (!(d == 4) || (List.range p).all (fun a1 => (List.range p).all (fun a0 => !ir_q p c a1 a0))))
def ir_n (p d : Nat) : Nat → Nat
  | 0 => 0
  | k + 1 => ir_n p d k + if ir_t p d (p ^ d + k) then 1 else 0
theorem rh_1 {R : Type} [Lean.Grind.CommRing R] (X A C0 C1 C2 C3 C4 : R) : C0 + C1 * X + C2 * (X * X) + C3 * (X * X * X) + C4 * (X * X * X * X) = (X - A) * (C4 * (X * X * X) + (C3 + C4 * A) * (X * X) + (C2 + (C3 + C4 * A) * A) * X + (C1 + (C2 + (C3 + C4 * A) * A) * A)) + (C0 + (C1 + (C2 + (C3 + C4 * A) * A) * A) * A) := by grind
theorem rh_2 {R : Type} [Lean.Grind.CommRing R] (X A1 A0 C0 C1 C2 C3 : R) : C0 + C1 * X + C2 * (X * X) + C3 * (X * X * X) + X * X * X * X = (X * X + A1 * X + A0) * (X * X + (C3 - A1) * X + (C2 - A0 - A1 * (C3 - A1))) + ((C1 - A1 * (C2 - A0 - A1 * (C3 - A1)) - A0 * (C3 - A1)) * X + (C0 - A0 * (C2 - A0 - A1 * (C3 - A1)))) := by grind
section
variable {q : Nat} {iR : Lean.Grind.CommRing (Pz q)}
theorem mo_sub (K : PK q iR) (a b : Fin (q + 1)) (n : Nat) : (pz_mo (a - b) n : Pz q) = pz_mo a n - pz_mo b n := by
  rw [Lean.Grind.Ring.sub_eq_add_neg, mo_add K, mo_neg K, ← Lean.Grind.Ring.sub_eq_add_neg]
theorem mo_m0 (K : PK q iR) (a b : Fin (q + 1)) : (pz_mo (a * b) 0 : Pz q) = pz_mo a 0 * pz_mo b 0 := (mo_mo K a b 0 0).symm
/-- five coefficients -/
theorem ex_5 (K : PK q iR) {f : Pz q} (s : pz_s f ≤ 5) : f = pz_mo (pz_c f 0) 0 + pz_mo (pz_c f 1) 0 * pz_mo 1 1 + pz_mo (pz_c f 2) 0 * (pz_mo 1 1 * pz_mo 1 1) + pz_mo (pz_c f 3) 0 * (pz_mo 1 1 * pz_mo 1 1 * pz_mo 1 1) + pz_mo (pz_c f 4) 0 * (pz_mo 1 1 * pz_mo 1 1 * pz_mo 1 1 * pz_mo 1 1) := by
  have h := zs_mono K s
  rw [mo_mo K, mo_mo K, mo_mo K, mo_mo K, mo_mo K, mo_mo K, mo_mo K]
  simp only [Lean.Grind.Semiring.mul_one]
  conv => lhs; rw [← h]
  show (((((0 : Pz q) + pz_mo (pz_c f 0) 0) + pz_mo (pz_c f 1) 1) + pz_mo (pz_c f 2) 2) + pz_mo (pz_c f 3) 3) + pz_mo (pz_c f 4) 4 = _
  rw [Lean.Grind.AddCommMonoid.zero_add]
def va_5 (f : Pz q) (a : Fin (q + 1)) : Fin (q + 1) := pz_c f 0 + (pz_c f 1 + (pz_c f 2 + (pz_c f 3 + pz_c f 4 * a) * a) * a) * a
theorem li_dv (K : PK q iR) {f : Pz q} (s : pz_s f ≤ 5) (a : Fin (q + 1)) : dv_d (pz_mo 1 1 - pz_mo a 0) f ↔ va_5 f a = 0 := by
  have e := (ex_5 K s).trans (rh_1 (pz_mo 1 1) (pz_mo a 0) (pz_mo (pz_c f 0) 0) (pz_mo (pz_c f 1) 0) (pz_mo (pz_c f 2) 0) (pz_mo (pz_c f 3) 0) (pz_mo (pz_c f 4) 0))
  rw [← mo_m0 K, ← mo_add K, ← mo_m0 K, ← mo_add K, ← mo_m0 K, ← mo_add K, ← mo_m0 K, ← mo_add K] at e
  have sl : pz_s (pz_mo 1 1 - pz_mo a 0 : Pz q) = 2 := sz_eq (fun i hi => by
    rw [pz_sub K, mo_c, mo_c, if_neg (by omega), if_neg (by omega)]; exact Lean.Grind.AddCommGroup.sub_self _) (by
    rw [pz_sub K, mo_c, mo_c, if_pos rfl, if_neg (by omega), Lean.Grind.Ring.sub_eq_add_neg, Lean.Grind.AddCommGroup.neg_zero, Lean.Grind.Semiring.add_zero]
    exact fq_1 K)
  constructor
  · intro d
    rw [e] at d
    have z := dv_small K (dv_of_add d (dv_l _ _)) (by have := sz_mo_le (q := q) (pz_c f 0 + (pz_c f 1 + (pz_c f 2 + (pz_c f 3 + pz_c f 4 * a) * a) * a) * a) 0; omega)
    have := congrArg (fun g => pz_c g 0) z
    rw [show pz_c (0 : Pz q) 0 = 0 from pz_zero K 0] at this
    exact this
  · intro z
    unfold va_5 at z
    rw [z, mo_zero K] at e
    rw [e]
    exact dv_add (dv_l _ _) (dv_zero _)
def vb_1 (f : Pz q) (a1 : Fin (q + 1)) : Fin (q + 1) := pz_c f 3 - a1
def vb_0 (f : Pz q) (a1 a0 : Fin (q + 1)) : Fin (q + 1) := pz_c f 2 - a0 - a1 * vb_1 f a1
theorem qu_dv (K : PK q iR) {f : Pz q} (s : pz_s f ≤ 5) (f4 : pz_c f 4 = 1) (a1 a0 : Fin (q + 1)) : dv_d (pz_mo 1 1 * pz_mo 1 1 + pz_mo a1 0 * pz_mo 1 1 + pz_mo a0 0) f ↔ (pz_c f 1 - a1 * vb_0 f a1 a0 - a0 * vb_1 f a1 = 0 ∧ pz_c f 0 - a0 * vb_0 f a1 a0 = 0) := by
  have e0 := ex_5 K s
  rw [f4, mo_one K, Lean.Grind.Semiring.one_mul] at e0
  have e := e0.trans (rh_2 (pz_mo 1 1) (pz_mo a1 0) (pz_mo a0 0) (pz_mo (pz_c f 0) 0) (pz_mo (pz_c f 1) 0) (pz_mo (pz_c f 2) 0) (pz_mo (pz_c f 3) 0))
  have r1 : pz_mo (pz_c f 1) 0 - pz_mo a1 0 * (pz_mo (pz_c f 2) 0 - pz_mo a0 0 - pz_mo a1 0 * (pz_mo (pz_c f 3) 0 - pz_mo a1 0)) - pz_mo a0 0 * (pz_mo (pz_c f 3) 0 - pz_mo a1 0) = (pz_mo (pz_c f 1 - a1 * vb_0 f a1 a0 - a0 * vb_1 f a1) 0 : Pz q) := by
    unfold vb_0 vb_1
    rw [mo_sub K, mo_sub K, mo_m0 K, mo_m0 K, mo_sub K, mo_sub K, mo_m0 K, mo_sub K]
  have r0 : pz_mo (pz_c f 0) 0 - pz_mo a0 0 * (pz_mo (pz_c f 2) 0 - pz_mo a0 0 - pz_mo a1 0 * (pz_mo (pz_c f 3) 0 - pz_mo a1 0)) = (pz_mo (pz_c f 0 - a0 * vb_0 f a1 a0) 0 : Pz q) := by
    unfold vb_0 vb_1
    rw [mo_sub K, mo_m0 K, mo_sub K, mo_sub K, mo_m0 K, mo_sub K]
  rw [r1, r0] at e
  generalize pz_c f 1 - a1 * vb_0 f a1 a0 - a0 * vb_1 f a1 = y1 at *
  generalize pz_c f 0 - a0 * vb_0 f a1 a0 = y0 at *
  have cq : ∀ i, pz_c (pz_mo 1 1 * pz_mo 1 1 + pz_mo a1 0 * pz_mo 1 1 + pz_mo a0 0 : Pz q) i = (if i = 2 then 1 else 0) + (if i = 1 then a1 else 0) + (if i = 0 then a0 else 0) := fun i => by
    rw [mo_mo K, mo_mo K, Lean.Grind.Semiring.mul_one, Lean.Grind.Semiring.mul_one, pz_add K, pz_add K, mo_c, mo_c, mo_c]
  have sl : pz_s (pz_mo 1 1 * pz_mo 1 1 + pz_mo a1 0 * pz_mo 1 1 + pz_mo a0 0 : Pz q) = 3 := sz_eq (fun i hi => by
    rw [cq, if_neg (by omega), if_neg (by omega), if_neg (by omega), Lean.Grind.Semiring.add_zero, Lean.Grind.Semiring.add_zero]) (by
    rw [cq, if_pos rfl, if_neg (by omega), if_neg (by omega), Lean.Grind.Semiring.add_zero, Lean.Grind.Semiring.add_zero]
    exact fq_1 K)
  have cr : ∀ i, pz_c (pz_mo y1 0 * pz_mo 1 1 + pz_mo y0 0 : Pz q) i = (if i = 1 then y1 else 0) + (if i = 0 then y0 else 0) := fun i => by
    rw [mo_mo K, Lean.Grind.Semiring.mul_one, pz_add K, mo_c, mo_c]
  constructor
  · intro d
    rw [e] at d
    have sr : pz_s (pz_mo y1 0 * pz_mo 1 1 + pz_mo y0 0 : Pz q) ≤ 2 := sz_le (fun i hi => by
      rw [cr, if_neg (by omega), if_neg (by omega), Lean.Grind.Semiring.add_zero])
    have z := dv_small K (dv_of_add d (dv_l _ _)) (by omega)
    have z1 : pz_c (pz_mo y1 0 * pz_mo 1 1 + pz_mo y0 0 : Pz q) 1 = 0 := by rw [z, pz_zero K]
    have z0 : pz_c (pz_mo y1 0 * pz_mo 1 1 + pz_mo y0 0 : Pz q) 0 = 0 := by rw [z, pz_zero K]
    rw [cr, if_pos rfl, if_neg (by omega), Lean.Grind.Semiring.add_zero] at z1
    rw [cr, if_neg (by omega), if_pos rfl, Lean.Grind.AddCommMonoid.zero_add] at z0
    exact ⟨z1, z0⟩
  · rintro ⟨rfl, rfl⟩
    rw [e, mo_zero K]
    refine dv_add (dv_l _ _) ?_
    have : (0 : Pz q) * pz_mo 1 1 + 0 = 0 := by grind
    rw [this]
    exact dv_zero _
/-- a monic polynomial of size 2, and of size 3 -/
theorem mn_2 (K : PK q iR) {g : Pz q} (mg : mn_m g) (s : pz_s g = 2) : g = pz_mo 1 1 - pz_mo (- pz_c g 0) 0 := pz_ext (fun i => by
  rw [pz_sub K, mo_c, mo_c]
  unfold mn_m at mg
  rw [s] at mg
  by_cases c1 : i = 1
  · rw [if_pos c1, if_neg (by omega), c1, mg, Lean.Grind.Ring.sub_eq_add_neg, Lean.Grind.AddCommGroup.neg_zero, Lean.Grind.Semiring.add_zero]
  · by_cases c0 : i = 0
    · rw [if_neg c1, if_pos c0, c0, Lean.Grind.Ring.sub_eq_add_neg, Lean.Grind.AddCommGroup.neg_neg, Lean.Grind.AddCommMonoid.zero_add]
    · rw [if_neg c1, if_neg c0, sz_ge (by omega)]; exact (Lean.Grind.AddCommGroup.sub_self _).symm)
theorem mn_3 (K : PK q iR) {g : Pz q} (mg : mn_m g) (s : pz_s g = 3) : g = pz_mo 1 1 * pz_mo 1 1 + pz_mo (pz_c g 1) 0 * pz_mo 1 1 + pz_mo (pz_c g 0) 0 := pz_ext (fun i => by
  rw [mo_mo K, mo_mo K, Lean.Grind.Semiring.mul_one, Lean.Grind.Semiring.mul_one, pz_add K, pz_add K, mo_c, mo_c, mo_c]
  unfold mn_m at mg
  rw [s] at mg
  by_cases c2 : i = 2
  · rw [if_pos c2, if_neg (by omega), if_neg (by omega), c2, Lean.Grind.Semiring.add_zero, Lean.Grind.Semiring.add_zero]; exact mg
  · by_cases c1 : i = 1
    · rw [if_neg (by omega), if_pos c1, if_neg (by omega), c1, Lean.Grind.AddCommMonoid.zero_add, Lean.Grind.Semiring.add_zero]
    · by_cases c0 : i = 0
      · rw [if_neg (by omega), if_neg (by omega), if_pos c0, c0, Lean.Grind.AddCommMonoid.zero_add, Lean.Grind.AddCommMonoid.zero_add]
      · rw [if_neg (by omega), if_neg (by omega), if_neg (by omega), sz_ge (by omega), Lean.Grind.Semiring.add_zero, Lean.Grind.Semiring.add_zero])
theorem ir_4 (K : PK q iR) {f : Pz q} {d : Nat} (mf : mn_m f) (s : pz_s f = d + 1) (d1 : 1 ≤ d) (d4 : d ≤ 4) : ir_r f ↔ (d = 1 ∨ ((∀ a : Fin (q + 1), va_5 f a ≠ 0) ∧ (d = 4 → ∀ a1 a0 : Fin (q + 1), ¬ (pz_c f 1 - a1 * vb_0 f a1 a0 - a0 * vb_1 f a1 = 0 ∧ pz_c f 0 - a0 * vb_0 f a1 a0 = 0)))) := by
  have f0 := mn_nz K mf
  have f4 : d = 4 → pz_c f 4 = 1 := fun e => by
    unfold mn_m at mf
    rw [s, e] at mf
    exact mf
  have no : ir_r f → ∀ g : Pz q, dv_d g f → pz_s g = 1 ∨ pz_s g = pz_s f := fun hf g ⟨h, e⟩ => by
    have nz := nz_of_mul K (f := g) (g := h) (by rw [← e]; exact f0)
    have hs := sz_mulN K nz.1 nz.2
    rw [← e] at hs
    rcases hf.2 g h e with z | z
    · exact Or.inl z
    · exact Or.inr (by omega)
  constructor
  · intro hf
    by_cases e1 : d = 1
    · exact Or.inl e1
    · refine Or.inr ⟨fun a z => ?_, fun e4 a1 a0 z => ?_⟩
      · have sl : pz_s (pz_mo 1 1 - pz_mo a 0 : Pz q) = 2 := sz_eq (fun i hi => by
          rw [pz_sub K, mo_c, mo_c, if_neg (by omega), if_neg (by omega)]; exact Lean.Grind.AddCommGroup.sub_self _) (by
          rw [pz_sub K, mo_c, mo_c, if_pos rfl, if_neg (by omega), Lean.Grind.Ring.sub_eq_add_neg, Lean.Grind.AddCommGroup.neg_zero, Lean.Grind.Semiring.add_zero]
          exact fq_1 K)
        have := no hf _ ((li_dv K (by omega) a).mpr z)
        omega
      · have cq : ∀ i, pz_c (pz_mo 1 1 * pz_mo 1 1 + pz_mo a1 0 * pz_mo 1 1 + pz_mo a0 0 : Pz q) i = (if i = 2 then 1 else 0) + (if i = 1 then a1 else 0) + (if i = 0 then a0 else 0) := fun i => by
          rw [mo_mo K, mo_mo K, Lean.Grind.Semiring.mul_one, Lean.Grind.Semiring.mul_one, pz_add K, pz_add K, mo_c, mo_c, mo_c]
        have sl : pz_s (pz_mo 1 1 * pz_mo 1 1 + pz_mo a1 0 * pz_mo 1 1 + pz_mo a0 0 : Pz q) = 3 := sz_eq (fun i hi => by
          rw [cq, if_neg (by omega), if_neg (by omega), if_neg (by omega), Lean.Grind.Semiring.add_zero, Lean.Grind.Semiring.add_zero]) (by
          rw [cq, if_pos rfl, if_neg (by omega), if_neg (by omega), Lean.Grind.Semiring.add_zero, Lean.Grind.Semiring.add_zero]
          exact fq_1 K)
        have := no hf _ ((qu_dv K (by omega) (f4 e4) a1 a0).mpr z)
        omega
  · intro h
    refine ⟨by omega, fun a b e => Classical.byContradiction (fun z => ?_)⟩
    have nz := nz_of_mul K (f := a) (g := b) (by rw [← e]; exact f0)
    have hs := sz_mulN K nz.1 nz.2
    rw [← e] at hs
    have d2 : d ≠ 1 := by omega
    obtain ⟨h1, h2⟩ := h.resolve_left d2
    have key : ∀ x : Pz q, x ≠ 0 → dv_d x f → 2 ≤ pz_s x → (pz_s x = 2 ∨ (pz_s x = 3 ∧ d = 4)) → False := fun x x0 dx x2 hx => by
      obtain ⟨g, mg, sg, g1, _⟩ := mn_ex K x0
      rcases hx with hx | ⟨hx, e4⟩
      · have eg := mn_2 K mg (by omega)
        refine h1 (- pz_c g 0) ((li_dv K (by omega) _).mp ?_)
        rw [← eg]
        exact dv_trans g1 dx
      · have eg := mn_3 K mg (by omega)
        refine h2 e4 (pz_c g 1) (pz_c g 0) ((qu_dv K (by omega) (f4 e4) _ _).mp ?_)
        rw [← eg]
        exact dv_trans g1 dx
    have da : dv_d a f := by rw [e]; exact dv_l a b
    have db : dv_d b f := by rw [e]; exact dv_r a b
    by_cases c : pz_s a = 2
    · exact key a nz.1 da (by omega) (Or.inl c)
    · by_cases c2 : pz_s b = 2
      · exact key b nz.2 db (by omega) (Or.inl c2)
      · exact key a nz.1 da (by omega) (Or.inr (by omega))
end
end
section
/-! irreducibles: the test is right, the counts -/
theorem rh_3 {R : Type} [Lean.Grind.CommRing R] (a c0 c1 c2 c3 c4 : R) : (((c4 * a + c3) * a + c2) * a + c1) * a + c0 = c0 + (c1 + (c2 + (c3 + c4 * a) * a) * a) * a := by grind
theorem rh_4 {R : Type} [Lean.Grind.CommRing R] (c a b x : R) : c + - a + - b * x = c - a - b * x := by grind
theorem rh_5 {R : Type} [Lean.Grind.CommRing R] (c a b x y : R) : c + - a * x + - b * y = c - a * x - b * y := by grind
theorem rh_6 {R : Type} [Lean.Grind.CommRing R] (c a x : R) : c + - a * x = c - a * x := by grind
theorem ct_2 : ir_n 2 1 2 = 2 ∧ ir_n 2 2 4 = 1 ∧ ir_n 2 3 8 = 2 ∧ ir_n 2 4 16 = 3 := by decide +kernel
theorem ct_3 : ir_n 3 1 3 = 3 ∧ ir_n 3 2 9 = 3 ∧ ir_n 3 3 27 = 8 ∧ ir_n 3 4 81 = 18 := by decide +kernel
theorem ct_5 : ir_n 5 1 5 = 5 ∧ ir_n 5 2 25 = 10 ∧ ir_n 5 3 125 = 40 := by decide +kernel
theorem ct_54 : ir_n 5 4 625 = 150 := by decide +kernel
section
variable {q : Nat} {iR : Lean.Grind.CommRing (Pz q)}
variable {fL fF fB fC : Int32} {aC aI aM aR aB aP aD aF aT aQ : Nat → Int32} {gE gR gF : Int32} {bR bF bO : Nat → Int32} {m : Nat → Pz q}
theorem fv_mod (n : Nat) : (fq_v (n % (q + 1)) : Fin (q + 1)) = fq_v n := Fin.ext (by rw [fv_val, fv_val, Nat.mod_mod])
theorem fv_n {a : Nat} (h : a < q + 1) : (fq_v (q + 1 - a) : Fin (q + 1)) = - fq_v a := by
  have := fv_neg (fq_v a : Fin (q + 1))
  rw [fv_val, Nat.mod_eq_of_lt h] at this
  exact this
theorem it_v (K : PK q iR) (c r : Nat) : ir_v (q + 1) c r = 0 ↔ va_5 (ce_d c : Pz q) (fq_v r) = 0 := by
  have e : va_5 (ce_d c : Pz q) (fq_v r) = fq_v (ir_v (q + 1) c r) := by
    unfold va_5 ir_v
    rw [fv_mod, fv_add, fv_mul, fv_add, fv_mul, fv_add, fv_mul, fv_add, fv_mul, fv_mod, fv_mod, fv_mod, fv_mod, fv_mod, rh_3, ce_dc K, ce_dc K, ce_dc K, ce_dc K, ce_dc K]
  have l : ir_v (q + 1) c r < q + 1 := Nat.mod_lt _ (by omega)
  rw [e, fv_z, Nat.mod_eq_of_lt l]
theorem it_q (K : PK q iR) (c : Nat) {a1 a0 : Nat} (h1 : a1 < q + 1) (h0 : a0 < q + 1) : ir_q (q + 1) c a1 a0 = true ↔ (pz_c (ce_d c : Pz q) 1 - fq_v a1 * vb_0 (ce_d c) (fq_v a1) (fq_v a0) - fq_v a0 * vb_1 (ce_d c) (fq_v a1) = 0 ∧ pz_c (ce_d c : Pz q) 0 - fq_v a0 * vb_0 (ce_d c) (fq_v a1) (fq_v a0) = 0) := by
  have e1 : vb_1 (ce_d c : Pz q) (fq_v a1) = fq_v (ir_b1 (q + 1) c a1) := by
    unfold vb_1 ir_b1
    rw [fv_add, fv_mod, fv_n h1, ce_dc K, Lean.Grind.Ring.sub_eq_add_neg]
  have e0 : vb_0 (ce_d c : Pz q) (fq_v a1) (fq_v a0) = fq_v (ir_b0 (q + 1) c a1 a0) := by
    unfold vb_0 ir_b0
    rw [e1, fv_add, fv_add, fv_mul, fv_mod, fv_n h1, fv_n h0, rh_4, ce_dc K]
  have x1 : pz_c (ce_d c : Pz q) 1 - fq_v a1 * vb_0 (ce_d c) (fq_v a1) (fq_v a0) - fq_v a0 * vb_1 (ce_d c) (fq_v a1) = fq_v (c / (q + 1) ^ 1 % (q + 1) + (q + 1 - a1) * ir_b0 (q + 1) c a1 a0 + (q + 1 - a0) * ir_b1 (q + 1) c a1) := by
    rw [e1, e0, fv_add, fv_add, fv_mul, fv_mul, fv_mod, fv_n h1, fv_n h0, rh_5, ce_dc K]
  have x0 : pz_c (ce_d c : Pz q) 0 - fq_v a0 * vb_0 (ce_d c) (fq_v a1) (fq_v a0) = fq_v (c / (q + 1) ^ 0 % (q + 1) + (q + 1 - a0) * ir_b0 (q + 1) c a1 a0) := by
    rw [e0, fv_add, fv_mul, fv_mod, fv_n h0, rh_6, ce_dc K]
  rw [x1, x0, fv_z, fv_z]
  unfold ir_q
  rw [Bool.and_eq_true, beq_iff_eq, beq_iff_eq]
theorem it_ok (K : PK q iR) {d c : Nat} (d1 : 1 ≤ d) (d4 : d ≤ 4) (c1 : (q + 1) ^ d ≤ c) (c2 : c < 2 * (q + 1) ^ d) : ir_t (q + 1) d c = true ↔ ir_r (ce_d c : Pz q) := by
  obtain ⟨hs, hm⟩ := (ce_mn K (f := (ce_d c : Pz q)) (n := d)).mpr (by rw [ce_ed K]; exact ⟨c1, c2⟩)
  rw [ir_4 K hm hs d1 d4]
  unfold ir_t
  rw [Bool.or_eq_true, Bool.and_eq_true, Bool.or_eq_true, beq_iff_eq, List.all_eq_true, List.all_eq_true]
  have A : (∀ x, x ∈ List.range (q + 1) → (!(ir_v (q + 1) c x == 0)) = true) ↔ ∀ a : Fin (q + 1), va_5 (ce_d c : Pz q) a ≠ 0 := by
    constructor
    · intro h a z
      have := h a.val (List.mem_range.mpr a.isLt)
      rw [Bool.not_eq_true', beq_eq_false_iff_ne] at this
      exact this ((it_v K c a.val).mpr (by rw [fv_of]; exact z))
    · intro h x hx
      rw [Bool.not_eq_true', beq_eq_false_iff_ne]
      exact fun z => h (fq_v x) ((it_v K c x).mp z)
  have B : (∀ x, x ∈ List.range (q + 1) → ((List.range (q + 1)).all (fun a0 => !ir_q (q + 1) c x a0)) = true) ↔ ∀ a1 a0 : Fin (q + 1), ¬ (pz_c (ce_d c : Pz q) 1 - a1 * vb_0 (ce_d c) a1 a0 - a0 * vb_1 (ce_d c) a1 = 0 ∧ pz_c (ce_d c : Pz q) 0 - a0 * vb_0 (ce_d c) a1 a0 = 0) := by
    constructor
    · intro h a1 a0 z
      have h1 := h a1.val (List.mem_range.mpr a1.isLt)
      rw [List.all_eq_true] at h1
      have h2 := h1 a0.val (List.mem_range.mpr a0.isLt)
      have h3 := (it_q K c a1.isLt a0.isLt).mpr (by rw [fv_of, fv_of]; exact z)
      rw [h3] at h2
      exact nomatch h2
    · intro h x hx
      rw [List.all_eq_true]
      intro y hy
      rw [Bool.not_eq_true']
      exact Bool.eq_false_iff.mpr (fun z => h _ _ ((it_q K c (List.mem_range.mp hx) (List.mem_range.mp hy)).mp z))
  rw [A, B]
  have D : (!(d == 4)) = true ↔ ¬ d = 4 := by rw [Bool.not_eq_true', beq_eq_false_iff_ne]
  rw [D]
  constructor
  · rintro (h | ⟨h, h2⟩)
    · exact Or.inl h
    · exact Or.inr ⟨h, fun e => h2.resolve_left (fun n => n e)⟩
  · rintro (h | ⟨h, h2⟩)
    · exact Or.inl h
    · refine Or.inr ⟨h, ?_⟩
      by_cases e : d = 4
      · exact Or.inr (h2 e)
      · exact Or.inl e
theorem ir_nle (p d k : Nat) : ir_n p d k ≤ k := by
  induction k with
  | zero => exact Nat.le_refl _
  | succ k ih =>
    rw [ir_n]
    split <;> omega
theorem yl_39 (K : PK q iR) {d : Nat} (d1 : 1 ≤ d) (d4 : d ≤ 4) {post : Int32 → SY → Prop} (h : ∀ (gR gF : Int32) (bF bO : Nat → Int32), post (nI (ir_n (q + 1) d ((q + 1) ^ d))) ((nI (q + 1)), gE, gR, gF, bR, bF, bO)) : ∀ (e k : Nat) (gR gF : Int32) (bF bO : Nat → Int32), k + e = (q + 1) ^ d → wY_irreducibles_39 post (nI ((q + 1) ^ d)) (e + 1) (nI (ir_n (q + 1) d k)) (nI ((q + 1) ^ d + k)) (nI (q + 1)) gE gR gF bR bF bO := by
  have p9 := p9_le K (i := d) (by omega)
  have e2 : (2 : Int32) * nI ((q + 1) ^ d) = nI (2 * (q + 1) ^ d) := pk_mul 2 _
  intro e
  induction e with
  | zero =>
    intro k gR gF bF bO hk
    have ek : k = (q + 1) ^ d := by omega
    rw [ek]
    refine br_t ?_ (h gR gF bF bO)
    rw [e2]
    exact nI_le (by omega) (by omega)
  | succ e ih =>
    intro k gR gF bF bO hk
    have i1 := fun gR gF bF bO => ih (k + 1) gR gF bF bO (by omega)
    have hk1 := ir_nle (q + 1) d k
    have hit := it_ok K (c := (q + 1) ^ d + k) d1 d4 (by omega) (by omega)
    have s9 : pz_s (ce_d ((q + 1) ^ d + k) : Pz q) ≤ 9 := (ce_dsz K).mp (by
      have h1 : 2 * (q + 1) ^ d ≤ (q + 1) ^ (d + 1) := by
        rw [Nat.pow_succ, Nat.mul_comm]
        exact Nat.mul_le_mul_left _ (k_2 K)
      have h2 : (q + 1) ^ (d + 1) ≤ (q + 1) ^ 9 := Nat.pow_le_pow_right (by omega) (by omega)
      omega)
    refine br_f ?_ ?_
    · rw [e2]
      exact nI_ge (by omega) (by omega)
    · rw [show nI ((q + 1) ^ d + k) = nI (ce_e (ce_d ((q + 1) ^ d + k) : Pz q)) by rw [ce_ed K]]
      refine yw_isPrime K s9 (fun r gR gF bF bO r1 hr => ?_)
      rw [ce_ed K]
      refine pk_eq r 0 (fun z => nm_r (nI_1 _) ?_) (fun z => nm_r (nI_1 _) (nm_r (nI_1 _) ?_)) rfl rfl (by omega) (by omega)
      · have := i1 gR gF bF bO
        rw [ir_n, if_neg (fun y => by have := hr.mpr (hit.mp y); omega)] at this
        exact this
      · have := i1 gR gF bF bO
        rw [ir_n, if_pos (hit.mpr (hr.mp (by omega)))] at this
        exact this
theorem yl_16 (K : PK q iR) {d : Nat} (d1 : 1 ≤ d) (d4 : d ≤ 4) {post : Int32 → SY → Prop} (h : ∀ (gR gF : Int32) (bF bO : Nat → Int32), post (nI (ir_n (q + 1) d ((q + 1) ^ d))) ((nI (q + 1)), gE, gR, gF, bR, bF, bO)) : ∀ e i, i + e = d → wY_irreducibles_16 post (nI d) (nI (q + 1)) gE gR gF bR bF bO (e + 1) (nI ((q + 1) ^ i)) (nI i) := by
  intro e
  induction e with
  | zero =>
    intro i hi
    have ei : i = d := by omega
    subst ei
    exact br_t (nI_le (by omega) (by omega)) ⟨(q + 1) ^ i + 1, yl_39 K d1 d4 h ((q + 1) ^ i) 0 gR gF bF bO (by omega)⟩
  | succ e ih =>
    intro i hi
    exact br_f (nI_ge (by omega) (by omega)) (nm_r (e' := nI ((q + 1) ^ (i + 1))) (by rw [pk_mul, Nat.pow_succ]) (nm_r (nI_1 i) (ih (i + 1) (by omega))))
theorem cn_v (K : PK q iR) : ir_n (q + 1) 1 ((q + 1) ^ 1) = (q + 1) ^ 1 / 1 ∧ ir_n (q + 1) 2 ((q + 1) ^ 2) = ((q + 1) ^ 2 - (q + 1)) / 2 ∧ ir_n (q + 1) 3 ((q + 1) ^ 3) = ((q + 1) ^ 3 - (q + 1)) / 3 ∧ ir_n (q + 1) 4 ((q + 1) ^ 4) = ((q + 1) ^ 4 - (q + 1) ^ 2) / 4 := by
  obtain ⟨_, rfl | rfl | rfl⟩ := K
  · exact ct_2
  · exact ct_3
  · exact ⟨ct_5.1, ct_5.2.1, ct_5.2.2, ct_54⟩
end
theorem i_vc_irreducibles {k : Nat} {u : SX} {v : SY} (I : i_Rel k u v) (hk : k + 4 ≤ 2049) (v1 : Int32) : wpX_irreducibles (fun r => wpY_irreducibles (fun r' v' => r' = r ∧ i_Rel (k + 4) u v') v v1) u v1 := by
  refine rl_el (P := fun u v => wpX_irreducibles (fun r => wpY_irreducibles (fun r' v' => r' = r ∧ i_Rel (k + 4) u v') v v1) u v1) ?_ I
  intro q iR m fF fB fC aC aI aM aR aB aP aD aF aT aQ gR gF bR bF bO K IV V hR
  have q5 := q_5 K
  have p4 := p9_le K (i := 4) (by omega)
  have p3 := p9_le K (i := 3) (by omega)
  have p2 := p9_le K (i := 2) (by omega)
  obtain ⟨n1, n2, n3, n4⟩ := cn_v K
  have yy : ∀ (d : Nat) (r : Int32), 1 ≤ d → d ≤ 4 → r = nI (ir_n (q + 1) d ((q + 1) ^ d)) → wpY_irreducibles (fun r' v' => r' = r ∧ i_Rel (k + 4) ((nI (q + 1)), (nI ((q + 1) ^ 9)), fF, fB, fC, aC, aI, aM, aR, aB, aP, aD, aF, aT, aQ) v') ((nI (q + 1)), (nI ((q + 1) ^ 9)), gR, gF, bR, bF, bO) (nI d) := fun d r d1 d4 er => by
    unfold wpY_irreducibles
    dsimp only
    refine br_f (nI_nlt (b := 1) (by omega) (by omega)) (br_t (nI_le (b := 4) (by omega) (by omega)) ⟨d + 1, ?_⟩)
    exact yl_16 K d1 d4 (fun gR gF bF bO => ⟨er.symm, rl_mk K IV V hR⟩) d 0 (by omega)
  unfold wpX_irreducibles
  dsimp only
  by_cases c1 : v1 < 1
  · refine br_t c1 ?_
    unfold wpY_irreducibles
    dsimp only
    exact br_t c1 ⟨rfl, rl_mk K IV V hR⟩
  · refine br_f c1 ?_
    by_cases c4 : v1 ≤ 4
    · refine br_t c4 ?_
      have n0 : ¬ v1 < 0 := fun z => c1 (Int32.lt_trans z (by decide))
      obtain ⟨d, hd, rfl⟩ := nI_of n0
      have d1 : 1 ≤ d := Nat.le_of_not_lt (fun z => c1 (nI_lt (b := 1) z (by omega)))
      have d4 : d ≤ 4 := Nat.le_of_not_lt (fun z => nI_ge (a := 4) z hd c4)
      refine xw_power K (n := d) (by omega) ?_
      have dz : ¬ nI d = 0 := nI_ne0 (by omega) (by omega)
      refine pk_eq d 4 (fun e => ?_) (fun e => ?_) rfl rfl (by omega) (by omega)
      · subst e
        refine xw_power K (n := 2) (by omega) (nm_e ⟨dz, yy 4 _ (by omega) (by omega) ?_⟩)
        have le : (q + 1) ^ 2 ≤ (q + 1) ^ 4 := Nat.pow_le_pow_right (by omega) (by omega)
        rw [pk_sub le, n4]
        exact pk_div (d := 4) (by omega) (by omega) (by omega)
      · refine pk_le d 1 (fun e1 => ⟨dz, ?_⟩) (fun e1 => nm_e ⟨dz, ?_⟩) rfl rfl (by omega) (by omega)
        · have ed : d = 1 := by omega
          subst ed
          refine yy 1 _ (by omega) (by omega) ?_
          rw [n1]
          exact pk_div (d := 1) (by rw [Nat.pow_one]; omega) (by omega) (by omega)
        · have le : ∀ j, 1 ≤ j → q + 1 ≤ (q + 1) ^ j := fun j hj => by
            have : (q + 1) ^ 1 ≤ (q + 1) ^ j := Nat.pow_le_pow_right (by omega) hj
            rw [Nat.pow_one] at this
            exact this
          rw [pk_sub (le d (by omega))]
          by_cases e2 : d = 2
          · subst e2
            refine yy 2 _ (by omega) (by omega) ?_
            rw [n2]
            exact pk_div (d := 2) (by omega) (by omega) (by omega)
          · have ed : d = 3 := by omega
            subst ed
            refine yy 3 _ (by omega) (by omega) ?_
            rw [n3]
            exact pk_div (d := 3) (by omega) (by omega) (by omega)
    · refine br_f c4 ?_
      unfold wpY_irreducibles
      dsimp only
      exact br_f c1 (br_f c4 ⟨rfl, rl_mk K IV V hR⟩)
end
section
/-! nextIrreducible: the least irreducible monic code at s0 or beyond -/
def nx_P (q : Nat) [Lean.Grind.CommRing (Pz q)] (c : Nat) : Prop := ir_r (ce_d c : Pz q) ∧ mn_m (ce_d c : Pz q)
def nx_N (q : Nat) [Lean.Grind.CommRing (Pz q)] (s0 : Nat) (r : Int32) : Prop :=
  (r = -1 ∧ ∀ c, s0 ≤ c → c < (q + 1) ^ 9 → ¬ nx_P q c) ∨ ∃ c, r = nI c ∧ s0 ≤ c ∧ c < (q + 1) ^ 9 ∧ nx_P q c ∧ ∀ c', s0 ≤ c' → c' < c → ¬ nx_P q c'
def nx_A (q : Nat) (a : Int32) (s0 : Nat) : Prop := (∀ x, q + 1 ≤ x → x < 2 ^ 31 → (nI x ≤ a ↔ x < s0)) ∧ (nI (q + 1) ≤ a → a + 1 = nI s0) ∧ q + 1 ≤ s0
section
variable {q : Nat} {iR : Lean.Grind.CommRing (Pz q)}
variable {fL fF fB fC : Int32} {aC aI aM aR aB aP aD aF aT aQ : Nat → Int32} {gE gR gF : Int32} {bR bF bO : Nat → Int32} {m : Nat → Pz q}
theorem nx_un {s0 : Nat} {r r' : Int32} (h : nx_N q s0 r) (h' : nx_N q s0 r') : r' = r := by
  rcases h with ⟨e, n⟩ | ⟨c, e, c1, c2, c3, c4⟩
  · rcases h' with ⟨e', _⟩ | ⟨c', _, a1, a2, a3, _⟩
    · rw [e, e']
    · exact absurd a3 (n c' a1 a2)
  · rcases h' with ⟨_, n⟩ | ⟨c', e', a1, a2, a3, a4⟩
    · exact absurd c3 (n c c1 c2)
    · have : c = c' := by
        rcases Nat.lt_trichotomy c c' with z | z | z
        · exact absurd c3 (a4 c c1 z)
        · exact z
        · exact absurd a3 (c4 c' a1 z)
      rw [e, e', this]
theorem nm_gap (K : PK q iR) {c d : Nat} (h1 : 2 * (q + 1) ^ d ≤ c) (h2 : c < (q + 1) ^ (d + 1)) : ¬ nx_P q c := fun ⟨_, mc⟩ => by
  obtain ⟨j, hj, _⟩ := mn_sz K mc
  have h3 := (ce_mn K (f := (ce_d c : Pz q)) (n := j)).mp ⟨hj, mc⟩
  rw [ce_ed K] at h3
  have s1 := (ce_dsz K).mp h2
  have e1 : j = d := by
    have : ¬ j < d := fun y => by
      have := (ce_dsz K (c := c) (n := d)).mpr (by omega)
      omega
    omega
  rw [e1] at h3
  omega
theorem nx_low (K : PK q iR) {c : Nat} (h : c < q + 1) : ¬ nx_P q c := fun ⟨ic, _⟩ => by
  have := (ce_dsz K (c := c) (n := 1)).mp (by rw [Nat.pow_one]; exact h)
  have := ic.1
  omega
theorem xl_next (K : PK q iR) (IV : iv_T q aI) {s0 : Nat} {a : Int32} (hA : nx_A q a s0) {m0 : Nat → Pz q} {post : Int32 → SX → Prop} (h : ∀ (r : Int32) (m : Nat → Pz q) (fB : Int32) (aC aM aR aB : Nat → Int32), nx_N q s0 r → (∀ l, l < 3 → m l = m0 l) → VC m aC → post r ((nI (q + 1)), (nI ((q + 1) ^ 9)), fF, fB, fC, aC, aI, aM, aR, aB, aP, aD, aF, aT, aQ)) : ∀ (n c s : Nat) (m : Nat → Pz q) (fB : Int32) (aC aM aR aB : Nat → Int32), (q + 1) ^ 9 - c < n → q + 1 ≤ c → c ≤ (q + 1) ^ 9 → s0 ≤ c → s + ((q + 1) ^ 9 - c) ≤ 1953125 → (∀ c', s0 ≤ c' → c' < c → ¬ nx_P q c') → (∀ l, l < 3 → m l = m0 l) → VC m aC → wX_nextIrreducible_23 post a n (nI c) (nI s) (nI (q + 1)) (nI ((q + 1) ^ 9)) fF fB fC aC aI aM aR aB aP aD aF aT aQ := by
  have p9 := p9_le K (i := 9) (by omega)
  intro n
  induction n with
  | zero => intro c s m fB aC aM aR aB hn; omega
  | succ n ih =>
    intro c s m fB aC aM aR aB hn c1 c9 cs hs no fr V
    refine br_f (nI_ge (a := s) (b := 2000000) (by omega) (by omega)) ?_
    refine pk_le ((q + 1) ^ 9) c (fun z => ?_) (fun z => ?_) rfl rfl (by omega) (by omega)
    · exact h (-1) m fB aC aM aR aB (Or.inl ⟨rfl, fun c' a1 a2 => no c' a1 (by omega)⟩) fr V
    · refine br_f (fun y => by have := (hA.1 c c1 (by omega)).mp y; omega) ?_
      have e3 : ∀ j, (27 : Int32) + nI j = nI (9 * 3 + j) := fun j => nI_add 27 j
      have s9 : pz_s (ce_d c : Pz q) ≤ 9 := (ce_dsz K).mp z
      have s2 : 2 ≤ pz_s (ce_d c : Pz q) := Nat.lt_of_not_le (fun y => by
        have := (ce_dsz K (c := c) (n := 1)).mpr y
        rw [Nat.pow_one] at this
        omega)
      obtain ⟨D, hD⟩ : ∃ D, pz_s (ce_d c : Pz q) = D + 1 := ⟨pz_s (ce_d c : Pz q) - 1, by omega⟩
      dsimp only
      refine xw_decode K V (l := 3) (by omega) z (fun aC V1 => ?_)
      dsimp only
      refine xw_degreeOf K V1 (l := 3) (by omega) ?_
      rw [st_s, hD, dn_s, e3, nI_clamp (by omega), (V1 3 (by omega)).2 D (by omega), st_s]
      have fr1 : ∀ l, l < 3 → (st_l m 3 (ce_d c)) l = m0 l := fun l hl => by rw [st_n (by omega)]; exact fr l hl
      have b1 := pv_lt (pz_c (ce_d c : Pz q) D) K
      have v1 : ((1 : Fin (q + 1)).val) = 1 := Nat.mod_eq_of_lt (k_2 K)
      refine ⟨vp_in_nI (by omega) (by omega), pk_eq (pz_c (ce_d c : Pz q) D).val 1 (fun y => ?_) (fun y => ?_) rfl rfl (Nat.lt_of_lt_of_le b1 (by decide)) (by omega)⟩
      · have mc : mn_m (ce_d c : Pz q) := mn_of hD (Fin.ext (by rw [y, v1]))
        refine xw_isIrreducible K IV V1 (a := 3) (by omega) (by rw [st_s]; exact s2) (fun r m2 fB aC aM aR aB r1 hr fr2 V2 => ?_)
        rw [st_s] at hr
        have fr3 : ∀ l, l < 3 → m2 l = m0 l := fun l hl => by rw [fr2 l (by omega)]; exact fr1 l hl
        dsimp only
        refine pk_eq r 0 (fun x => nm_r (nI_1 c) (nm_r (nI_1 s) ?_)) (fun x => ?_) rfl rfl (by omega) (by omega)
        · refine ih (c + 1) (s + 1) m2 fB aC aM aR aB (by omega) (by omega) (by omega) (by omega) (by omega) (fun c' a1 a2 => ?_) fr3 V2
          by_cases e : c' = c
          · rw [e]
            exact fun w => by have := hr.mpr w.1; omega
          · exact no c' a1 (by omega)
        · exact h (nI c) m2 fB aC aM aR aB (Or.inr ⟨c, rfl, cs, z, ⟨hr.mp (by omega), mc⟩, no⟩) fr3 V2
      · rw [nI_1 D]
        have pD := Nat.pow_le_pow_right (n := q + 1) (by omega) (show D + 1 ≤ 9 by omega)
        have cD : c < (q + 1) ^ (D + 1) := (ce_dsz K).mpr (by omega)
        have c2 : 2 * (q + 1) ^ D ≤ c := Nat.le_of_not_lt (fun w => by
          have l1 : (q + 1) ^ D ≤ c := Nat.le_of_not_lt (fun u => by
            have := (ce_dsz K (c := c) (n := D)).mp u
            omega)
          have := ((ce_mn K (f := (ce_d c : Pz q)) (n := D)).mpr (by rw [ce_ed K]; exact ⟨l1, w⟩)).2
          unfold mn_m at this
          rw [hD, Nat.add_sub_cancel] at this
          exact y (by rw [this, v1]))
        refine xw_power K (n := D + 1) (by omega) ?_
        refine nm_r (nI_1 s) ?_
        refine ih ((q + 1) ^ (D + 1)) (s + 1) _ fB aC aM aR aB (by omega) (by omega) pD (by omega) (by omega) (fun c' a1 a2 => ?_) fr1 V1
        by_cases e : c' < c
        · exact no c' a1 e
        · exact nm_gap K (d := D) (by omega) a2
theorem yl_n38 (K : PK q iR) {s0 d : Nat} {a : Int32} (d1 : 1 ≤ d) (d8 : d ≤ 8) {post : Int32 → SY → Prop} {J : Int32 → Int32 → Int32 → Int32 → Int32 → Int32 → (Nat → Int32) → (Nat → Int32) → (Nat → Int32) → Prop} (h : ∀ (c : Nat) (gR gF : Int32) (bF bO : Nat → Int32), nx_N q s0 (nI c) → post (nI c) ((nI (q + 1)), gE, gR, gF, bR, bF, bO)) (hJ : ∀ (gR gF : Int32) (bF bO : Nat → Int32), (∀ c', s0 ≤ c' → c' < (q + 1) ^ (d + 1) → ¬ nx_P q c') → J (nI ((q + 1) ^ (d + 1))) (nI (d + 1)) (nI (q + 1)) gE gR gF bR bF bO) : ∀ (n c : Nat) (gR gF : Int32) (bF bO : Nat → Int32), 2 * (q + 1) ^ d - c < n → (q + 1) ^ d ≤ c → c ≤ 2 * (q + 1) ^ d → s0 ≤ c → (∀ c', s0 ≤ c' → c' < c → ¬ nx_P q c') → wY_nextIrreducible_38 post J a (nI ((q + 1) ^ d)) (nI d) n (nI c) (nI (q + 1)) gE gR gF bR bF bO := by
  have p8 := p9_le K (i := d) (by omega)
  have e2 : (2 : Int32) * nI ((q + 1) ^ d) = nI (2 * (q + 1) ^ d) := pk_mul 2 _
  have q2 : 2 * (q + 1) ^ d ≤ (q + 1) ^ (d + 1) := by
    rw [Nat.pow_succ, Nat.mul_comm]
    exact Nat.mul_le_mul_left _ (k_2 K)
  have q9 : (q + 1) ^ (d + 1) ≤ (q + 1) ^ 9 := Nat.pow_le_pow_right (by omega) (by omega)
  intro n
  induction n with
  | zero => intro c gR gF bF bO hn; omega
  | succ n ih =>
    intro c gR gF bF bO hn c1 c2 cs no
    show (_ → _) ∧ (_ → _)
    rw [e2]
    refine pk_le (2 * (q + 1) ^ d) c (fun z => nm_r (e' := nI ((q + 1) ^ (d + 1))) (by rw [pk_mul, Nat.pow_succ]) (nm_r (nI_1 d) (hJ gR gF bF bO (fun c' a1 a2 => ?_)))) (fun z => ?_) rfl rfl (by omega) (by omega)
    · by_cases e : c' < c
      · exact no c' a1 e
      · exact nm_gap K (d := d) (by omega) a2
    · have s9 : pz_s (ce_d c : Pz q) ≤ 9 := (ce_dsz K).mp (by omega)
      have mc := ((ce_mn K (f := (ce_d c : Pz q)) (n := d)).mpr (by rw [ce_ed K]; exact ⟨c1, z⟩)).2
      rw [show nI c = nI (ce_e (ce_d c : Pz q)) by rw [ce_ed K]]
      refine yw_isPrime K s9 (fun r gR gF bF bO r1 hr => ?_)
      rw [ce_ed K]
      refine pk_eq r 0 (fun x => nm_r (nI_1 c) (ih (c + 1) gR gF bF bO (by omega) (by omega) (by omega) (by omega) (fun c' a1 a2 => ?_))) (fun x => h c gR gF bF bO (Or.inr ⟨c, rfl, cs, by omega, ⟨hr.mp (by omega), mc⟩, no⟩)) rfl rfl (by omega) (by omega)
      by_cases e : c' = c
      · rw [e]
        exact fun w => by have := hr.mpr w.1; omega
      · exact no c' a1 (by omega)
theorem yl_n7 (K : PK q iR) {s0 : Nat} {a : Int32} (hA : nx_A q a s0) {post : Int32 → SY → Prop} (h : ∀ (r gR gF : Int32) (bF bO : Nat → Int32), nx_N q s0 r → post r ((nI (q + 1)), gE, gR, gF, bR, bF, bO)) : ∀ (e d : Nat) (gR gF : Int32) (bF bO : Nat → Int32), d + e = 9 → 1 ≤ d → (∀ c', s0 ≤ c' → c' < (q + 1) ^ d → ¬ nx_P q c') → wY_nextIrreducible_7 post a (e + 1) (nI ((q + 1) ^ d)) (nI d) (nI (q + 1)) gE gR gF bR bF bO := by
  intro e
  induction e with
  | zero =>
    intro d gR gF bF bO hd d1 no
    have ed : d = 9 := by omega
    subst ed
    exact br_t (nI_le (a := 9) (b := 9) (by omega) (by omega)) (h (-1) gR gF bF bO (Or.inl ⟨rfl, no⟩))
  | succ e ih =>
    intro d gR gF bF bO hd d1 no
    have p8 := p9_le K (i := d) (by omega)
    have pl : q + 1 ≤ (q + 1) ^ d := by
      have : (q + 1) ^ 1 ≤ (q + 1) ^ d := Nat.pow_le_pow_right (by omega) d1
      rw [Nat.pow_one] at this
      exact this
    have e2 : (2 : Int32) * nI ((q + 1) ^ d) = nI (2 * (q + 1) ^ d) := pk_mul 2 _
    have t1 := hA.1 ((q + 1) ^ d) pl (by omega)
    have t2 := hA.1 (2 * (q + 1) ^ d) (by omega) (by omega)
    refine br_f (nI_ge (a := d) (b := 9) (by omega) (by omega)) ?_
    have scan : ∀ c, (q + 1) ^ d ≤ c → c ≤ 2 * (q + 1) ^ d → s0 ≤ c → (∀ c', s0 ≤ c' → c' < c → ¬ nx_P q c') → ∃ n, wY_nextIrreducible_38 post (wY_nextIrreducible_7 post a (e + 1)) a (nI ((q + 1) ^ d)) (nI d) n (nI c) (nI (q + 1)) gE gR gF bR bF bO := fun c c1 c2 cs nc =>
      ⟨2 * (q + 1) ^ d - c + 1, yl_n38 K d1 (by omega) (fun c gR gF bF bO hN => h (nI c) gR gF bF bO hN) (fun gR gF bF bO no2 => ih (d + 1) gR gF bF bO (by omega) (by omega) no2) _ c gR gF bF bO (by omega) c1 c2 cs nc⟩
    by_cases cs : s0 ≤ (q + 1) ^ d
    · refine br_t (Int32.not_le.mp (fun y => by have := t1.mp y; omega)) ?_
      unfold wY_nextIrreducible_25
      rw [e2]
      exact br_f (fun y => by have := t2.mp y; omega) (scan _ (Nat.le_refl _) (by omega) cs no)
    · have la := t1.mpr (by omega)
      refine br_f (Int32.not_lt.mpr la) ?_
      unfold wY_nextIrreducible_25
      rw [e2]
      by_cases c2 : 2 * (q + 1) ^ d < s0
      · refine br_t (t2.mpr c2) (nm_r (e' := nI ((q + 1) ^ (d + 1))) (by rw [pk_mul, Nat.pow_succ]) (nm_r (nI_1 d) (ih (d + 1) gR gF bF bO (by omega) (by omega) (fun c' a1 a2 => nm_gap K (d := d) (by omega) a2))))
      · have ea : a + 1 = nI s0 := hA.2.1 (Int32.le_trans (nI_le pl (by omega)) la)
        rw [ea]
        exact br_f (fun y => c2 (t2.mp y)) (scan s0 (by omega) (by omega) (Nat.le_refl _) (fun c' a1 a2 => by omega))
end
theorem i_vc_nextIrreducible {k : Nat} {u : SX} {v : SY} (I : i_Rel k u v) (hk : k + 4 ≤ 2049) (v1 : Int32) : wpX_nextIrreducible (fun r u' => wpY_nextIrreducible (fun r' v' => r' = r ∧ i_Rel (k + 4) u' v') v v1) u v1 := by
  refine rl_el (P := fun u v => wpX_nextIrreducible (fun r u' => wpY_nextIrreducible (fun r' v' => r' = r ∧ i_Rel (k + 4) u' v') v v1) u v1) ?_ I
  intro q iR m fF fB fC aC aI aM aR aB aP aD aF aT aQ gR gF bR bF bO K IV V hR
  have q5 := q_5 K
  have p9 := p9_le K (i := 9) (by omega)
  have pl : q + 1 ≤ (q + 1) ^ 9 := by
    have : (q + 1) ^ 1 ≤ (q + 1) ^ 9 := Nat.pow_le_pow_right (by omega) (by omega)
    rw [Nat.pow_one] at this
    exact this
  have ep : nI (q + 1) - 1 = nI q := nI_pred q
  have yy : ∀ (s0 : Nat) (r : Int32) (u : SX), nx_A q v1 s0 → nx_N q s0 r → (∀ (gR gF : Int32) (bF bO : Nat → Int32), i_Rel (k + 4) u ((nI (q + 1)), (nI ((q + 1) ^ 9)), gR, gF, bR, bF, bO)) → wpY_nextIrreducible (fun r' v' => r' = r ∧ i_Rel (k + 4) u v') ((nI (q + 1)), (nI ((q + 1) ^ 9)), gR, gF, bR, bF, bO) v1 := fun s0 r u hA hN hu => by
    have h1 := yl_n7 (gE := nI ((q + 1) ^ 9)) (bR := bR) K hA (post := fun r' v' => r' = r ∧ i_Rel (k + 4) u v') (fun r' gR gF bF bO hN' => ⟨nx_un hN hN', hu gR gF bF bO⟩) 8 1 gR gF bF bO rfl (by omega) (fun c' a1 a2 => nx_low K (by rw [Nat.pow_one] at a2; exact a2))
    rw [Nat.pow_one] at h1
    exact ⟨9, h1⟩
  have fin : ∀ (s0 : Nat), nx_A q v1 s0 → ∀ (r : Int32) (m' : Nat → Pz q) (fB : Int32) (aC aM aR aB : Nat → Int32), nx_N q s0 r → (∀ l, l < 3 → m' l = m l) → VC m' aC → wpY_nextIrreducible (fun r' v' => r' = r ∧ i_Rel (k + 4) ((nI (q + 1)), (nI ((q + 1) ^ 9)), fF, fB, fC, aC, aI, aM, aR, aB, aP, aD, aF, aT, aQ) v') ((nI (q + 1)), (nI ((q + 1) ^ 9)), gR, gF, bR, bF, bO) v1 := fun s0 hA r m' fB aC aM aR aB hN fr V' =>
    yy s0 r _ hA hN (fun gR gF bF bO => rl_mk K IV V' (fun l hl => by rw [fr l hl]; exact hR l hl))
  unfold wpX_nextIrreducible
  dsimp only
  rw [ep]
  by_cases c : nI q ≤ v1
  · refine br_t c (nm_e ?_)
    have n0 : ¬ v1 < 0 := Int32.not_lt.mpr (Int32.le_trans (nI_pos' (by omega)) c)
    obtain ⟨A, hA, rfl⟩ := nI_of n0
    have hq := (nI_leI (by omega) hA).mp c
    have af : nx_A q (nI A) (A + 1) := ⟨fun x x1 x2 => by rw [nI_leI x2 hA]; omega, fun _ => nI_1 A, by omega⟩
    rw [nI_1]
    by_cases big : A + 1 ≤ (q + 1) ^ 9
    · exact ⟨(q + 1) ^ 9 - (A + 1) + 1, xl_next K IV af (m0 := m) (fin (A + 1) af) _ (A + 1) 0 m fB aC aM aR aB (by omega) (by omega) big (Nat.le_refl _) (by omega) (fun c' a1 a2 => by omega) (fun _ _ => rfl) V⟩
    · have hN : nx_N q (A + 1) (-1) := Or.inl ⟨rfl, fun c a1 a2 => by omega⟩
      refine ⟨1, br_f (nI_ge (a := 0) (b := 2000000) (by omega) (by omega)) ?_⟩
      by_cases top : A + 1 < 2 ^ 31
      · exact br_t (nI_le (by omega) top) (fin (A + 1) af (-1) m fB aC aM aR aB hN (fun _ _ => rfl) V)
      · have eA : A = 2147483647 := by omega
        have neg : nI (A + 1) < 0 := by rw [eA]; decide
        refine br_f (fun y => ?_) (br_t ?_ (fin (A + 1) af (-1) m fB aC aM aR aB hN (fun _ _ => rfl) V))
        · exact absurd (Int32.lt_of_le_of_lt y neg) (nI_pos (by omega))
        · exact Int32.le_of_lt (Int32.lt_of_lt_of_le neg (nI_pos' hA))
  · refine br_f c ?_
    have af : nx_A q v1 (q + 1) := ⟨fun x x1 x2 => ⟨fun y => absurd (Int32.le_trans (nI_le (by omega) x2) y) c, fun y => by omega⟩, fun y => absurd (Int32.le_trans (nI_le (by omega) (by omega)) y) c, Nat.le_refl _⟩
    exact ⟨(q + 1) ^ 9 - (q + 1) + 1, xl_next K IV af (m0 := m) (fin (q + 1) af) _ (q + 1) 0 m fB aC aM aR aB (by omega) (Nat.le_refl _) pl (Nat.le_refl _) (by omega) (fun c' a1 a2 => by omega) (fun _ _ => rfl) V⟩
end
