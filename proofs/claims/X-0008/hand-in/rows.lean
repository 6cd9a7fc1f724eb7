section
/-! pure rows to paste: stores, nI and lN arithmetic, masks, shifts, narrowing, branches by naturals (pk_le, pk_lt, pk_eq), loops (lp1 .. lp16: the measure of the state; rp1 ..: recursion), negatives. Take what you need -/
theorem pk_us {f : Nat → Int32} {k : Nat} {x : Int32} : upd f k x k = x := if_pos rfl
theorem pk_un {f : Nat → Int32} {k j : Nat} {x : Int32} (h : j ≠ k) : upd f k x j = f j := if_neg h
theorem pk_uLs {f : Nat → Int64} {k : Nat} {x : Int64} : vp_updL f k x k = x := if_pos rfl
theorem pk_uLn {f : Nat → Int64} {k j : Nat} {x : Int64} (h : j ≠ k) : vp_updL f k x j = f j := if_neg h
theorem pk_sub {a b : Nat} (h : b ≤ a) : nI a - nI b = nI (a - b) := by
  obtain ⟨c, rfl⟩ : ∃ c, a = c + b := ⟨a - b, by omega⟩
  rw [← nI_add, Int32.add_sub_cancel, Nat.add_sub_cancel]
theorem pk_m1 (n : Nat) : nI (n + 1) + (-1) = nI n := by
  rw [← nI_1, Int32.add_assoc, show (1 : Int32) + (-1) = 0 from rfl, Int32.add_zero]
theorem pk_mul (a b : Nat) : nI a * nI b = nI (a * b) := (Int32.ofNat_mul a b).symm
theorem pk_div {a d : Nat} (ha : a < 2 ^ 31) (h0 : 0 < d) (hd : d < 2 ^ 31) : nI a / nI d = nI (a / d) := by
  apply Int32.toInt_inj.mp
  rw [lg_idiv_nonneg (by rw [nI_toInt ha]; omega) (by rw [nI_toInt hd]; omega), nI_toInt ha, nI_toInt hd, nI_toInt (Nat.lt_of_le_of_lt (Nat.div_le_self a d) ha)]
  first | rfl | exact (Int.natCast_ediv _ _).symm
theorem pk_rem {a d : Nat} (ha : a < 2 ^ 31) (h0 : 0 < d) (hd : d < 2 ^ 31) : nI a - nI a / nI d * nI d = nI (a % d) := by
  rw [pk_div ha h0 hd, pk_mul, pk_sub (Nat.div_mul_le_self a d)]
  exact congrArg nI (by have := Nat.div_add_mod' a d; omega)
theorem pk_sub_toInt {a b : Nat} (ha : a < 2 ^ 30) (hb : b < 2 ^ 30) : (nI a - nI b).toInt = (a : Int) - b := by
  rw [Int32.toInt_sub, nI_toInt (by omega), nI_toInt (by omega)]
  exact Int.bmod_eq_of_le (by omega) (by omega)
theorem pk_sneg {a b : Nat} (hb : b < 2 ^ 30) (h : a < b) : nI a - nI b < 0 := by
  rw [Int32.lt_iff_toInt_lt, pk_sub_toInt (by omega) hb, show (0 : Int32).toInt = 0 from by decide]
  omega
theorem pk_ix (x : Int32) {n : Nat} (hn : n < 2 ^ 31) : x < 0 ∨ nI n ≤ x ∨ ∃ j : Nat, j < n ∧ x = nI j := by
  by_cases h : x < 0
  · exact Or.inl h
  · obtain ⟨j, hj, rfl⟩ := nI_of h
    by_cases h2 : j < n
    · exact Or.inr (Or.inr ⟨j, h2, rfl⟩)
    · exact Or.inr (Or.inl (nI_le (by omega) hj))
theorem pk_le {x y : Int32} {A B : Prop} (a b : Nat) (f : a ≤ b → A) (g : b < a → B) (hx : x = nI a := by rfl) (hy : y = nI b := by rfl) (ha : a < 2 ^ 31 := by omega) (hb : b < 2 ^ 31 := by omega) : (x ≤ y → A) ∧ (¬ x ≤ y → B) := by
  subst hx hy
  rw [nI_leI ha hb]
  exact ⟨f, fun z => g (by omega)⟩
theorem pk_lt {x y : Int32} {A B : Prop} (a b : Nat) (f : a < b → A) (g : b ≤ a → B) (hx : x = nI a := by rfl) (hy : y = nI b := by rfl) (ha : a < 2 ^ 31 := by omega) (hb : b < 2 ^ 31 := by omega) : (x < y → A) ∧ (¬ x < y → B) := by
  subst hx hy
  rw [nI_ltI ha hb]
  exact ⟨f, fun z => g (by omega)⟩
theorem pk_eq {x y : Int32} {A B : Prop} (a b : Nat) (f : a = b → A) (g : a ≠ b → B) (hx : x = nI a := by rfl) (hy : y = nI b := by rfl) (ha : a < 2 ^ 31 := by omega) (hb : b < 2 ^ 31 := by omega) : (x = y → A) ∧ (¬ x = y → B) := by
  subst hx hy
  rw [nI_eq ha hb]
  exact ⟨f, g⟩
theorem pk_in {x : Int32} (n N : Nat) (h : n < N) (hx : x = nI n := by rfl) (hN : N < 2 ^ 31 := by omega) : vp_in x N := by
  subst hx
  exact vp_in_nI h hN
theorem pk_cl {x : Int32} (n : Nat) (hx : x = nI n := by rfl) (h : n < 2 ^ 31 := by omega) : x.toNatClampNeg = n := by
  subst hx
  exact nI_clamp h
theorem pk_tn {n : Nat} (h : n < 2 ^ 32) : (nI n).toBitVec.toNat = n := Nat.mod_eq_of_lt h
theorem pk_and (x : Int32) {m : Int32} (k : Nat) (hm : m.toBitVec.toNat = 2 ^ k - 1) : x &&& m = nI (x.toBitVec.toNat % 2 ^ k) := by
  apply Int32.toBitVec_inj.mp
  apply BitVec.eq_of_toNat_eq
  rw [Int32.toBitVec_and, BitVec.toNat_and, hm, Nat.and_two_pow_sub_one_eq_mod]
  show _ = (BitVec.ofNat 32 _).toNat
  rw [BitVec.toNat_ofNat]
  exact (Nat.mod_eq_of_lt (Nat.lt_of_le_of_lt (Nat.mod_le _ _) x.toBitVec.isLt)).symm
theorem pk_andN {n : Nat} (h : n < 2 ^ 32) {m : Int32} (k : Nat) (hm : m.toBitVec.toNat = 2 ^ k - 1) : nI n &&& m = nI (n % 2 ^ k) := by
  rw [pk_and _ k hm, pk_tn h]
theorem pk_andE (x : Int32) {m : Int32} (k : Nat) (hm : m.toBitVec.toNat = 2 ^ k - 1) : ∃ j : Nat, j < 2 ^ k ∧ x &&& m = nI j := ⟨_, Nat.mod_lt _ (Nat.two_pow_pos k), pk_and x k hm⟩
theorem pk_andIn (x : Int32) {m : Int32} (k : Nat) (hm : m.toBitVec.toNat = 2 ^ k - 1) (hk : k ≤ 30) : vp_in (x &&& m) (2 ^ k) := by
  obtain ⟨j, hj, e⟩ := pk_andE x k hm
  rw [e]
  exact vp_in_nI hj (Nat.lt_of_le_of_lt (Nat.pow_le_pow_right (by decide) hk) (by decide))
theorem pk_shl (a s : Int32) (k : Nat) (hs : (s.toBitVec.smod 32).toNat = k) : (a <<< s).toBitVec.toNat = a.toBitVec.toNat * 2 ^ k % 2 ^ 32 := by
  show (a.toBitVec <<< (s.toBitVec.smod 32).toNat).toNat = _
  rw [hs, BitVec.toNat_shiftLeft, Nat.shiftLeft_eq]
theorem pk_shlN {n : Nat} (s : Int32) (k : Nat) (hs : (s.toBitVec.smod 32).toNat = k) (h : n * 2 ^ k < 2 ^ 32) : nI n <<< s = nI (n * 2 ^ k) := by
  apply Int32.toBitVec_inj.mp
  apply BitVec.eq_of_toNat_eq
  have hn : n < 2 ^ 32 := Nat.lt_of_le_of_lt (Nat.le_mul_of_pos_right n (Nat.two_pow_pos k)) h
  rw [pk_shl _ _ k hs, pk_tn hn, pk_tn h, Nat.mod_eq_of_lt h]
theorem pk_shr (a s : Int32) (k : Nat) (hs : (s.toBitVec.smod 32).toNat = k) : (a >>> s).toInt = a.toInt >>> k := by
  show (a.toBitVec.sshiftRight (s.toBitVec.smod 32).toNat).toInt = _
  rw [hs, BitVec.toInt_sshiftRight]
  rfl
theorem pk_shrN {n : Nat} (h : n < 2 ^ 31) (s : Int32) (k : Nat) (hs : (s.toBitVec.smod 32).toNat = k) : nI n >>> s = nI (n / 2 ^ k) := by
  apply Int32.toInt_inj.mp
  have h2 : n / 2 ^ k ≤ n := Nat.div_le_self _ _
  rw [pk_shr _ _ k hs, nI_toInt h, nI_toInt (by omega), Int.shiftRight_eq_div_pow]
  rfl
theorem pk_ushr (x s : Int32) (k : Nat) (hs : ((s.toUInt32 &&& Int32.toUInt32 31).toBitVec % 32).toNat = k) : (x.toUInt32 >>> (s.toUInt32 &&& Int32.toUInt32 31)).toInt32.toBitVec.toNat = x.toBitVec.toNat / 2 ^ k := by
  have e : (x.toUInt32 >>> (s.toUInt32 &&& Int32.toUInt32 31)).toInt32.toBitVec = x.toBitVec >>> k := by
    rw [← hs]
    exact UInt32.toBitVec_shiftRight _ _
  rw [e, BitVec.toNat_ushiftRight, Nat.shiftRight_eq_div_pow]
theorem pk_ushrN {n : Nat} (hn : n < 2 ^ 32) (s : Int32) (k : Nat) (hs : ((s.toUInt32 &&& Int32.toUInt32 31).toBitVec % 32).toNat = k) : ((nI n).toUInt32 >>> (s.toUInt32 &&& Int32.toUInt32 31)).toInt32 = nI (n / 2 ^ k) := by
  apply Int32.toBitVec_inj.mp
  apply BitVec.eq_of_toNat_eq
  rw [pk_ushr _ s k hs, pk_tn hn, pk_tn (Nat.lt_of_le_of_lt (Nat.div_le_self _ _) hn)]
theorem pk_nb (z : Int32) : narrow .byte (.int z.toInt8.toInt32) = .int z.toInt8.toInt32 := congrArg Value.int (by simp)
theorem pk_ns (z : Int32) : narrow .short (.int z.toInt16.toInt32) = .int z.toInt16.toInt32 := congrArg Value.int (by simp)
theorem pk_fb (r : Int32) : fits .byte (.int r.toInt8.toInt32) = true := by
  have ⟨a, b⟩ := lg_i2b_range r
  have h1 : (-128 : Int32).toInt = -128 := by decide
  have h2 : (127 : Int32).toInt = 127 := by decide
  simp only [fits, Bool.and_eq_true, decide_eq_true_eq, Int32.le_iff_toInt_le, h1, h2]
  omega
theorem pk_fs (r : Int32) : fits .short (.int r.toInt16.toInt32) = true := by
  have ⟨a, b⟩ := lg_i2s_range r
  have h1 : (-32768 : Int32).toInt = -32768 := by decide
  have h2 : (32767 : Int32).toInt = 32767 := by decide
  simp only [fits, Bool.and_eq_true, decide_eq_true_eq, Int32.le_iff_toInt_le, h1, h2]
  omega
theorem pk_charN {q : Nat} (hq : q < 65536) : narrow .char (.int (nI q)) = .int (nI q) ∧ fits .char (.int (nI q)) = true := by
  constructor
  · have e : (nI q).toUInt32.toUInt16.toUInt32.toInt32 = nI q := by
      apply Int32.toBitVec_inj.mp
      apply BitVec.eq_of_toNat_eq
      show (nI q).toUInt32.toUInt16.toUInt32.toNat = q % 2 ^ 32
      rw [UInt16.toNat_toUInt32, UInt32.toNat_toUInt16, show (nI q).toUInt32.toNat = q % 2 ^ 32 from rfl]
      omega
    exact congrArg Value.int e
  · have a : (0 : Int32) ≤ nI q := nI_pos' (by omega)
    have b : nI q ≤ 65535 := nI_le (b := 65535) (by omega) (by decide)
    show (decide ((0 : Int32) ≤ nI q) && decide (nI q ≤ 65535)) = true
    rw [decide_eq_true a, decide_eq_true b]
    rfl
theorem pk_char (x : Int32) : (x.toUInt32 % 65536).toInt32 = nI (x.toBitVec.toNat % 65536) := by
  apply Int32.toBitVec_inj.mp
  apply BitVec.eq_of_toNat_eq
  rw [pk_tn (by omega)]
  show (x.toUInt32 % 65536).toNat = _
  rw [UInt32.toNat_mod]
  rfl
theorem pk_nc (x : Int32) : narrow .char (.int (x.toUInt32 % 65536).toInt32) = .int (x.toUInt32 % 65536).toInt32 := by
  rw [pk_char]
  exact (pk_charN (Nat.mod_lt _ (by decide))).1
theorem pk_fc (x : Int32) : fits .char (.int (x.toUInt32 % 65536).toInt32) = true := by
  rw [pk_char]
  exact (pk_charN (Nat.mod_lt _ (by decide))).2
theorem pk_vb (z : Int32) : vp_nar .byte z.toInt8.toInt32 = z.toInt8.toInt32 := by rw [vp_nar_byte]; simp
theorem pk_vs (z : Int32) : vp_nar .short z.toInt16.toInt32 = z.toInt16.toInt32 := by rw [vp_nar_short]; simp
theorem pk_vc (z : Int32) : vp_nar .char (z.toUInt32 % 65536).toInt32 = (z.toUInt32 % 65536).toInt32 := Value.int.inj (pk_nc z)
theorem pk_lT {n : Nat} (h : n < 2 ^ 63) : (lN n).toInt = (n : Int) := lg_ofNat_toInt h
theorem pk_lLT {a b : Nat} (ha : a < 2 ^ 63) (hb : b < 2 ^ 63) : lN a < lN b ↔ a < b := by
  rw [Int64.lt_iff_toInt_lt, pk_lT ha, pk_lT hb]; omega
theorem pk_lLE {a b : Nat} (ha : a < 2 ^ 63) (hb : b < 2 ^ 63) : lN a ≤ lN b ↔ a ≤ b := by
  rw [Int64.le_iff_toInt_le, pk_lT ha, pk_lT hb]; omega
theorem pk_lEQ {a b : Nat} (ha : a < 2 ^ 63) (hb : b < 2 ^ 63) : lN a = lN b ↔ a = b := by
  rw [← Int64.toInt_inj, pk_lT ha, pk_lT hb]; omega
theorem pk_lOf {x : Int64} (h : ¬ x < 0) : ∃ k : Nat, k < 2 ^ 63 ∧ x = lN k := by
  rw [Int64.lt_iff_toInt_lt] at h
  have h0 : (0 : Int64).toInt = 0 := by decide
  have hx := Int64.toInt_lt x
  refine ⟨x.toInt.toNat, by omega, Int64.toInt_inj.mp ?_⟩
  rw [pk_lT (by omega)]
  omega
theorem pk_lDiv {a b : Nat} (ha : a < 2 ^ 63) (h0 : 0 < b) (hb : b < 2 ^ 63) : lN a / lN b = lN (a / b) := by
  apply Int64.toInt_inj.mp
  rw [lg_ldiv_nonneg (by rw [pk_lT ha]; omega) (by rw [pk_lT hb]; omega), pk_lT ha, pk_lT hb, pk_lT (Nat.lt_of_le_of_lt (Nat.div_le_self a b) ha)]
  rfl
theorem pk_lRem {a b : Nat} (ha : a < 2 ^ 63) (h0 : 0 < b) (hb : b < 2 ^ 63) : lN a - lN a / lN b * lN b = lN (a % b) := by
  rw [pk_lDiv ha h0 hb, lN_mul, lN_sub (Nat.div_mul_le_self a b)]
  exact congrArg lN (by have := Nat.div_add_mod' a b; omega)
theorem pk_loop {σ : Type} (W : Nat → Nat → σ → Prop) (I : Nat → σ → Prop) (e i0 : Nat) (s : σ) (hi : i0 ≤ e) (h0 : I i0 s) (hx : ∀ n s, I e s → W (n + 1) e s)
    (hs : ∀ n i s, i < e → I i s → (∀ s', I (i + 1) s' → W n (i + 1) s') → W (n + 1) i s) : ∃ n, W n i0 s :=
  ⟨e + 1, loop_i W I e hx hs (e + 1) i0 s hi (by omega) h0⟩
theorem pk_loopD {σ : Type} (W : Nat → Nat → σ → Prop) (I : Nat → σ → Prop) (hx : ∀ n s, I 0 s → W (n + 1) 0 s)
    (hs : ∀ n i s, I (i + 1) s → (∀ s', I i s' → W n i s') → W (n + 1) (i + 1) s) : ∀ (e : Nat) (s : σ), I e s → W (e + 1) e s := by
  intro e
  induction e with
  | zero => exact fun s h => hx 0 s h
  | succ e ih => exact fun s h => hs (e + 1) e s h (fun s' h' => ih s' h')
theorem lp1 {A1 : Type} (W : Nat → A1 → Prop) (I : A1 → Prop) (μ : A1 → Nat) (hs : ∀ (n : Nat) (a1 : A1), I a1 → (∀ (b1 : A1), I b1 → μ b1 < μ a1 → W n b1) → W (n + 1) a1) (a1 : A1) (h : I a1) : ∃ n, W n a1 :=
  loop_m (σ := A1) (fun n s => W n s) (fun s => I s) (fun s => μ s) (fun n s hI hk => hs n s hI (fun b1 h9 hm => hk b1 h9 hm)) a1 h
theorem lp2 {A1 A2 : Type} (W : Nat → A1 → A2 → Prop) (I : A1 → A2 → Prop) (μ : A1 → A2 → Nat) (hs : ∀ (n : Nat) (a1 : A1) (a2 : A2), I a1 a2 → (∀ (b1 : A1) (b2 : A2), I b1 b2 → μ b1 b2 < μ a1 a2 → W n b1 b2) → W (n + 1) a1 a2) (a1 : A1) (a2 : A2) (h : I a1 a2) : ∃ n, W n a1 a2 :=
  loop_m (σ := A1 × A2) (fun n s => W n s.1 s.2) (fun s => I s.1 s.2) (fun s => μ s.1 s.2) (fun n s hI hk => hs n s.1 s.2 hI (fun b1 b2 h9 hm => hk (b1, b2) h9 hm)) (a1, a2) h
theorem lp3 {A1 A2 A3 : Type} (W : Nat → A1 → A2 → A3 → Prop) (I : A1 → A2 → A3 → Prop) (μ : A1 → A2 → A3 → Nat) (hs : ∀ (n : Nat) (a1 : A1) (a2 : A2) (a3 : A3), I a1 a2 a3 → (∀ (b1 : A1) (b2 : A2) (b3 : A3), I b1 b2 b3 → μ b1 b2 b3 < μ a1 a2 a3 → W n b1 b2 b3) → W (n + 1) a1 a2 a3) (a1 : A1) (a2 : A2) (a3 : A3) (h : I a1 a2 a3) : ∃ n, W n a1 a2 a3 :=
  loop_m (σ := A1 × A2 × A3) (fun n s => W n s.1 s.2.1 s.2.2) (fun s => I s.1 s.2.1 s.2.2) (fun s => μ s.1 s.2.1 s.2.2) (fun n s hI hk => hs n s.1 s.2.1 s.2.2 hI (fun b1 b2 b3 h9 hm => hk (b1, b2, b3) h9 hm)) (a1, a2, a3) h
theorem lp4 {A1 A2 A3 A4 : Type} (W : Nat → A1 → A2 → A3 → A4 → Prop) (I : A1 → A2 → A3 → A4 → Prop) (μ : A1 → A2 → A3 → A4 → Nat) (hs : ∀ (n : Nat) (a1 : A1) (a2 : A2) (a3 : A3) (a4 : A4), I a1 a2 a3 a4 → (∀ (b1 : A1) (b2 : A2) (b3 : A3) (b4 : A4), I b1 b2 b3 b4 → μ b1 b2 b3 b4 < μ a1 a2 a3 a4 → W n b1 b2 b3 b4) → W (n + 1) a1 a2 a3 a4) (a1 : A1) (a2 : A2) (a3 : A3) (a4 : A4) (h : I a1 a2 a3 a4) : ∃ n, W n a1 a2 a3 a4 :=
  loop_m (σ := A1 × A2 × A3 × A4) (fun n s => W n s.1 s.2.1 s.2.2.1 s.2.2.2) (fun s => I s.1 s.2.1 s.2.2.1 s.2.2.2) (fun s => μ s.1 s.2.1 s.2.2.1 s.2.2.2) (fun n s hI hk => hs n s.1 s.2.1 s.2.2.1 s.2.2.2 hI (fun b1 b2 b3 b4 h9 hm => hk (b1, b2, b3, b4) h9 hm)) (a1, a2, a3, a4) h
theorem lp5 {A1 A2 A3 A4 A5 : Type} (W : Nat → A1 → A2 → A3 → A4 → A5 → Prop) (I : A1 → A2 → A3 → A4 → A5 → Prop) (μ : A1 → A2 → A3 → A4 → A5 → Nat) (hs : ∀ (n : Nat) (a1 : A1) (a2 : A2) (a3 : A3) (a4 : A4) (a5 : A5), I a1 a2 a3 a4 a5 → (∀ (b1 : A1) (b2 : A2) (b3 : A3) (b4 : A4) (b5 : A5), I b1 b2 b3 b4 b5 → μ b1 b2 b3 b4 b5 < μ a1 a2 a3 a4 a5 → W n b1 b2 b3 b4 b5) → W (n + 1) a1 a2 a3 a4 a5) (a1 : A1) (a2 : A2) (a3 : A3) (a4 : A4) (a5 : A5) (h : I a1 a2 a3 a4 a5) : ∃ n, W n a1 a2 a3 a4 a5 :=
  loop_m (σ := A1 × A2 × A3 × A4 × A5) (fun n s => W n s.1 s.2.1 s.2.2.1 s.2.2.2.1 s.2.2.2.2) (fun s => I s.1 s.2.1 s.2.2.1 s.2.2.2.1 s.2.2.2.2) (fun s => μ s.1 s.2.1 s.2.2.1 s.2.2.2.1 s.2.2.2.2) (fun n s hI hk => hs n s.1 s.2.1 s.2.2.1 s.2.2.2.1 s.2.2.2.2 hI (fun b1 b2 b3 b4 b5 h9 hm => hk (b1, b2, b3, b4, b5) h9 hm)) (a1, a2, a3, a4, a5) h
theorem lp6 {A1 A2 A3 A4 A5 A6 : Type} (W : Nat → A1 → A2 → A3 → A4 → A5 → A6 → Prop) (I : A1 → A2 → A3 → A4 → A5 → A6 → Prop) (μ : A1 → A2 → A3 → A4 → A5 → A6 → Nat) (hs : ∀ (n : Nat) (a1 : A1) (a2 : A2) (a3 : A3) (a4 : A4) (a5 : A5) (a6 : A6), I a1 a2 a3 a4 a5 a6 → (∀ (b1 : A1) (b2 : A2) (b3 : A3) (b4 : A4) (b5 : A5) (b6 : A6), I b1 b2 b3 b4 b5 b6 → μ b1 b2 b3 b4 b5 b6 < μ a1 a2 a3 a4 a5 a6 → W n b1 b2 b3 b4 b5 b6) → W (n + 1) a1 a2 a3 a4 a5 a6) (a1 : A1) (a2 : A2) (a3 : A3) (a4 : A4) (a5 : A5) (a6 : A6) (h : I a1 a2 a3 a4 a5 a6) : ∃ n, W n a1 a2 a3 a4 a5 a6 :=
  loop_m (σ := A1 × A2 × A3 × A4 × A5 × A6) (fun n s => W n s.1 s.2.1 s.2.2.1 s.2.2.2.1 s.2.2.2.2.1 s.2.2.2.2.2) (fun s => I s.1 s.2.1 s.2.2.1 s.2.2.2.1 s.2.2.2.2.1 s.2.2.2.2.2) (fun s => μ s.1 s.2.1 s.2.2.1 s.2.2.2.1 s.2.2.2.2.1 s.2.2.2.2.2) (fun n s hI hk => hs n s.1 s.2.1 s.2.2.1 s.2.2.2.1 s.2.2.2.2.1 s.2.2.2.2.2 hI (fun b1 b2 b3 b4 b5 b6 h9 hm => hk (b1, b2, b3, b4, b5, b6) h9 hm)) (a1, a2, a3, a4, a5, a6) h
theorem lp7 {A1 A2 A3 A4 A5 A6 A7 : Type} (W : Nat → A1 → A2 → A3 → A4 → A5 → A6 → A7 → Prop) (I : A1 → A2 → A3 → A4 → A5 → A6 → A7 → Prop) (μ : A1 → A2 → A3 → A4 → A5 → A6 → A7 → Nat) (hs : ∀ (n : Nat) (a1 : A1) (a2 : A2) (a3 : A3) (a4 : A4) (a5 : A5) (a6 : A6) (a7 : A7), I a1 a2 a3 a4 a5 a6 a7 → (∀ (b1 : A1) (b2 : A2) (b3 : A3) (b4 : A4) (b5 : A5) (b6 : A6) (b7 : A7), I b1 b2 b3 b4 b5 b6 b7 → μ b1 b2 b3 b4 b5 b6 b7 < μ a1 a2 a3 a4 a5 a6 a7 → W n b1 b2 b3 b4 b5 b6 b7) → W (n + 1) a1 a2 a3 a4 a5 a6 a7) (a1 : A1) (a2 : A2) (a3 : A3) (a4 : A4) (a5 : A5) (a6 : A6) (a7 : A7) (h : I a1 a2 a3 a4 a5 a6 a7) : ∃ n, W n a1 a2 a3 a4 a5 a6 a7 :=
  loop_m (σ := A1 × A2 × A3 × A4 × A5 × A6 × A7) (fun n s => W n s.1 s.2.1 s.2.2.1 s.2.2.2.1 s.2.2.2.2.1 s.2.2.2.2.2.1 s.2.2.2.2.2.2) (fun s => I s.1 s.2.1 s.2.2.1 s.2.2.2.1 s.2.2.2.2.1 s.2.2.2.2.2.1 s.2.2.2.2.2.2) (fun s => μ s.1 s.2.1 s.2.2.1 s.2.2.2.1 s.2.2.2.2.1 s.2.2.2.2.2.1 s.2.2.2.2.2.2) (fun n s hI hk => hs n s.1 s.2.1 s.2.2.1 s.2.2.2.1 s.2.2.2.2.1 s.2.2.2.2.2.1 s.2.2.2.2.2.2 hI (fun b1 b2 b3 b4 b5 b6 b7 h9 hm => hk (b1, b2, b3, b4, b5, b6, b7) h9 hm)) (a1, a2, a3, a4, a5, a6, a7) h
theorem lp8 {A1 A2 A3 A4 A5 A6 A7 A8 : Type} (W : Nat → A1 → A2 → A3 → A4 → A5 → A6 → A7 → A8 → Prop) (I : A1 → A2 → A3 → A4 → A5 → A6 → A7 → A8 → Prop) (μ : A1 → A2 → A3 → A4 → A5 → A6 → A7 → A8 → Nat) (hs : ∀ (n : Nat) (a1 : A1) (a2 : A2) (a3 : A3) (a4 : A4) (a5 : A5) (a6 : A6) (a7 : A7) (a8 : A8), I a1 a2 a3 a4 a5 a6 a7 a8 → (∀ (b1 : A1) (b2 : A2) (b3 : A3) (b4 : A4) (b5 : A5) (b6 : A6) (b7 : A7) (b8 : A8), I b1 b2 b3 b4 b5 b6 b7 b8 → μ b1 b2 b3 b4 b5 b6 b7 b8 < μ a1 a2 a3 a4 a5 a6 a7 a8 → W n b1 b2 b3 b4 b5 b6 b7 b8) → W (n + 1) a1 a2 a3 a4 a5 a6 a7 a8) (a1 : A1) (a2 : A2) (a3 : A3) (a4 : A4) (a5 : A5) (a6 : A6) (a7 : A7) (a8 : A8) (h : I a1 a2 a3 a4 a5 a6 a7 a8) : ∃ n, W n a1 a2 a3 a4 a5 a6 a7 a8 :=
  loop_m (σ := A1 × A2 × A3 × A4 × A5 × A6 × A7 × A8) (fun n s => W n s.1 s.2.1 s.2.2.1 s.2.2.2.1 s.2.2.2.2.1 s.2.2.2.2.2.1 s.2.2.2.2.2.2.1 s.2.2.2.2.2.2.2) (fun s => I s.1 s.2.1 s.2.2.1 s.2.2.2.1 s.2.2.2.2.1 s.2.2.2.2.2.1 s.2.2.2.2.2.2.1 s.2.2.2.2.2.2.2) (fun s => μ s.1 s.2.1 s.2.2.1 s.2.2.2.1 s.2.2.2.2.1 s.2.2.2.2.2.1 s.2.2.2.2.2.2.1 s.2.2.2.2.2.2.2) (fun n s hI hk => hs n s.1 s.2.1 s.2.2.1 s.2.2.2.1 s.2.2.2.2.1 s.2.2.2.2.2.1 s.2.2.2.2.2.2.1 s.2.2.2.2.2.2.2 hI (fun b1 b2 b3 b4 b5 b6 b7 b8 h9 hm => hk (b1, b2, b3, b4, b5, b6, b7, b8) h9 hm)) (a1, a2, a3, a4, a5, a6, a7, a8) h
theorem lp9 {A1 A2 A3 A4 A5 A6 A7 A8 A9 : Type} (W : Nat → A1 → A2 → A3 → A4 → A5 → A6 → A7 → A8 → A9 → Prop) (I : A1 → A2 → A3 → A4 → A5 → A6 → A7 → A8 → A9 → Prop) (μ : A1 → A2 → A3 → A4 → A5 → A6 → A7 → A8 → A9 → Nat) (hs : ∀ (n : Nat) (a1 : A1) (a2 : A2) (a3 : A3) (a4 : A4) (a5 : A5) (a6 : A6) (a7 : A7) (a8 : A8) (a9 : A9), I a1 a2 a3 a4 a5 a6 a7 a8 a9 → (∀ (b1 : A1) (b2 : A2) (b3 : A3) (b4 : A4) (b5 : A5) (b6 : A6) (b7 : A7) (b8 : A8) (b9 : A9), I b1 b2 b3 b4 b5 b6 b7 b8 b9 → μ b1 b2 b3 b4 b5 b6 b7 b8 b9 < μ a1 a2 a3 a4 a5 a6 a7 a8 a9 → W n b1 b2 b3 b4 b5 b6 b7 b8 b9) → W (n + 1) a1 a2 a3 a4 a5 a6 a7 a8 a9) (a1 : A1) (a2 : A2) (a3 : A3) (a4 : A4) (a5 : A5) (a6 : A6) (a7 : A7) (a8 : A8) (a9 : A9) (h : I a1 a2 a3 a4 a5 a6 a7 a8 a9) : ∃ n, W n a1 a2 a3 a4 a5 a6 a7 a8 a9 :=
  loop_m (σ := A1 × A2 × A3 × A4 × A5 × A6 × A7 × A8 × A9) (fun n s => W n s.1 s.2.1 s.2.2.1 s.2.2.2.1 s.2.2.2.2.1 s.2.2.2.2.2.1 s.2.2.2.2.2.2.1 s.2.2.2.2.2.2.2.1 s.2.2.2.2.2.2.2.2) (fun s => I s.1 s.2.1 s.2.2.1 s.2.2.2.1 s.2.2.2.2.1 s.2.2.2.2.2.1 s.2.2.2.2.2.2.1 s.2.2.2.2.2.2.2.1 s.2.2.2.2.2.2.2.2) (fun s => μ s.1 s.2.1 s.2.2.1 s.2.2.2.1 s.2.2.2.2.1 s.2.2.2.2.2.1 s.2.2.2.2.2.2.1 s.2.2.2.2.2.2.2.1 s.2.2.2.2.2.2.2.2) (fun n s hI hk => hs n s.1 s.2.1 s.2.2.1 s.2.2.2.1 s.2.2.2.2.1 s.2.2.2.2.2.1 s.2.2.2.2.2.2.1 s.2.2.2.2.2.2.2.1 s.2.2.2.2.2.2.2.2 hI (fun b1 b2 b3 b4 b5 b6 b7 b8 b9 h9 hm => hk (b1, b2, b3, b4, b5, b6, b7, b8, b9) h9 hm)) (a1, a2, a3, a4, a5, a6, a7, a8, a9) h
theorem lp10 {A1 A2 A3 A4 A5 A6 A7 A8 A9 A10 : Type} (W : Nat → A1 → A2 → A3 → A4 → A5 → A6 → A7 → A8 → A9 → A10 → Prop) (I : A1 → A2 → A3 → A4 → A5 → A6 → A7 → A8 → A9 → A10 → Prop) (μ : A1 → A2 → A3 → A4 → A5 → A6 → A7 → A8 → A9 → A10 → Nat) (hs : ∀ (n : Nat) (a1 : A1) (a2 : A2) (a3 : A3) (a4 : A4) (a5 : A5) (a6 : A6) (a7 : A7) (a8 : A8) (a9 : A9) (a10 : A10), I a1 a2 a3 a4 a5 a6 a7 a8 a9 a10 → (∀ (b1 : A1) (b2 : A2) (b3 : A3) (b4 : A4) (b5 : A5) (b6 : A6) (b7 : A7) (b8 : A8) (b9 : A9) (b10 : A10), I b1 b2 b3 b4 b5 b6 b7 b8 b9 b10 → μ b1 b2 b3 b4 b5 b6 b7 b8 b9 b10 < μ a1 a2 a3 a4 a5 a6 a7 a8 a9 a10 → W n b1 b2 b3 b4 b5 b6 b7 b8 b9 b10) → W (n + 1) a1 a2 a3 a4 a5 a6 a7 a8 a9 a10) (a1 : A1) (a2 : A2) (a3 : A3) (a4 : A4) (a5 : A5) (a6 : A6) (a7 : A7) (a8 : A8) (a9 : A9) (a10 : A10) (h : I a1 a2 a3 a4 a5 a6 a7 a8 a9 a10) : ∃ n, W n a1 a2 a3 a4 a5 a6 a7 a8 a9 a10 :=
  loop_m (σ := A1 × A2 × A3 × A4 × A5 × A6 × A7 × A8 × A9 × A10) (fun n s => W n s.1 s.2.1 s.2.2.1 s.2.2.2.1 s.2.2.2.2.1 s.2.2.2.2.2.1 s.2.2.2.2.2.2.1 s.2.2.2.2.2.2.2.1 s.2.2.2.2.2.2.2.2.1 s.2.2.2.2.2.2.2.2.2) (fun s => I s.1 s.2.1 s.2.2.1 s.2.2.2.1 s.2.2.2.2.1 s.2.2.2.2.2.1 s.2.2.2.2.2.2.1 s.2.2.2.2.2.2.2.1 s.2.2.2.2.2.2.2.2.1 s.2.2.2.2.2.2.2.2.2) (fun s => μ s.1 s.2.1 s.2.2.1 s.2.2.2.1 s.2.2.2.2.1 s.2.2.2.2.2.1 s.2.2.2.2.2.2.1 s.2.2.2.2.2.2.2.1 s.2.2.2.2.2.2.2.2.1 s.2.2.2.2.2.2.2.2.2) (fun n s hI hk => hs n s.1 s.2.1 s.2.2.1 s.2.2.2.1 s.2.2.2.2.1 s.2.2.2.2.2.1 s.2.2.2.2.2.2.1 s.2.2.2.2.2.2.2.1 s.2.2.2.2.2.2.2.2.1 s.2.2.2.2.2.2.2.2.2 hI (fun b1 b2 b3 b4 b5 b6 b7 b8 b9 b10 h9 hm => hk (b1, b2, b3, b4, b5, b6, b7, b8, b9, b10) h9 hm)) (a1, a2, a3, a4, a5, a6, a7, a8, a9, a10) h
theorem lp11 {A1 A2 A3 A4 A5 A6 A7 A8 A9 A10 A11 : Type} (W : Nat → A1 → A2 → A3 → A4 → A5 → A6 → A7 → A8 → A9 → A10 → A11 → Prop) (I : A1 → A2 → A3 → A4 → A5 → A6 → A7 → A8 → A9 → A10 → A11 → Prop) (μ : A1 → A2 → A3 → A4 → A5 → A6 → A7 → A8 → A9 → A10 → A11 → Nat) (hs : ∀ (n : Nat) (a1 : A1) (a2 : A2) (a3 : A3) (a4 : A4) (a5 : A5) (a6 : A6) (a7 : A7) (a8 : A8) (a9 : A9) (a10 : A10) (a11 : A11), I a1 a2 a3 a4 a5 a6 a7 a8 a9 a10 a11 → (∀ (b1 : A1) (b2 : A2) (b3 : A3) (b4 : A4) (b5 : A5) (b6 : A6) (b7 : A7) (b8 : A8) (b9 : A9) (b10 : A10) (b11 : A11), I b1 b2 b3 b4 b5 b6 b7 b8 b9 b10 b11 → μ b1 b2 b3 b4 b5 b6 b7 b8 b9 b10 b11 < μ a1 a2 a3 a4 a5 a6 a7 a8 a9 a10 a11 → W n b1 b2 b3 b4 b5 b6 b7 b8 b9 b10 b11) → W (n + 1) a1 a2 a3 a4 a5 a6 a7 a8 a9 a10 a11) (a1 : A1) (a2 : A2) (a3 : A3) (a4 : A4) (a5 : A5) (a6 : A6) (a7 : A7) (a8 : A8) (a9 : A9) (a10 : A10) (a11 : A11) (h : I a1 a2 a3 a4 a5 a6 a7 a8 a9 a10 a11) : ∃ n, W n a1 a2 a3 a4 a5 a6 a7 a8 a9 a10 a11 :=
  loop_m (σ := A1 × A2 × A3 × A4 × A5 × A6 × A7 × A8 × A9 × A10 × A11) (fun n s => W n s.1 s.2.1 s.2.2.1 s.2.2.2.1 s.2.2.2.2.1 s.2.2.2.2.2.1 s.2.2.2.2.2.2.1 s.2.2.2.2.2.2.2.1 s.2.2.2.2.2.2.2.2.1 s.2.2.2.2.2.2.2.2.2.1 s.2.2.2.2.2.2.2.2.2.2) (fun s => I s.1 s.2.1 s.2.2.1 s.2.2.2.1 s.2.2.2.2.1 s.2.2.2.2.2.1 s.2.2.2.2.2.2.1 s.2.2.2.2.2.2.2.1 s.2.2.2.2.2.2.2.2.1 s.2.2.2.2.2.2.2.2.2.1 s.2.2.2.2.2.2.2.2.2.2) (fun s => μ s.1 s.2.1 s.2.2.1 s.2.2.2.1 s.2.2.2.2.1 s.2.2.2.2.2.1 s.2.2.2.2.2.2.1 s.2.2.2.2.2.2.2.1 s.2.2.2.2.2.2.2.2.1 s.2.2.2.2.2.2.2.2.2.1 s.2.2.2.2.2.2.2.2.2.2) (fun n s hI hk => hs n s.1 s.2.1 s.2.2.1 s.2.2.2.1 s.2.2.2.2.1 s.2.2.2.2.2.1 s.2.2.2.2.2.2.1 s.2.2.2.2.2.2.2.1 s.2.2.2.2.2.2.2.2.1 s.2.2.2.2.2.2.2.2.2.1 s.2.2.2.2.2.2.2.2.2.2 hI (fun b1 b2 b3 b4 b5 b6 b7 b8 b9 b10 b11 h9 hm => hk (b1, b2, b3, b4, b5, b6, b7, b8, b9, b10, b11) h9 hm)) (a1, a2, a3, a4, a5, a6, a7, a8, a9, a10, a11) h
theorem lp12 {A1 A2 A3 A4 A5 A6 A7 A8 A9 A10 A11 A12 : Type} (W : Nat → A1 → A2 → A3 → A4 → A5 → A6 → A7 → A8 → A9 → A10 → A11 → A12 → Prop) (I : A1 → A2 → A3 → A4 → A5 → A6 → A7 → A8 → A9 → A10 → A11 → A12 → Prop) (μ : A1 → A2 → A3 → A4 → A5 → A6 → A7 → A8 → A9 → A10 → A11 → A12 → Nat) (hs : ∀ (n : Nat) (a1 : A1) (a2 : A2) (a3 : A3) (a4 : A4) (a5 : A5) (a6 : A6) (a7 : A7) (a8 : A8) (a9 : A9) (a10 : A10) (a11 : A11) (a12 : A12), I a1 a2 a3 a4 a5 a6 a7 a8 a9 a10 a11 a12 → (∀ (b1 : A1) (b2 : A2) (b3 : A3) (b4 : A4) (b5 : A5) (b6 : A6) (b7 : A7) (b8 : A8) (b9 : A9) (b10 : A10) (b11 : A11) (b12 : A12), I b1 b2 b3 b4 b5 b6 b7 b8 b9 b10 b11 b12 → μ b1 b2 b3 b4 b5 b6 b7 b8 b9 b10 b11 b12 < μ a1 a2 a3 a4 a5 a6 a7 a8 a9 a10 a11 a12 → W n b1 b2 b3 b4 b5 b6 b7 b8 b9 b10 b11 b12) → W (n + 1) a1 a2 a3 a4 a5 a6 a7 a8 a9 a10 a11 a12) (a1 : A1) (a2 : A2) (a3 : A3) (a4 : A4) (a5 : A5) (a6 : A6) (a7 : A7) (a8 : A8) (a9 : A9) (a10 : A10) (a11 : A11) (a12 : A12) (h : I a1 a2 a3 a4 a5 a6 a7 a8 a9 a10 a11 a12) : ∃ n, W n a1 a2 a3 a4 a5 a6 a7 a8 a9 a10 a11 a12 :=
  loop_m (σ := A1 × A2 × A3 × A4 × A5 × A6 × A7 × A8 × A9 × A10 × A11 × A12) (fun n s => W n s.1 s.2.1 s.2.2.1 s.2.2.2.1 s.2.2.2.2.1 s.2.2.2.2.2.1 s.2.2.2.2.2.2.1 s.2.2.2.2.2.2.2.1 s.2.2.2.2.2.2.2.2.1 s.2.2.2.2.2.2.2.2.2.1 s.2.2.2.2.2.2.2.2.2.2.1 s.2.2.2.2.2.2.2.2.2.2.2) (fun s => I s.1 s.2.1 s.2.2.1 s.2.2.2.1 s.2.2.2.2.1 s.2.2.2.2.2.1 s.2.2.2.2.2.2.1 s.2.2.2.2.2.2.2.1 s.2.2.2.2.2.2.2.2.1 s.2.2.2.2.2.2.2.2.2.1 s.2.2.2.2.2.2.2.2.2.2.1 s.2.2.2.2.2.2.2.2.2.2.2) (fun s => μ s.1 s.2.1 s.2.2.1 s.2.2.2.1 s.2.2.2.2.1 s.2.2.2.2.2.1 s.2.2.2.2.2.2.1 s.2.2.2.2.2.2.2.1 s.2.2.2.2.2.2.2.2.1 s.2.2.2.2.2.2.2.2.2.1 s.2.2.2.2.2.2.2.2.2.2.1 s.2.2.2.2.2.2.2.2.2.2.2) (fun n s hI hk => hs n s.1 s.2.1 s.2.2.1 s.2.2.2.1 s.2.2.2.2.1 s.2.2.2.2.2.1 s.2.2.2.2.2.2.1 s.2.2.2.2.2.2.2.1 s.2.2.2.2.2.2.2.2.1 s.2.2.2.2.2.2.2.2.2.1 s.2.2.2.2.2.2.2.2.2.2.1 s.2.2.2.2.2.2.2.2.2.2.2 hI (fun b1 b2 b3 b4 b5 b6 b7 b8 b9 b10 b11 b12 h9 hm => hk (b1, b2, b3, b4, b5, b6, b7, b8, b9, b10, b11, b12) h9 hm)) (a1, a2, a3, a4, a5, a6, a7, a8, a9, a10, a11, a12) h
theorem lp13 {A1 A2 A3 A4 A5 A6 A7 A8 A9 A10 A11 A12 A13 : Type} (W : Nat → A1 → A2 → A3 → A4 → A5 → A6 → A7 → A8 → A9 → A10 → A11 → A12 → A13 → Prop) (I : A1 → A2 → A3 → A4 → A5 → A6 → A7 → A8 → A9 → A10 → A11 → A12 → A13 → Prop) (μ : A1 → A2 → A3 → A4 → A5 → A6 → A7 → A8 → A9 → A10 → A11 → A12 → A13 → Nat) (hs : ∀ (n : Nat) (a1 : A1) (a2 : A2) (a3 : A3) (a4 : A4) (a5 : A5) (a6 : A6) (a7 : A7) (a8 : A8) (a9 : A9) (a10 : A10) (a11 : A11) (a12 : A12) (a13 : A13), I a1 a2 a3 a4 a5 a6 a7 a8 a9 a10 a11 a12 a13 → (∀ (b1 : A1) (b2 : A2) (b3 : A3) (b4 : A4) (b5 : A5) (b6 : A6) (b7 : A7) (b8 : A8) (b9 : A9) (b10 : A10) (b11 : A11) (b12 : A12) (b13 : A13), I b1 b2 b3 b4 b5 b6 b7 b8 b9 b10 b11 b12 b13 → μ b1 b2 b3 b4 b5 b6 b7 b8 b9 b10 b11 b12 b13 < μ a1 a2 a3 a4 a5 a6 a7 a8 a9 a10 a11 a12 a13 → W n b1 b2 b3 b4 b5 b6 b7 b8 b9 b10 b11 b12 b13) → W (n + 1) a1 a2 a3 a4 a5 a6 a7 a8 a9 a10 a11 a12 a13) (a1 : A1) (a2 : A2) (a3 : A3) (a4 : A4) (a5 : A5) (a6 : A6) (a7 : A7) (a8 : A8) (a9 : A9) (a10 : A10) (a11 : A11) (a12 : A12) (a13 : A13) (h : I a1 a2 a3 a4 a5 a6 a7 a8 a9 a10 a11 a12 a13) : ∃ n, W n a1 a2 a3 a4 a5 a6 a7 a8 a9 a10 a11 a12 a13 :=
  loop_m (σ := A1 × A2 × A3 × A4 × A5 × A6 × A7 × A8 × A9 × A10 × A11 × A12 × A13) (fun n s => W n s.1 s.2.1 s.2.2.1 s.2.2.2.1 s.2.2.2.2.1 s.2.2.2.2.2.1 s.2.2.2.2.2.2.1 s.2.2.2.2.2.2.2.1 s.2.2.2.2.2.2.2.2.1 s.2.2.2.2.2.2.2.2.2.1 s.2.2.2.2.2.2.2.2.2.2.1 s.2.2.2.2.2.2.2.2.2.2.2.1 s.2.2.2.2.2.2.2.2.2.2.2.2) (fun s => I s.1 s.2.1 s.2.2.1 s.2.2.2.1 s.2.2.2.2.1 s.2.2.2.2.2.1 s.2.2.2.2.2.2.1 s.2.2.2.2.2.2.2.1 s.2.2.2.2.2.2.2.2.1 s.2.2.2.2.2.2.2.2.2.1 s.2.2.2.2.2.2.2.2.2.2.1 s.2.2.2.2.2.2.2.2.2.2.2.1 s.2.2.2.2.2.2.2.2.2.2.2.2) (fun s => μ s.1 s.2.1 s.2.2.1 s.2.2.2.1 s.2.2.2.2.1 s.2.2.2.2.2.1 s.2.2.2.2.2.2.1 s.2.2.2.2.2.2.2.1 s.2.2.2.2.2.2.2.2.1 s.2.2.2.2.2.2.2.2.2.1 s.2.2.2.2.2.2.2.2.2.2.1 s.2.2.2.2.2.2.2.2.2.2.2.1 s.2.2.2.2.2.2.2.2.2.2.2.2) (fun n s hI hk => hs n s.1 s.2.1 s.2.2.1 s.2.2.2.1 s.2.2.2.2.1 s.2.2.2.2.2.1 s.2.2.2.2.2.2.1 s.2.2.2.2.2.2.2.1 s.2.2.2.2.2.2.2.2.1 s.2.2.2.2.2.2.2.2.2.1 s.2.2.2.2.2.2.2.2.2.2.1 s.2.2.2.2.2.2.2.2.2.2.2.1 s.2.2.2.2.2.2.2.2.2.2.2.2 hI (fun b1 b2 b3 b4 b5 b6 b7 b8 b9 b10 b11 b12 b13 h9 hm => hk (b1, b2, b3, b4, b5, b6, b7, b8, b9, b10, b11, b12, b13) h9 hm)) (a1, a2, a3, a4, a5, a6, a7, a8, a9, a10, a11, a12, a13) h
theorem lp14 {A1 A2 A3 A4 A5 A6 A7 A8 A9 A10 A11 A12 A13 A14 : Type} (W : Nat → A1 → A2 → A3 → A4 → A5 → A6 → A7 → A8 → A9 → A10 → A11 → A12 → A13 → A14 → Prop) (I : A1 → A2 → A3 → A4 → A5 → A6 → A7 → A8 → A9 → A10 → A11 → A12 → A13 → A14 → Prop) (μ : A1 → A2 → A3 → A4 → A5 → A6 → A7 → A8 → A9 → A10 → A11 → A12 → A13 → A14 → Nat) (hs : ∀ (n : Nat) (a1 : A1) (a2 : A2) (a3 : A3) (a4 : A4) (a5 : A5) (a6 : A6) (a7 : A7) (a8 : A8) (a9 : A9) (a10 : A10) (a11 : A11) (a12 : A12) (a13 : A13) (a14 : A14), I a1 a2 a3 a4 a5 a6 a7 a8 a9 a10 a11 a12 a13 a14 → (∀ (b1 : A1) (b2 : A2) (b3 : A3) (b4 : A4) (b5 : A5) (b6 : A6) (b7 : A7) (b8 : A8) (b9 : A9) (b10 : A10) (b11 : A11) (b12 : A12) (b13 : A13) (b14 : A14), I b1 b2 b3 b4 b5 b6 b7 b8 b9 b10 b11 b12 b13 b14 → μ b1 b2 b3 b4 b5 b6 b7 b8 b9 b10 b11 b12 b13 b14 < μ a1 a2 a3 a4 a5 a6 a7 a8 a9 a10 a11 a12 a13 a14 → W n b1 b2 b3 b4 b5 b6 b7 b8 b9 b10 b11 b12 b13 b14) → W (n + 1) a1 a2 a3 a4 a5 a6 a7 a8 a9 a10 a11 a12 a13 a14) (a1 : A1) (a2 : A2) (a3 : A3) (a4 : A4) (a5 : A5) (a6 : A6) (a7 : A7) (a8 : A8) (a9 : A9) (a10 : A10) (a11 : A11) (a12 : A12) (a13 : A13) (a14 : A14) (h : I a1 a2 a3 a4 a5 a6 a7 a8 a9 a10 a11 a12 a13 a14) : ∃ n, W n a1 a2 a3 a4 a5 a6 a7 a8 a9 a10 a11 a12 a13 a14 :=
  loop_m (σ := A1 × A2 × A3 × A4 × A5 × A6 × A7 × A8 × A9 × A10 × A11 × A12 × A13 × A14) (fun n s => W n s.1 s.2.1 s.2.2.1 s.2.2.2.1 s.2.2.2.2.1 s.2.2.2.2.2.1 s.2.2.2.2.2.2.1 s.2.2.2.2.2.2.2.1 s.2.2.2.2.2.2.2.2.1 s.2.2.2.2.2.2.2.2.2.1 s.2.2.2.2.2.2.2.2.2.2.1 s.2.2.2.2.2.2.2.2.2.2.2.1 s.2.2.2.2.2.2.2.2.2.2.2.2.1 s.2.2.2.2.2.2.2.2.2.2.2.2.2) (fun s => I s.1 s.2.1 s.2.2.1 s.2.2.2.1 s.2.2.2.2.1 s.2.2.2.2.2.1 s.2.2.2.2.2.2.1 s.2.2.2.2.2.2.2.1 s.2.2.2.2.2.2.2.2.1 s.2.2.2.2.2.2.2.2.2.1 s.2.2.2.2.2.2.2.2.2.2.1 s.2.2.2.2.2.2.2.2.2.2.2.1 s.2.2.2.2.2.2.2.2.2.2.2.2.1 s.2.2.2.2.2.2.2.2.2.2.2.2.2) (fun s => μ s.1 s.2.1 s.2.2.1 s.2.2.2.1 s.2.2.2.2.1 s.2.2.2.2.2.1 s.2.2.2.2.2.2.1 s.2.2.2.2.2.2.2.1 s.2.2.2.2.2.2.2.2.1 s.2.2.2.2.2.2.2.2.2.1 s.2.2.2.2.2.2.2.2.2.2.1 s.2.2.2.2.2.2.2.2.2.2.2.1 s.2.2.2.2.2.2.2.2.2.2.2.2.1 s.2.2.2.2.2.2.2.2.2.2.2.2.2) (fun n s hI hk => hs n s.1 s.2.1 s.2.2.1 s.2.2.2.1 s.2.2.2.2.1 s.2.2.2.2.2.1 s.2.2.2.2.2.2.1 s.2.2.2.2.2.2.2.1 s.2.2.2.2.2.2.2.2.1 s.2.2.2.2.2.2.2.2.2.1 s.2.2.2.2.2.2.2.2.2.2.1 s.2.2.2.2.2.2.2.2.2.2.2.1 s.2.2.2.2.2.2.2.2.2.2.2.2.1 s.2.2.2.2.2.2.2.2.2.2.2.2.2 hI (fun b1 b2 b3 b4 b5 b6 b7 b8 b9 b10 b11 b12 b13 b14 h9 hm => hk (b1, b2, b3, b4, b5, b6, b7, b8, b9, b10, b11, b12, b13, b14) h9 hm)) (a1, a2, a3, a4, a5, a6, a7, a8, a9, a10, a11, a12, a13, a14) h
theorem lp15 {A1 A2 A3 A4 A5 A6 A7 A8 A9 A10 A11 A12 A13 A14 A15 : Type} (W : Nat → A1 → A2 → A3 → A4 → A5 → A6 → A7 → A8 → A9 → A10 → A11 → A12 → A13 → A14 → A15 → Prop) (I : A1 → A2 → A3 → A4 → A5 → A6 → A7 → A8 → A9 → A10 → A11 → A12 → A13 → A14 → A15 → Prop) (μ : A1 → A2 → A3 → A4 → A5 → A6 → A7 → A8 → A9 → A10 → A11 → A12 → A13 → A14 → A15 → Nat) (hs : ∀ (n : Nat) (a1 : A1) (a2 : A2) (a3 : A3) (a4 : A4) (a5 : A5) (a6 : A6) (a7 : A7) (a8 : A8) (a9 : A9) (a10 : A10) (a11 : A11) (a12 : A12) (a13 : A13) (a14 : A14) (a15 : A15), I a1 a2 a3 a4 a5 a6 a7 a8 a9 a10 a11 a12 a13 a14 a15 → (∀ (b1 : A1) (b2 : A2) (b3 : A3) (b4 : A4) (b5 : A5) (b6 : A6) (b7 : A7) (b8 : A8) (b9 : A9) (b10 : A10) (b11 : A11) (b12 : A12) (b13 : A13) (b14 : A14) (b15 : A15), I b1 b2 b3 b4 b5 b6 b7 b8 b9 b10 b11 b12 b13 b14 b15 → μ b1 b2 b3 b4 b5 b6 b7 b8 b9 b10 b11 b12 b13 b14 b15 < μ a1 a2 a3 a4 a5 a6 a7 a8 a9 a10 a11 a12 a13 a14 a15 → W n b1 b2 b3 b4 b5 b6 b7 b8 b9 b10 b11 b12 b13 b14 b15) → W (n + 1) a1 a2 a3 a4 a5 a6 a7 a8 a9 a10 a11 a12 a13 a14 a15) (a1 : A1) (a2 : A2) (a3 : A3) (a4 : A4) (a5 : A5) (a6 : A6) (a7 : A7) (a8 : A8) (a9 : A9) (a10 : A10) (a11 : A11) (a12 : A12) (a13 : A13) (a14 : A14) (a15 : A15) (h : I a1 a2 a3 a4 a5 a6 a7 a8 a9 a10 a11 a12 a13 a14 a15) : ∃ n, W n a1 a2 a3 a4 a5 a6 a7 a8 a9 a10 a11 a12 a13 a14 a15 :=
  loop_m (σ := A1 × A2 × A3 × A4 × A5 × A6 × A7 × A8 × A9 × A10 × A11 × A12 × A13 × A14 × A15) (fun n s => W n s.1 s.2.1 s.2.2.1 s.2.2.2.1 s.2.2.2.2.1 s.2.2.2.2.2.1 s.2.2.2.2.2.2.1 s.2.2.2.2.2.2.2.1 s.2.2.2.2.2.2.2.2.1 s.2.2.2.2.2.2.2.2.2.1 s.2.2.2.2.2.2.2.2.2.2.1 s.2.2.2.2.2.2.2.2.2.2.2.1 s.2.2.2.2.2.2.2.2.2.2.2.2.1 s.2.2.2.2.2.2.2.2.2.2.2.2.2.1 s.2.2.2.2.2.2.2.2.2.2.2.2.2.2) (fun s => I s.1 s.2.1 s.2.2.1 s.2.2.2.1 s.2.2.2.2.1 s.2.2.2.2.2.1 s.2.2.2.2.2.2.1 s.2.2.2.2.2.2.2.1 s.2.2.2.2.2.2.2.2.1 s.2.2.2.2.2.2.2.2.2.1 s.2.2.2.2.2.2.2.2.2.2.1 s.2.2.2.2.2.2.2.2.2.2.2.1 s.2.2.2.2.2.2.2.2.2.2.2.2.1 s.2.2.2.2.2.2.2.2.2.2.2.2.2.1 s.2.2.2.2.2.2.2.2.2.2.2.2.2.2) (fun s => μ s.1 s.2.1 s.2.2.1 s.2.2.2.1 s.2.2.2.2.1 s.2.2.2.2.2.1 s.2.2.2.2.2.2.1 s.2.2.2.2.2.2.2.1 s.2.2.2.2.2.2.2.2.1 s.2.2.2.2.2.2.2.2.2.1 s.2.2.2.2.2.2.2.2.2.2.1 s.2.2.2.2.2.2.2.2.2.2.2.1 s.2.2.2.2.2.2.2.2.2.2.2.2.1 s.2.2.2.2.2.2.2.2.2.2.2.2.2.1 s.2.2.2.2.2.2.2.2.2.2.2.2.2.2) (fun n s hI hk => hs n s.1 s.2.1 s.2.2.1 s.2.2.2.1 s.2.2.2.2.1 s.2.2.2.2.2.1 s.2.2.2.2.2.2.1 s.2.2.2.2.2.2.2.1 s.2.2.2.2.2.2.2.2.1 s.2.2.2.2.2.2.2.2.2.1 s.2.2.2.2.2.2.2.2.2.2.1 s.2.2.2.2.2.2.2.2.2.2.2.1 s.2.2.2.2.2.2.2.2.2.2.2.2.1 s.2.2.2.2.2.2.2.2.2.2.2.2.2.1 s.2.2.2.2.2.2.2.2.2.2.2.2.2.2 hI (fun b1 b2 b3 b4 b5 b6 b7 b8 b9 b10 b11 b12 b13 b14 b15 h9 hm => hk (b1, b2, b3, b4, b5, b6, b7, b8, b9, b10, b11, b12, b13, b14, b15) h9 hm)) (a1, a2, a3, a4, a5, a6, a7, a8, a9, a10, a11, a12, a13, a14, a15) h
theorem lp16 {A1 A2 A3 A4 A5 A6 A7 A8 A9 A10 A11 A12 A13 A14 A15 A16 : Type} (W : Nat → A1 → A2 → A3 → A4 → A5 → A6 → A7 → A8 → A9 → A10 → A11 → A12 → A13 → A14 → A15 → A16 → Prop) (I : A1 → A2 → A3 → A4 → A5 → A6 → A7 → A8 → A9 → A10 → A11 → A12 → A13 → A14 → A15 → A16 → Prop) (μ : A1 → A2 → A3 → A4 → A5 → A6 → A7 → A8 → A9 → A10 → A11 → A12 → A13 → A14 → A15 → A16 → Nat) (hs : ∀ (n : Nat) (a1 : A1) (a2 : A2) (a3 : A3) (a4 : A4) (a5 : A5) (a6 : A6) (a7 : A7) (a8 : A8) (a9 : A9) (a10 : A10) (a11 : A11) (a12 : A12) (a13 : A13) (a14 : A14) (a15 : A15) (a16 : A16), I a1 a2 a3 a4 a5 a6 a7 a8 a9 a10 a11 a12 a13 a14 a15 a16 → (∀ (b1 : A1) (b2 : A2) (b3 : A3) (b4 : A4) (b5 : A5) (b6 : A6) (b7 : A7) (b8 : A8) (b9 : A9) (b10 : A10) (b11 : A11) (b12 : A12) (b13 : A13) (b14 : A14) (b15 : A15) (b16 : A16), I b1 b2 b3 b4 b5 b6 b7 b8 b9 b10 b11 b12 b13 b14 b15 b16 → μ b1 b2 b3 b4 b5 b6 b7 b8 b9 b10 b11 b12 b13 b14 b15 b16 < μ a1 a2 a3 a4 a5 a6 a7 a8 a9 a10 a11 a12 a13 a14 a15 a16 → W n b1 b2 b3 b4 b5 b6 b7 b8 b9 b10 b11 b12 b13 b14 b15 b16) → W (n + 1) a1 a2 a3 a4 a5 a6 a7 a8 a9 a10 a11 a12 a13 a14 a15 a16) (a1 : A1) (a2 : A2) (a3 : A3) (a4 : A4) (a5 : A5) (a6 : A6) (a7 : A7) (a8 : A8) (a9 : A9) (a10 : A10) (a11 : A11) (a12 : A12) (a13 : A13) (a14 : A14) (a15 : A15) (a16 : A16) (h : I a1 a2 a3 a4 a5 a6 a7 a8 a9 a10 a11 a12 a13 a14 a15 a16) : ∃ n, W n a1 a2 a3 a4 a5 a6 a7 a8 a9 a10 a11 a12 a13 a14 a15 a16 :=
  loop_m (σ := A1 × A2 × A3 × A4 × A5 × A6 × A7 × A8 × A9 × A10 × A11 × A12 × A13 × A14 × A15 × A16) (fun n s => W n s.1 s.2.1 s.2.2.1 s.2.2.2.1 s.2.2.2.2.1 s.2.2.2.2.2.1 s.2.2.2.2.2.2.1 s.2.2.2.2.2.2.2.1 s.2.2.2.2.2.2.2.2.1 s.2.2.2.2.2.2.2.2.2.1 s.2.2.2.2.2.2.2.2.2.2.1 s.2.2.2.2.2.2.2.2.2.2.2.1 s.2.2.2.2.2.2.2.2.2.2.2.2.1 s.2.2.2.2.2.2.2.2.2.2.2.2.2.1 s.2.2.2.2.2.2.2.2.2.2.2.2.2.2.1 s.2.2.2.2.2.2.2.2.2.2.2.2.2.2.2) (fun s => I s.1 s.2.1 s.2.2.1 s.2.2.2.1 s.2.2.2.2.1 s.2.2.2.2.2.1 s.2.2.2.2.2.2.1 s.2.2.2.2.2.2.2.1 s.2.2.2.2.2.2.2.2.1 s.2.2.2.2.2.2.2.2.2.1 s.2.2.2.2.2.2.2.2.2.2.1 s.2.2.2.2.2.2.2.2.2.2.2.1 s.2.2.2.2.2.2.2.2.2.2.2.2.1 s.2.2.2.2.2.2.2.2.2.2.2.2.2.1 s.2.2.2.2.2.2.2.2.2.2.2.2.2.2.1 s.2.2.2.2.2.2.2.2.2.2.2.2.2.2.2) (fun s => μ s.1 s.2.1 s.2.2.1 s.2.2.2.1 s.2.2.2.2.1 s.2.2.2.2.2.1 s.2.2.2.2.2.2.1 s.2.2.2.2.2.2.2.1 s.2.2.2.2.2.2.2.2.1 s.2.2.2.2.2.2.2.2.2.1 s.2.2.2.2.2.2.2.2.2.2.1 s.2.2.2.2.2.2.2.2.2.2.2.1 s.2.2.2.2.2.2.2.2.2.2.2.2.1 s.2.2.2.2.2.2.2.2.2.2.2.2.2.1 s.2.2.2.2.2.2.2.2.2.2.2.2.2.2.1 s.2.2.2.2.2.2.2.2.2.2.2.2.2.2.2) (fun n s hI hk => hs n s.1 s.2.1 s.2.2.1 s.2.2.2.1 s.2.2.2.2.1 s.2.2.2.2.2.1 s.2.2.2.2.2.2.1 s.2.2.2.2.2.2.2.1 s.2.2.2.2.2.2.2.2.1 s.2.2.2.2.2.2.2.2.2.1 s.2.2.2.2.2.2.2.2.2.2.1 s.2.2.2.2.2.2.2.2.2.2.2.1 s.2.2.2.2.2.2.2.2.2.2.2.2.1 s.2.2.2.2.2.2.2.2.2.2.2.2.2.1 s.2.2.2.2.2.2.2.2.2.2.2.2.2.2.1 s.2.2.2.2.2.2.2.2.2.2.2.2.2.2.2 hI (fun b1 b2 b3 b4 b5 b6 b7 b8 b9 b10 b11 b12 b13 b14 b15 b16 h9 hm => hk (b1, b2, b3, b4, b5, b6, b7, b8, b9, b10, b11, b12, b13, b14, b15, b16) h9 hm)) (a1, a2, a3, a4, a5, a6, a7, a8, a9, a10, a11, a12, a13, a14, a15, a16) h
theorem pk_least (P : Nat → Prop) (h : ∃ k, P k) : ∃ k, P k ∧ ∀ j, j < k → ¬ P j := by
  obtain ⟨k, hk⟩ := h
  induction k using Nat.strongRecOn with
  | ind k ih =>
    by_cases e : ∃ j, j < k ∧ P j
    · obtain ⟨j, hj, pj⟩ := e
      exact ih j hj pj
    · exact ⟨k, hk, fun j hj pj => e ⟨j, hj, pj⟩⟩
theorem rp1 {ρ A1 : Type} (W : Nat → (ρ → Prop) → A1 → Prop) (ok : A1 → Prop) (μ : A1 → Nat) (val : A1 → ρ)
    (hs : ∀ (d : Nat) (post : ρ → Prop) (a1 : A1), ok a1 → post (val a1) → (∀ (post' : ρ → Prop) (b1 : A1), ok b1 → μ b1 < μ a1 → post' (val b1) → W d post' b1) → W (d + 1) post a1) :
    ∀ (d : Nat) (post : ρ → Prop) (a1 : A1), ok a1 → μ a1 < d → post (val a1) → W d post a1 := by
  intro d
  induction d with
  | zero => intro post a1 _ h; omega
  | succ d ih =>
    intro post a1 ho hm hp
    exact hs d post a1 ho hp (fun post' b1 ho' hm' hp' => ih post' b1 ho' (by omega) hp')
theorem rp2 {ρ A1 A2 : Type} (W : Nat → (ρ → Prop) → A1 → A2 → Prop) (ok : A1 → A2 → Prop) (μ : A1 → A2 → Nat) (val : A1 → A2 → ρ)
    (hs : ∀ (d : Nat) (post : ρ → Prop) (a1 : A1) (a2 : A2), ok a1 a2 → post (val a1 a2) → (∀ (post' : ρ → Prop) (b1 : A1) (b2 : A2), ok b1 b2 → μ b1 b2 < μ a1 a2 → post' (val b1 b2) → W d post' b1 b2) → W (d + 1) post a1 a2) :
    ∀ (d : Nat) (post : ρ → Prop) (a1 : A1) (a2 : A2), ok a1 a2 → μ a1 a2 < d → post (val a1 a2) → W d post a1 a2 := by
  intro d
  induction d with
  | zero => intro post a1 a2 _ h; omega
  | succ d ih =>
    intro post a1 a2 ho hm hp
    exact hs d post a1 a2 ho hp (fun post' b1 b2 ho' hm' hp' => ih post' b1 b2 ho' (by omega) hp')
theorem rp3 {ρ A1 A2 A3 : Type} (W : Nat → (ρ → Prop) → A1 → A2 → A3 → Prop) (ok : A1 → A2 → A3 → Prop) (μ : A1 → A2 → A3 → Nat) (val : A1 → A2 → A3 → ρ)
    (hs : ∀ (d : Nat) (post : ρ → Prop) (a1 : A1) (a2 : A2) (a3 : A3), ok a1 a2 a3 → post (val a1 a2 a3) → (∀ (post' : ρ → Prop) (b1 : A1) (b2 : A2) (b3 : A3), ok b1 b2 b3 → μ b1 b2 b3 < μ a1 a2 a3 → post' (val b1 b2 b3) → W d post' b1 b2 b3) → W (d + 1) post a1 a2 a3) :
    ∀ (d : Nat) (post : ρ → Prop) (a1 : A1) (a2 : A2) (a3 : A3), ok a1 a2 a3 → μ a1 a2 a3 < d → post (val a1 a2 a3) → W d post a1 a2 a3 := by
  intro d
  induction d with
  | zero => intro post a1 a2 a3 _ h; omega
  | succ d ih =>
    intro post a1 a2 a3 ho hm hp
    exact hs d post a1 a2 a3 ho hp (fun post' b1 b2 b3 ho' hm' hp' => ih post' b1 b2 b3 ho' (by omega) hp')
theorem rp4 {ρ A1 A2 A3 A4 : Type} (W : Nat → (ρ → Prop) → A1 → A2 → A3 → A4 → Prop) (ok : A1 → A2 → A3 → A4 → Prop) (μ : A1 → A2 → A3 → A4 → Nat) (val : A1 → A2 → A3 → A4 → ρ)
    (hs : ∀ (d : Nat) (post : ρ → Prop) (a1 : A1) (a2 : A2) (a3 : A3) (a4 : A4), ok a1 a2 a3 a4 → post (val a1 a2 a3 a4) → (∀ (post' : ρ → Prop) (b1 : A1) (b2 : A2) (b3 : A3) (b4 : A4), ok b1 b2 b3 b4 → μ b1 b2 b3 b4 < μ a1 a2 a3 a4 → post' (val b1 b2 b3 b4) → W d post' b1 b2 b3 b4) → W (d + 1) post a1 a2 a3 a4) :
    ∀ (d : Nat) (post : ρ → Prop) (a1 : A1) (a2 : A2) (a3 : A3) (a4 : A4), ok a1 a2 a3 a4 → μ a1 a2 a3 a4 < d → post (val a1 a2 a3 a4) → W d post a1 a2 a3 a4 := by
  intro d
  induction d with
  | zero => intro post a1 a2 a3 a4 _ h; omega
  | succ d ih =>
    intro post a1 a2 a3 a4 ho hm hp
    exact hs d post a1 a2 a3 a4 ho hp (fun post' b1 b2 b3 b4 ho' hm' hp' => ih post' b1 b2 b3 b4 ho' (by omega) hp')
theorem rp5 {ρ A1 A2 A3 A4 A5 : Type} (W : Nat → (ρ → Prop) → A1 → A2 → A3 → A4 → A5 → Prop) (ok : A1 → A2 → A3 → A4 → A5 → Prop) (μ : A1 → A2 → A3 → A4 → A5 → Nat) (val : A1 → A2 → A3 → A4 → A5 → ρ)
    (hs : ∀ (d : Nat) (post : ρ → Prop) (a1 : A1) (a2 : A2) (a3 : A3) (a4 : A4) (a5 : A5), ok a1 a2 a3 a4 a5 → post (val a1 a2 a3 a4 a5) → (∀ (post' : ρ → Prop) (b1 : A1) (b2 : A2) (b3 : A3) (b4 : A4) (b5 : A5), ok b1 b2 b3 b4 b5 → μ b1 b2 b3 b4 b5 < μ a1 a2 a3 a4 a5 → post' (val b1 b2 b3 b4 b5) → W d post' b1 b2 b3 b4 b5) → W (d + 1) post a1 a2 a3 a4 a5) :
    ∀ (d : Nat) (post : ρ → Prop) (a1 : A1) (a2 : A2) (a3 : A3) (a4 : A4) (a5 : A5), ok a1 a2 a3 a4 a5 → μ a1 a2 a3 a4 a5 < d → post (val a1 a2 a3 a4 a5) → W d post a1 a2 a3 a4 a5 := by
  intro d
  induction d with
  | zero => intro post a1 a2 a3 a4 a5 _ h; omega
  | succ d ih =>
    intro post a1 a2 a3 a4 a5 ho hm hp
    exact hs d post a1 a2 a3 a4 a5 ho hp (fun post' b1 b2 b3 b4 b5 ho' hm' hp' => ih post' b1 b2 b3 b4 b5 ho' (by omega) hp')
theorem rp6 {ρ A1 A2 A3 A4 A5 A6 : Type} (W : Nat → (ρ → Prop) → A1 → A2 → A3 → A4 → A5 → A6 → Prop) (ok : A1 → A2 → A3 → A4 → A5 → A6 → Prop) (μ : A1 → A2 → A3 → A4 → A5 → A6 → Nat) (val : A1 → A2 → A3 → A4 → A5 → A6 → ρ)
    (hs : ∀ (d : Nat) (post : ρ → Prop) (a1 : A1) (a2 : A2) (a3 : A3) (a4 : A4) (a5 : A5) (a6 : A6), ok a1 a2 a3 a4 a5 a6 → post (val a1 a2 a3 a4 a5 a6) → (∀ (post' : ρ → Prop) (b1 : A1) (b2 : A2) (b3 : A3) (b4 : A4) (b5 : A5) (b6 : A6), ok b1 b2 b3 b4 b5 b6 → μ b1 b2 b3 b4 b5 b6 < μ a1 a2 a3 a4 a5 a6 → post' (val b1 b2 b3 b4 b5 b6) → W d post' b1 b2 b3 b4 b5 b6) → W (d + 1) post a1 a2 a3 a4 a5 a6) :
    ∀ (d : Nat) (post : ρ → Prop) (a1 : A1) (a2 : A2) (a3 : A3) (a4 : A4) (a5 : A5) (a6 : A6), ok a1 a2 a3 a4 a5 a6 → μ a1 a2 a3 a4 a5 a6 < d → post (val a1 a2 a3 a4 a5 a6) → W d post a1 a2 a3 a4 a5 a6 := by
  intro d
  induction d with
  | zero => intro post a1 a2 a3 a4 a5 a6 _ h; omega
  | succ d ih =>
    intro post a1 a2 a3 a4 a5 a6 ho hm hp
    exact hs d post a1 a2 a3 a4 a5 a6 ho hp (fun post' b1 b2 b3 b4 b5 b6 ho' hm' hp' => ih post' b1 b2 b3 b4 b5 b6 ho' (by omega) hp')
theorem rec_p {σ ρ : Type} (W : Nat → (ρ → Prop) → σ → Prop) (ok : σ → Prop) (μ : σ → Nat) (val : σ → ρ)
    (hs : ∀ d s post, ok s → post (val s) → (∀ s' post', ok s' → μ s' < μ s → post' (val s') → W d post' s') → W (d + 1) post s) :
    ∀ d s post, ok s → μ s < d → post (val s) → W d post s := by
  intro d
  induction d with
  | zero => intro s post _ h; omega
  | succ d ih =>
    intro s post ho hm hp
    exact hs d s post ho hp (fun s' post' ho' hm' hp' => ih s' post' ho' (by omega) hp')
theorem rec_q {σ ρ : Type} (W : Nat → (ρ → Prop) → σ → Prop) (ok : σ → Prop) (μ : σ → Nat) (Q : σ → ρ → Prop)
    (hs : ∀ d s post, ok s → (∀ r, Q s r → post r) → (∀ s' post', ok s' → μ s' < μ s → (∀ r, Q s' r → post' r) → W d post' s') → W (d + 1) post s) :
    ∀ d s post, ok s → μ s < d → (∀ r, Q s r → post r) → W d post s := by
  intro d
  induction d with
  | zero => intro s post _ h; omega
  | succ d ih =>
    intro s post ho hm hp
    exact hs d s post ho hp (fun s' post' ho' hm' hp' => ih s' post' ho' (by omega) hp')
def bx_sum (f : Nat → Int32) : Nat → Int32
  | 0 => 0
  | n + 1 => bx_sum f n + f n
theorem ek_u {A : Prop} {B : Nat → Prop} {k N : Nat} (hk : k < N) (h : B k) : (some k = none → A) ∧ (∀ y : Nat, some k = some y → (y < N ∧ B y)) :=
  ⟨fun z => absurd z (Option.some_ne_none k), fun _ e => (by cases e; exact ⟨hk, h⟩)⟩
theorem ek_nu {A : Prop} {B : Nat → Prop} (h : A) : ((none : Option Nat) = none → A) ∧ (∀ y : Nat, (none : Option Nat) = some y → B y) :=
  ⟨fun _ => h, fun _ e => (by cases e)⟩
theorem ek_if {c d A B : Prop} (e : c ↔ d) (f : d → A) (g : ¬ d → B) : (c → A) ∧ (¬ c → B) :=
  ⟨fun z => f (e.mp z), fun z => g (fun y => z (e.mpr y))⟩
theorem ek_v {α : Sort _} {P : α → Prop} {a b : α} (e : a = b) (h : P b) : P a := e ▸ h
theorem co_some {x : Option Nat} {A : Prop} {B : Nat → Prop} (i : Nat) (h : B i) (hx : x = some i := by rfl) : (x = none → A) ∧ (∀ y : Nat, x = some y → B y) := by
  subst hx
  exact ⟨fun e => (nomatch e), fun y e => Option.some.inj e ▸ h⟩
theorem co_none {x : Option Nat} {A : Prop} {B : Nat → Prop} (h : A) (hx : x = none := by rfl) : (x = none → A) ∧ (∀ y : Nat, x = some y → B y) := by
  subst hx
  exact ⟨fun _ => h, fun y e => (nomatch e)⟩
theorem co_any {x : Option Nat} {A : Prop} {B : Nat → Prop} (hn : x = none → A) (hs : ∀ i : Nat, x = some i → B i) : (x = none → A) ∧ (∀ y : Nat, x = some y → B y) := ⟨hn, hs⟩
theorem co_2 {P : Nat → Prop} (h0 : P 0) (h1 : P 1) {i : Nat} (hi : i < 2) : P i :=
  match i, hi with
  | 0, _ => h0
  | 1, _ => h1
theorem co_3 {P : Nat → Prop} (h0 : P 0) (h1 : P 1) (h2 : P 2) {i : Nat} (hi : i < 3) : P i :=
  match i, hi with
  | 0, _ => h0
  | 1, _ => h1
  | 2, _ => h2
theorem co_4 {P : Nat → Prop} (h0 : P 0) (h1 : P 1) (h2 : P 2) (h3 : P 3) {i : Nat} (hi : i < 4) : P i :=
  match i, hi with
  | 0, _ => h0
  | 1, _ => h1
  | 2, _ => h2
  | 3, _ => h3
theorem co_dec {N : Nat} {P : Nat → Prop} [DecidablePred P] (h : (List.range N).all (fun i => decide (P i)) = true) {i : Nat} (hi : i < N) : P i := by
  have := List.all_eq_true.mp h i (List.mem_range.mpr hi)
  exact of_decide_eq_true this
theorem co_tab {α : Type} {l : List α} {d : α} {P : α → Prop} (h : ∀ a, a ∈ l → P a) {i : Nat} (hi : i < l.length) : P (l.getD i d) := by
  rw [List.getD_eq_getElem?_getD, List.getElem?_eq_getElem hi]
  exact h _ (List.getElem_mem hi)
theorem pk_mu {x : Int32} {L : Nat} (h0 : ¬ x < 0) (h : ¬ nI L ≤ x) (hL : L < 2 ^ 31) : ∃ j : Nat, j < L ∧ x = nI j ∧ x + 1 = nI (j + 1) ∧ x.toNatClampNeg = j ∧ L - (x + 1).toNatClampNeg < L - x.toNatClampNeg := by
  obtain ⟨j, hj, rfl⟩ := nI_of h0
  have hl : j < L := Nat.not_le.mp fun q => h (nI_le q hj)
  refine ⟨j, hl, rfl, nI_1 j, nI_clamp hj, ?_⟩
  rw [nI_1, nI_clamp (by omega), nI_clamp hj]
  omega
theorem op_s {α : Type} {r : Option α} {A : Prop} {B : α → Prop} {y : α} (h : r = some y) (b : B y) : (r = none → A) ∧ ∀ z, r = some z → B z :=
  ⟨fun e => (by rw [h] at e; cases e), fun z e => (by rw [h] at e; cases e; exact b)⟩
def l_holds {α : Type} (a : Nat → Option Nat) (LP : List Nat) (p : Nat → α) (c : Nat) (b : Nat → α) : Prop :=
  ∀ j, j < c → ∃ y, a j = some y ∧ y ∈ LP ∧ p y = b j
theorem l_holds_0 {α : Type} {a : Nat → Option Nat} {LP : List Nat} {p b : Nat → α} : l_holds a LP p 0 b := fun j h => absurd h (Nat.not_lt_zero j)
theorem l_in_new (LP : List Nat) (q : Nat) : q ∈ LP ++ [q] := List.mem_append.mpr (Or.inr (List.mem_singleton.mpr rfl))
def l_sum (b : Nat → Int32) : Nat → Int32
  | 0 => 0
  | k + 1 => l_sum b k + b k
theorem sb_shr0 (x : Int32) : x >>> ((0 : Int32) &&& 31) = x := by
  rw [show ((0 : Int32) &&& 31) = 0 by decide]
  simp
theorem sb_shl0 (x : Int32) : x <<< ((0 : Int32) &&& 31) = x := by
  rw [show ((0 : Int32) &&& 31) = 0 by decide]
  simp
theorem sb_cl0 : (0 : Int32).toNatClampNeg = 0 := by decide
theorem sb_m1 {p : Nat} (h : 0 < p) : nI p + (-1) = nI (p - 1) := by
  obtain ⟨q, rfl⟩ : ∃ q, p = q + 1 := ⟨p - 1, by omega⟩
  exact pk_m1 q
def sb_b (c : Nat) : Int32 := (nI c).toInt8.toInt32
theorem sb_byte : ∀ c, c < 256 → sb_b c &&& 255 = nI c ∧ ((nI c).toUInt32 % 65536).toInt32 = nI c ∧ nI c ≤ 255 := by decide +kernel
def sb_Fit (a : Nat → Int32) : Prop := ∀ j, fits .byte (.int (a j)) = true
def sb_Lat (t : Nat → Nat) (n : Nat) (a : Nat → Int32) : Prop := ∀ j, j < n → t j < 256 ∧ a j = sb_b (t j)
theorem sb_fitB (c : Nat) : fits .byte (.int (sb_b c)) = true := pk_fb _
theorem sb_fit0 : sb_Fit (fun _ => 0) := fun _ => by
  show fits .byte (.int 0) = true
  decide
theorem sb_fitU {a : Nat → Int32} {k : Nat} {x : Int32} (h : sb_Fit a) (hx : fits .byte (.int x) = true) : sb_Fit (upd a k x) := by
  intro j
  by_cases e : j = k
  · subst e
    rw [pk_us]
    exact hx
  · rw [pk_un e]
    exact h j
def sb_cat (t : Nat → Nat) (n : Nat) (s : Nat → Nat) : Nat → Nat := fun j => if j < n then t j else s (j - n)
theorem sb_cat_lo {t s : Nat → Nat} {n j : Nat} (h : j < n) : sb_cat t n s j = t j := if_pos h
theorem sb_cat_hi {t s : Nat → Nat} {n j : Nat} : sb_cat t n s (n + j) = s j := by
  show (if n + j < n then t (n + j) else s (n + j - n)) = s j
  rw [if_neg (by omega), Nat.add_sub_cancel_left]
theorem sb_latPut {t s : Nat → Nat} {n w : Nat} {a a' : Nat → Int32} (h : sb_Lat t n a) (hk : ∀ j, j < n → a' j = a j) (hs : ∀ i, i < w → s i < 256 ∧ a' (n + i) = sb_b (s i)) : sb_Lat (sb_cat t n s) (n + w) a' := by
  intro j hj
  by_cases e : j < n
  · rw [sb_cat_lo e, hk j e]
    exact h j e
  · obtain ⟨i, rfl⟩ : ∃ i, j = n + i := ⟨j - n, by omega⟩
    rw [sb_cat_hi]
    exact hs i (by omega)
theorem sb_latKeep {t : Nat → Nat} {n : Nat} {a a' : Nat → Int32} (h : sb_Lat t n a) (hk : ∀ j, j < n → a' j = a j) : sb_Lat t n a' := fun j hj => by
  rw [hk j hj]
  exact h j hj
def sb_cap (q m : Nat) : Nat := if q ≤ m then m else if 2 * m + 2 < q then q else 2 * m + 2
def sb_Room (q m mc ms : Nat) : Prop := q ≤ m ∨ (1 ≤ mc ∧ sb_cap q m ≤ ms ∧ sb_cap q m ≤ 65536)
theorem sb_cap_ge (q m : Nat) : q ≤ sb_cap q m := by
  unfold sb_cap
  split
  · omega
  · split <;> omega
theorem sb_cap_gem (q m : Nat) : m ≤ sb_cap q m := by
  unfold sb_cap
  split
  · omega
  · split <;> omega
theorem sb_cap_le {q m mc ms : Nat} (hm : m ≤ 65536) (hr : sb_Room q m mc ms) : sb_cap q m ≤ 65536 := by
  rcases hr with h | h
  · rw [sb_cap, if_pos h]
    exact hm
  · exact h.2.2
theorem sb_at {P : Int32 → Prop} {x y : Int32} (e : x = y) (h : P y) : P x := e ▸ h
def sb_dg (w : Nat) : Nat := if w < 10 then 1 else if w < 100 then 2 else if w < 1000 then 3 else if w < 10000 then 4 else if w < 100000 then 5 else if w < 1000000 then 6 else if w < 10000000 then 7 else if w < 100000000 then 8 else if w < 1000000000 then 9 else 10
def sb_dec (v : Nat) : Nat → Nat := fun i => 48 + v / 10 ^ (sb_dg v - 1 - i) % 10
theorem sb_dg_in (w : Nat) : 1 ≤ sb_dg w ∧ sb_dg w ≤ 10 := by
  unfold sb_dg
  constructor <;> (repeat' split) <;> omega
theorem sb_dg100 {w : Nat} (h : 100 ≤ w) (hw : w < 2 ^ 31) : sb_dg w = sb_dg (w / 100) + 2 := by
  rw [sb_dg, sb_dg, if_neg (show ¬ w < 10 by omega), if_neg (show ¬ w < 100 by omega)]
  by_cases h3 : w < 1000
  · rw [if_pos h3, if_pos (show w / 100 < 10 by omega)]
  rw [if_neg h3, if_neg (show ¬ w / 100 < 10 by omega)]
  by_cases h4 : w < 10000
  · rw [if_pos h4, if_pos (show w / 100 < 100 by omega)]
  rw [if_neg h4, if_neg (show ¬ w / 100 < 100 by omega)]
  by_cases h5 : w < 100000
  · rw [if_pos h5, if_pos (show w / 100 < 1000 by omega)]
  rw [if_neg h5, if_neg (show ¬ w / 100 < 1000 by omega)]
  by_cases h6 : w < 1000000
  · rw [if_pos h6, if_pos (show w / 100 < 10000 by omega)]
  rw [if_neg h6, if_neg (show ¬ w / 100 < 10000 by omega)]
  by_cases h7 : w < 10000000
  · rw [if_pos h7, if_pos (show w / 100 < 100000 by omega)]
  rw [if_neg h7, if_neg (show ¬ w / 100 < 100000 by omega)]
  by_cases h8 : w < 100000000
  · rw [if_pos h8, if_pos (show w / 100 < 1000000 by omega)]
  rw [if_neg h8, if_neg (show ¬ w / 100 < 1000000 by omega)]
  by_cases h9 : w < 1000000000
  · rw [if_pos h9, if_pos (show w / 100 < 10000000 by omega)]
  rw [if_neg h9, if_neg (show ¬ w / 100 < 10000000 by omega)]
  rw [if_pos (show w / 100 < 100000000 by omega)]
theorem sb_negT {w : Nat} (h : w < 2 ^ 31) : (-nI w).toInt = -(w : Int) := by
  rw [Int32.toInt_neg, nI_toInt h]
  exact Int.bmod_eq_of_le (by omega) (by omega)
theorem sb_nle {a b : Nat} (ha : a < 2 ^ 31) (hb : b < 2 ^ 31) : -nI a ≤ -nI b ↔ b ≤ a := by
  rw [Int32.le_iff_toInt_le, sb_negT ha, sb_negT hb]
  omega
theorem sb_nlt {a b : Nat} (ha : a < 2 ^ 31) (hb : b < 2 ^ 31) : -nI a < -nI b ↔ b < a := by
  rw [Int32.lt_iff_toInt_lt, sb_negT ha, sb_negT hb]
  omega
theorem sb_cmp {A B : Prop} {x : Int32} (v c : Nat) (f : c ≤ v → A) (g : v < c → B) (hv : v < 2 ^ 31) (hx : x = -nI c := by rfl) (hc : c < 2 ^ 31 := by omega) : (-nI v ≤ x → A) ∧ (¬ -nI v ≤ x → B) := by
  subst hx
  rw [sb_nle hv hc]
  exact ⟨f, fun z => g (by omega)⟩
theorem sb_ndiv {w : Nat} (hw : w < 2 ^ 31) : (-nI w) / 100 = -nI (w / 100) := by
  apply Int32.toInt_inj.mp
  have h100 : (100 : Int32).toInt = 100 := by decide
  rw [Int32.toInt_div, sb_negT hw, h100, sb_negT (by omega), Int.neg_tdiv, Int.tdiv_eq_ediv_of_nonneg (by omega), Int.bmod_eq_of_le (by omega) (by omega)]
  omega
theorem sb_nrem {w : Nat} (hw : w < 2 ^ 31) : (-nI (w / 100)) * 100 - (-nI w) = nI (w % 100) := by
  have h := pk_rem (a := w) (d := 100) hw (by decide) (by decide)
  rw [pk_div hw (by decide) (by decide)] at h
  rw [← h]
  show (-nI (w / 100)) * nI 100 - (-nI w) = nI w - nI (w / 100) * nI 100
  rw [Int32.neg_mul, Int32.sub_neg, Int32.add_comm, ← Int32.sub_eq_add_neg]
end
section
/-! rows on bits, shifts and unsigned numbers, to paste: each family out of a closed proof of our own, whole with what it rests on; each by itself clean at Lean in its own claim (generation 39, form 5). Take a family whole -/
/-! ===== Int32 by its bits: bt x i ===== -/
def bt (x : Int32) (i : Nat) : Bool := x.toBitVec.getLsbD i
theorem b_ext {x y : Int32} (h : ∀ i, i < 32 → bt x i = bt y i) : x = y := Int32.toBitVec_inj.mp (BitVec.eq_of_getLsbD_eq (fun i hi => h i hi))
theorem b_or (x y : Int32) (i : Nat) : bt (x ||| y) i = (bt x i || bt y i) := by unfold bt; rw [Int32.toBitVec_or, BitVec.getLsbD_or]
theorem b_and (x y : Int32) (i : Nat) : bt (x &&& y) i = (bt x i && bt y i) := by unfold bt; rw [Int32.toBitVec_and, BitVec.getLsbD_and]
theorem b_xor (x y : Int32) (i : Nat) : bt (x ^^^ y) i = (bt x i ^^ bt y i) := by unfold bt; rw [Int32.toBitVec_xor, BitVec.getLsbD_xor]
theorem b_big {x : Int32} {i : Nat} (h : 32 ≤ i) : bt x i = false := BitVec.getLsbD_of_ge _ _ h
theorem b_255 (i : Nat) : bt 255 i = decide (i < 8) := by
  rcases Nat.lt_or_ge i 32 with h | h
  · exact (by decide +kernel : ∀ i, i < 32 → bt 255 i = decide (i < 8)) i h
  · rw [b_big h, decide_eq_false (by omega)]
theorem b_65535 (i : Nat) : bt 65535 i = decide (i < 16) := by
  rcases Nat.lt_or_ge i 32 with h | h
  · exact (by decide +kernel : ∀ i, i < 32 → bt 65535 i = decide (i < 16)) i h
  · rw [b_big h, decide_eq_false (by omega)]
theorem b_m1 : ∀ i, i < 32 → bt (-1) i = true := by decide +kernel
theorem b_0 (i : Nat) : bt 0 i = false := BitVec.getLsbD_zero
theorem s_l : ∀ n, n < 32 → ((nI n &&& 31).toBitVec.smod 32).toNat = n := by decide +kernel
theorem s_u : ∀ n, n < 32 → (((nI n).toUInt32 &&& Int32.toUInt32 31).toBitVec % 32).toNat = n := by decide +kernel
theorem b_shl (n : Nat) (hn : n < 32) (x : Int32) {i : Nat} (hi : i < 32) : bt (x <<< (nI n &&& 31)) i = (decide (n ≤ i) && bt x (i - n)) := by
  unfold bt
  rw [Int32.toBitVec_shiftLeft]
  show (x.toBitVec <<< ((nI n &&& 31).toBitVec.smod 32).toNat).getLsbD i = _
  rw [s_l n hn, BitVec.getLsbD_shiftLeft]
  rcases Nat.lt_or_ge i n with h | h
  · simp [h, Nat.not_le.mpr h]
  · simp [hi, h, Nat.not_lt.mpr h]
theorem b_ushr (n : Nat) (hn : n < 32) (x : Int32) (i : Nat) : bt ((x.toUInt32 >>> ((nI n).toUInt32 &&& Int32.toUInt32 31)).toInt32) i = bt x (n + i) := by
  show (x.toUInt32 >>> ((nI n).toUInt32 &&& Int32.toUInt32 31)).toBitVec.getLsbD i = x.toUInt32.toBitVec.getLsbD (n + i)
  rw [UInt32.toBitVec_shiftRight]
  show (x.toUInt32.toBitVec >>> (((nI n).toUInt32 &&& Int32.toUInt32 31).toBitVec % 32).toNat).getLsbD i = _
  rw [s_u n hn, BitVec.getLsbD_ushiftRight]
theorem b_sshr (n : Nat) (hn : n < 32) (x : Int32) {i : Nat} (hi : i < 32) : bt (x >>> (nI n &&& 31)) i = if n + i < 32 then bt x (n + i) else bt x 31 := by
  unfold bt
  rw [Int32.toBitVec_shiftRight]
  show (x.toBitVec.sshiftRight ((nI n &&& 31).toBitVec.smod 32).toNat).getLsbD i = _
  rw [s_l n hn, BitVec.getLsbD_sshiftRight, BitVec.msb_eq_getLsbD_last]
  simp [hi]
theorem b_shl8 (x : Int32) {i : Nat} (hi : i < 32) : bt (x <<< ((8 : Int32) &&& 31)) i = (decide (8 ≤ i) && bt x (i - 8)) := b_shl 8 (by omega) x hi
theorem b_shl16 (x : Int32) {i : Nat} (hi : i < 32) : bt (x <<< ((16 : Int32) &&& 31)) i = (decide (16 ≤ i) && bt x (i - 16)) := b_shl 16 (by omega) x hi
theorem b_shl24 (x : Int32) {i : Nat} (hi : i < 32) : bt (x <<< ((24 : Int32) &&& 31)) i = (decide (24 ≤ i) && bt x (i - 24)) := b_shl 24 (by omega) x hi
theorem b_sshr8 (x : Int32) {i : Nat} (hi : i < 32) : bt (x >>> ((8 : Int32) &&& 31)) i = if 8 + i < 32 then bt x (8 + i) else bt x 31 := b_sshr 8 (by omega) x hi
/-! ===== nI under and, xor, >>>, one bit, 65535 ===== -/
theorem nx_and (a b : Nat) : nI a &&& nI b = nI (a &&& b) := by
  apply Int32.toBitVec_inj.1
  show BitVec.ofNat 32 a &&& BitVec.ofNat 32 b = BitVec.ofNat 32 (a &&& b)
  apply BitVec.eq_of_getLsbD_eq
  intro i hi
  simp [hi]
theorem nx_xor (a b : Nat) : nI a ^^^ nI b = nI (a ^^^ b) := by
  apply Int32.toBitVec_inj.1
  show BitVec.ofNat 32 a ^^^ BitVec.ofNat 32 b = BitVec.ofNat 32 (a ^^^ b)
  apply BitVec.eq_of_getLsbD_eq
  intro i hi
  simp [hi]
theorem nx_cnt : ∀ j : Fin 32, (UInt32.ofNat j.val &&& Int32.toUInt32 31).toNat % 32 = j.val := by decide +kernel
theorem nx_ush {k j : Nat} (hk : k < 65536) (hj : j < 32) : ((nI k).toUInt32 >>> ((nI j).toUInt32 &&& Int32.toUInt32 31)).toInt32 = nI (k >>> j) := by
  have hs : k >>> j ≤ k := by
    rw [Nat.shiftRight_eq_div_pow]
    exact Nat.div_le_self _ _
  have e2 : UInt32.ofNat k >>> (UInt32.ofNat j &&& Int32.toUInt32 31) = UInt32.ofNat (k >>> j) := by
    apply UInt32.toNat_inj.1
    have h1 : (UInt32.ofNat k).toNat = k := Nat.mod_eq_of_lt (by omega)
    have h2 : (UInt32.ofNat (k >>> j)).toNat = k >>> j := Nat.mod_eq_of_lt (by omega)
    rw [UInt32.toNat_shiftRight, nx_cnt ⟨j, hj⟩, h1, h2]
  show (UInt32.ofNat k >>> (UInt32.ofNat j &&& Int32.toUInt32 31)).toInt32 = _
  rw [e2]
  rfl
theorem nx_bit {k j : Nat} (hk : k < 65536) (hj : j < 16) : (((nI k).toUInt32 >>> ((nI j).toUInt32 &&& Int32.toUInt32 31)).toInt32 &&& 1) = 0 ↔ k.testBit j = false := by
  rw [nx_ush hk (by omega)]
  show nI (k >>> j) &&& nI 1 = 0 ↔ _
  rw [nx_and, Nat.and_one_is_mod, ← nI_0, nI_eq (by omega) (by omega), Nat.testBit_eq_decide_div_mod_eq, Nat.shiftRight_eq_div_pow, decide_eq_false_iff_not]
  generalize k / 2 ^ j = z
  omega
theorem nx_mod (k : Nat) : nI k &&& 65535 = nI (k % 65536) := by
  show nI k &&& nI 65535 = _
  rw [nx_and, show (65535 : Nat) = 2 ^ 16 - 1 from rfl, Nat.and_two_pow_sub_one_eq_mod]
theorem nx_m16 {k : Nat} (h : k < 65536) : nI k &&& 65535 = nI k := by rw [nx_mod, Nat.mod_eq_of_lt h]
theorem nx_mask (x : Int32) : ∃ k, k < 65536 ∧ x &&& 65535 = nI k := by
  have e : x = nI x.toBitVec.toNat := by
    apply Int32.toBitVec_inj.1
    show x.toBitVec = BitVec.ofNat 32 x.toBitVec.toNat
    simp
  refine ⟨x.toBitVec.toNat % 65536, Nat.mod_lt _ (by omega), ?_⟩
  rw [← nx_mod, ← e]
end
section
/-! ===== sets of relations as naturals ===== -/
def ja_sd (a b : Nat) : Nat := a ^^^ (a &&& b)
theorem ja_sd_bit (a b i : Nat) : (ja_sd a b).testBit i = (a.testBit i && !b.testBit i) := by
  unfold ja_sd; rw [Nat.testBit_xor, Nat.testBit_and]; cases a.testBit i <;> cases b.testBit i <;> rfl
def ja_sub (a b : Nat) : Prop := ∀ i, a.testBit i = true → b.testBit i = true
def ja_dj (a b : Nat) : Prop := ∀ i, a.testBit i = true → b.testBit i = true → False
theorem ja_mo {a b i : Nat} : (a ||| b).testBit i = true ↔ a.testBit i = true ∨ b.testBit i = true := by
  rw [Nat.testBit_or, Bool.or_eq_true]
theorem ja_ma {a b i : Nat} : (a &&& b).testBit i = true ↔ a.testBit i = true ∧ b.testBit i = true := by
  rw [Nat.testBit_and, Bool.and_eq_true]
theorem ja_md {a b i : Nat} : (ja_sd a b).testBit i = true ↔ a.testBit i = true ∧ ¬ b.testBit i = true := by
  rw [ja_sd_bit, Bool.and_eq_true]
  cases b.testBit i <;> simp
theorem ja_m2 {r i : Nat} : (2 ^ r).testBit i = true ↔ r = i := by
  rw [Nat.testBit_two_pow, decide_eq_true_eq]
theorem ja_ext {a b : Nat} (h : ∀ i, a.testBit i = true ↔ b.testBit i = true) : a = b := by
  apply Nat.eq_of_testBit_eq
  intro i
  have := h i
  cases ha : a.testBit i <;> cases hb : b.testBit i <;> simp_all
theorem ja_n0 {i : Nat} : ¬ (0 : Nat).testBit i = true := by rw [Nat.zero_testBit]; decide
theorem ja_e0 {a : Nat} (h : ∀ i, ¬ a.testBit i = true) : a = 0 := ja_ext fun i => ⟨fun x => absurd x (h i), fun x => absurd x ja_n0⟩
theorem ja_nz {a : Nat} : a ≠ 0 ↔ ∃ i, a.testBit i = true := by
  constructor
  · exact Nat.exists_testBit_of_ne_zero
  · rintro ⟨i, hi⟩ rfl
    exact ja_n0 hi
theorem ja_sd0 {a b : Nat} : ja_sd a b = 0 ↔ ja_sub a b := by
  constructor
  · intro h i hi
    cases hb : b.testBit i
    · have : (ja_sd a b).testBit i = true := ja_md.mpr ⟨hi, by rw [hb]; decide⟩
      rw [h] at this
      exact absurd this ja_n0
    · rfl
  · intro h
    exact ja_e0 fun i hi => (ja_md.mp hi).2 (h i (ja_md.mp hi).1)
theorem ja_an0' {a b : Nat} : a &&& b = 0 ↔ ja_dj a b := by
  constructor
  · intro h i ha hb
    have := ja_ma.mpr ⟨ha, hb⟩
    rw [h] at this
    exact ja_n0 this
  · intro h
    exact ja_e0 fun i hi => h i (ja_ma.mp hi).1 (ja_ma.mp hi).2
theorem ja_sub_le {a b : Nat} (h : ja_sub a b) : a ≤ b := Nat.le_of_testBit h
theorem ja_sub_rfl {a : Nat} : ja_sub a a := fun _ h => h
theorem ja_sub_tr {a b c : Nat} (h : ja_sub a b) (k : ja_sub b c) : ja_sub a c := fun i hi => k i (h i hi)
theorem ja_sub_anti {a b : Nat} (h : ja_sub a b) (k : ja_sub b a) : a = b := ja_ext fun i => ⟨h i, k i⟩
theorem ja_sd_sub (a b : Nat) : ja_sub (ja_sd a b) a := fun _ hi => (ja_md.mp hi).1
theorem ja_sd_le (a b : Nat) : ja_sd a b ≤ a := ja_sub_le (ja_sd_sub a b)
theorem ja_sd_dj (a b : Nat) : ja_dj b (ja_sd a b) := fun _ hb hi => (ja_md.mp hi).2 hb
theorem ja_dj_symm {a b : Nat} (h : ja_dj a b) : ja_dj b a := fun i x y => h i y x
theorem ja_or_l {a b : Nat} : ja_sub a (a ||| b) := fun _ h => ja_mo.mpr (Or.inl h)
theorem ja_or_r {a b : Nat} : ja_sub b (a ||| b) := fun _ h => ja_mo.mpr (Or.inr h)
theorem ja_or_sub {a b c : Nat} (h : ja_sub a c) (k : ja_sub b c) : ja_sub (a ||| b) c := fun i hi => (ja_mo.mp hi).elim (h i) (k i)
theorem ja_sd_or {a b : Nat} (h : ja_sub b a) : b ||| ja_sd a b = a := ja_ext fun i => by
  rw [ja_mo, ja_md]
  constructor
  · rintro (x | x)
    · exact h i x
    · exact x.1
  · intro x
    by_cases hb : b.testBit i = true
    · exact Or.inl hb
    · exact Or.inr ⟨x, hb⟩
theorem ja_sd_of_or {a b : Nat} (h : ja_dj a b) : ja_sd (a ||| b) a = b := ja_ext fun i => by
  rw [ja_md, ja_mo]
  constructor
  · rintro ⟨x | x, y⟩
    · exact absurd x y
    · exact x
  · intro x
    exact ⟨Or.inr x, fun y => h i y x⟩
theorem ja_bd {a i n : Nat} (h : a < 2 ^ n) (hi : a.testBit i = true) : i < n := by
  rcases Nat.lt_or_ge i n with z | z
  · exact z
  · rw [Nat.testBit_lt_two_pow (Nat.lt_of_lt_of_le h (Nat.pow_le_pow_right (by decide) z))] at hi
    exact absurd hi (by decide)
/-! population count below six bits -/
def ja_pc (a : Nat) : Nat := (a.testBit 0).toNat + (a.testBit 1).toNat + (a.testBit 2).toNat + (a.testBit 3).toNat + (a.testBit 4).toNat + (a.testBit 5).toNat
theorem ja_bsp (x y : Bool) : x.toNat = (x && y).toNat + (x && !y).toNat := by cases x <;> cases y <;> rfl
theorem ja_pc_split (s a : Nat) : ja_pc s = ja_pc (s &&& a) + ja_pc (ja_sd s a) := by
  unfold ja_pc
  simp only [Nat.testBit_and, ja_sd_bit]
  have h0 := ja_bsp (s.testBit 0) (a.testBit 0)
  have h1 := ja_bsp (s.testBit 1) (a.testBit 1)
  have h2 := ja_bsp (s.testBit 2) (a.testBit 2)
  have h3 := ja_bsp (s.testBit 3) (a.testBit 3)
  have h4 := ja_bsp (s.testBit 4) (a.testBit 4)
  have h5 := ja_bsp (s.testBit 5) (a.testBit 5)
  omega
theorem ja_and_sub {a b : Nat} (h : ja_sub b a) : a &&& b = b := ja_ext fun i => by
  rw [ja_ma]
  exact ⟨fun x => x.2, fun x => ⟨h i x, x⟩⟩
theorem ja_pc_sub {a b : Nat} (h : ja_sub b a) : ja_pc a = ja_pc b + ja_pc (ja_sd a b) := by
  have := ja_pc_split a b
  rw [ja_and_sub h] at this
  exact this
theorem ja_pc_or {a b : Nat} (h : ja_dj a b) : ja_pc (a ||| b) = ja_pc a + ja_pc b := by
  have := ja_pc_sub (a := a ||| b) (b := a) ja_or_l
  rw [ja_sd_of_or h] at this
  exact this
theorem ja_pc_pos {a : Nat} (h : a ≠ 0) (h6 : a < 64) : 1 ≤ ja_pc a :=
  (by decide +kernel : ∀ a, a < 64 → a ≠ 0 → 1 ≤ ja_pc a) a h6 h
theorem ja_pc_le {a b : Nat} (h : ja_sub b a) : ja_pc b ≤ ja_pc a := by
  have := ja_pc_sub h
  omega
theorem ja_pc_6 {a : Nat} (h6 : a < 64) : ja_pc a ≤ 6 :=
  (by decide +kernel : ∀ a, a < 64 → ja_pc a ≤ 6) a h6
theorem ja_pc_eq {a b : Nat} (h : ja_sub b a) (h6 : a < 64) (he : ja_pc a ≤ ja_pc b) : b = a := by
  have h1 := ja_pc_sub h
  rcases Nat.eq_zero_or_pos (ja_sd a b) with z | z
  · exact ja_sub_anti h (ja_sd0.mp z)
  · have := ja_pc_pos (a := ja_sd a b) (by omega) (Nat.lt_of_le_of_lt (ja_sd_le a b) h6)
    omega
theorem ja_pc_p : ∀ r, r < 6 → ja_pc (2 ^ r) = 1 := by decide +kernel
def ja_sg (a : Nat) : Prop := a &&& (a - 1) = 0
theorem ja_sg_pc : ∀ a, a < 64 → a ≠ 0 → (a &&& (a - 1) = 0 ↔ ja_pc a = 1) := by decide +kernel
theorem ja_sg_p : ∀ a, a < 64 → a ≠ 0 → a &&& (a - 1) = 0 → (a = 1 ∨ a = 2 ∨ a = 4 ∨ a = 8 ∨ a = 16 ∨ a = 32) := by decide +kernel
theorem ja_sg_ex {a : Nat} (h6 : a < 64) (h0 : a ≠ 0) (h : ja_sg a) : ∃ r, r < 6 ∧ a = 2 ^ r := by
  rcases ja_sg_p a h6 h0 h with z | z | z | z | z | z
  · exact ⟨0, by decide, z⟩
  · exact ⟨1, by decide, z⟩
  · exact ⟨2, by decide, z⟩
  · exact ⟨3, by decide, z⟩
  · exact ⟨4, by decide, z⟩
  · exact ⟨5, by decide, z⟩
theorem ja_sg_two : ∀ r, r < 6 → ja_sg (2 ^ r) := by unfold ja_sg; decide +kernel
theorem ja_p64 : ∀ r, r < 6 → 2 ^ r < 64 ∧ 2 ^ r ≠ 0 := by decide +kernel
/-! the program's operators on them -/
theorem ja_or (a b : Nat) : nI a ||| nI b = nI (a ||| b) := by
  apply Int32.toBitVec_inj.1
  show BitVec.ofNat 32 a ||| BitVec.ofNat 32 b = BitVec.ofNat 32 (a ||| b)
  apply BitVec.eq_of_getLsbD_eq
  intro i hi
  simp [hi]
theorem ja_an {a : Nat} (b : Nat) (ha : a < 2 ^ 32) : nI a &&& (nI b ^^^ (-1)) = nI (ja_sd a b) := by
  rw [show (-1 : Int32) = nI (2 ^ 32 - 1) from by decide +kernel, nx_xor, nx_and]
  apply congrArg nI
  apply Nat.eq_of_testBit_eq
  intro i
  rw [Nat.testBit_and, Nat.testBit_xor, Nat.testBit_two_pow_sub_one, ja_sd_bit]
  rcases Nat.lt_or_ge i 32 with h | h
  · simp [h]
  · rw [Nat.testBit_lt_two_pow (Nat.lt_of_lt_of_le ha (Nat.pow_le_pow_right (by decide) h))]
    rfl
theorem ja_z {a : Nat} (ha : a < 2 ^ 31) : nI a = 0 ↔ a = 0 := by
  rw [← nI_0]
  exact nI_eq ha (by decide)
theorem ja_anz {a b : Nat} (ha : a < 2 ^ 31) : (nI a &&& (nI b ^^^ (-1))) = 0 ↔ ja_sub a b := by
  rw [ja_an b (by omega), ja_z (Nat.lt_of_le_of_lt (ja_sd_le a b) ha), ja_sd0]
theorem ja_aaz {a b : Nat} (ha : a < 2 ^ 31) : (nI a &&& nI b) = 0 ↔ ja_dj a b := by
  rw [nx_and, ja_z (Nat.lt_of_le_of_lt Nat.and_le_left ha), ja_an0']
theorem ja_bv {a i : Nat} (ha : a < 2 ^ 31) (hi : i < 32) : ((nI a >>> (nI i &&& 31)) &&& 1) = nI (a / 2 ^ i % 2) := by
  rw [pk_shrN ha _ i (s_l i hi)]
  exact pk_andN (Nat.lt_of_le_of_lt (Nat.div_le_self _ _) (by omega)) 1 (by decide)
theorem ja_b0 {a i : Nat} (ha : a < 2 ^ 31) (hi : i < 32) : ((nI a >>> (nI i &&& 31)) &&& 1) = 0 ↔ ¬ a.testBit i = true := by
  rw [ja_bv ha hi, ja_z (by omega), Nat.testBit_eq_decide_div_mod_eq, decide_eq_true_eq]
  generalize a / 2 ^ i = z
  omega
theorem ja_b1 {a i : Nat} (ha : a < 2 ^ 31) (hi : i < 32) : ((nI a >>> (nI i &&& 31)) &&& 1) = 1 ↔ a.testBit i = true := by
  rw [ja_bv ha hi, show (1 : Int32) = nI 1 from rfl, nI_eq (by omega) (by omega), Nat.testBit_eq_decide_div_mod_eq, decide_eq_true_eq]
theorem ja_sh : ∀ i, i < 31 → (1 : Int32) <<< (nI i &&& 31) = nI (2 ^ i) := by decide +kernel
theorem ja_sg1 {a : Nat} (h0 : a ≠ 0) (ha : a < 2 ^ 31) : (nI a &&& (nI a - 1)) = 0 ↔ ja_sg a := by
  rw [show nI a - 1 = nI (a - 1) from pk_sub (b := 1) (by omega), nx_and, ja_z (Nat.lt_of_le_of_lt Nat.and_le_left ha)]
  rfl
/-! sums -/
def ja_sm (f : Nat → Nat) : Nat → Nat
  | 0 => 0
  | k + 1 => ja_sm f k + f k
theorem ja_sm_le {f g : Nat → Nat} : ∀ k, (∀ i, i < k → f i ≤ g i) → ja_sm f k ≤ ja_sm g k := by
  intro k
  induction k with
  | zero => intro _; exact Nat.le_refl _
  | succ k ih =>
    intro h
    have h1 := ih (fun i hi => h i (by omega))
    have h2 := h k (by omega)
    show ja_sm f k + f k ≤ ja_sm g k + g k
    omega
theorem ja_sm_eq {f g : Nat → Nat} : ∀ k, (∀ i, i < k → f i ≤ g i) → ja_sm g k ≤ ja_sm f k → ∀ i, i < k → f i = g i := by
  intro k
  induction k with
  | zero => intro _ _ i hi; omega
  | succ k ih =>
    intro h h2 i hi
    have h1 := ja_sm_le k (fun i hi => h i (by omega : i < k + 1))
    have h3 := h k (by omega)
    have h4 : ja_sm g k + g k ≤ ja_sm f k + f k := h2
    rcases Nat.lt_or_ge i k with z | z
    · exact ih (fun i hi => h i (by omega)) (by omega) i z
    · have : i = k := by omega
      subst this
      omega
theorem ja_sm_cg {f g : Nat → Nat} : ∀ k, (∀ i, i < k → f i = g i) → ja_sm f k = ja_sm g k := by
  intro k
  induction k with
  | zero => intro _; rfl
  | succ k ih =>
    intro h
    show ja_sm f k + f k = ja_sm g k + g k
    rw [ih (fun i hi => h i (by omega)), h k (by omega)]
theorem ja_sm_add {f g : Nat → Nat} : ∀ k, ja_sm (fun i => f i + g i) k = ja_sm f k + ja_sm g k := by
  intro k
  induction k with
  | zero => rfl
  | succ k ih =>
    show ja_sm (fun i => f i + g i) k + (f k + g k) = ja_sm f k + f k + (ja_sm g k + g k)
    omega
theorem ja_sm_0 : ∀ k, ja_sm (fun _ => 0) k = 0 := by
  intro k
  induction k with
  | zero => rfl
  | succ k ih => show ja_sm (fun _ => 0) k + 0 = 0; omega
theorem ja_sm_1 {q : Nat} (v : Nat) : ∀ k, q < k → ja_sm (fun i => if i = q then v else 0) k = v := by
  intro k
  induction k with
  | zero => intro h; omega
  | succ k ih =>
    intro h
    show ja_sm (fun i => if i = q then v else 0) k + (if k = q then v else 0) = v
    rcases Nat.lt_or_ge q k with z | z
    · rw [ih z, if_neg (by omega)]; rfl
    · have hq : k = q := by omega
      rw [if_pos hq, ja_sm_cg (g := fun _ => 0) k (fun i hi => if_neg (by omega)), ja_sm_0]
      omega
/-! stores that follow a function of naturals -/
def ja_up (f : Nat → Nat) (k x : Nat) : Nat → Nat := fun j => if j = k then x else f j
theorem ja_us {f : Nat → Nat} {k x : Nat} : ja_up f k x k = x := if_pos rfl
theorem ja_un {f : Nat → Nat} {k j x : Nat} (h : j ≠ k) : ja_up f k x j = f j := if_neg h
theorem ja_upI {a : Nat → Int32} {f : Nat → Nat} (h : ∀ i, a i = nI (f i)) (k x : Nat) : ∀ i, upd a k (nI x) i = nI (ja_up f k x i) := by
  intro i
  by_cases e : i = k
  · subst e
    rw [pk_us, ja_us]
  · rw [pk_un e, ja_un e, h]
end
section
/-! ===== relations of a mask of columns ===== -/
def jf_rk (a : Nat) : Nat → Nat
  | 0 => 0
  | k + 1 => if a / 2 ^ (2 * k) % 4 = 0 then jf_rk a k else jf_rk a k ||| 2 ^ k
def jf_ro (a : Nat) : Nat := jf_rk a 6
theorem jf_q4 (a k : Nat) : a / 2 ^ (2 * k) % 4 = 0 ↔ ¬ (a.testBit (2 * k) = true ∨ a.testBit (2 * k + 1) = true) := by
  rw [Nat.testBit_eq_decide_div_mod_eq, Nat.testBit_eq_decide_div_mod_eq, decide_eq_true_eq, decide_eq_true_eq, Nat.pow_succ, ← Nat.div_div_eq_div_mul]
  generalize a / 2 ^ (2 * k) = z
  omega
theorem jf_rk_bit (a : Nat) : ∀ k r, (jf_rk a k).testBit r = true ↔ r < k ∧ (a.testBit (2 * r) = true ∨ a.testBit (2 * r + 1) = true) := by
  intro k
  induction k with
  | zero =>
    intro r
    show (0 : Nat).testBit r = true ↔ _
    exact ⟨fun h => absurd h ja_n0, fun h => absurd h.1 (by omega)⟩
  | succ k ih =>
    intro r
    show (if a / 2 ^ (2 * k) % 4 = 0 then jf_rk a k else jf_rk a k ||| 2 ^ k).testBit r = true ↔ _
    by_cases h : a / 2 ^ (2 * k) % 4 = 0
    · rw [if_pos h, ih]
      rw [jf_q4] at h
      constructor
      · intro x; exact ⟨by omega, x.2⟩
      · intro x
        rcases Nat.lt_or_ge r k with z | z
        · exact ⟨z, x.2⟩
        · have : r = k := by omega
          subst this
          exact absurd x.2 h
    · rw [if_neg h, ja_mo, ih, ja_m2]
      rw [jf_q4] at h
      have h := Classical.not_not.mp h
      constructor
      · rintro (x | x)
        · exact ⟨by omega, x.2⟩
        · subst x; exact ⟨by omega, h⟩
      · intro x
        rcases Nat.lt_or_ge r k with z | z
        · exact Or.inl ⟨z, x.2⟩
        · exact Or.inr (by omega)
theorem jf_ro_bit (a r : Nat) : (jf_ro a).testBit r = true ↔ r < 6 ∧ (a.testBit (2 * r) = true ∨ a.testBit (2 * r + 1) = true) := jf_rk_bit a 6 r
theorem jf_ro_lt (a : Nat) : jf_ro a < 64 := by
  show jf_ro a < 2 ^ 6
  apply Nat.lt_pow_two_of_testBit
  intro i hi
  cases h : (jf_ro a).testBit i
  · rfl
  · have := ((jf_ro_bit a i).mp h).1
    omega
theorem jf_ro_or (a b : Nat) : jf_ro (a ||| b) = jf_ro a ||| jf_ro b := ja_ext fun i => by
  rw [ja_mo, jf_ro_bit, jf_ro_bit, jf_ro_bit, ja_mo, ja_mo]
  constructor
  · rintro ⟨h, (x | x) | (x | x)⟩
    · exact Or.inl ⟨h, Or.inl x⟩
    · exact Or.inr ⟨h, Or.inl x⟩
    · exact Or.inl ⟨h, Or.inr x⟩
    · exact Or.inr ⟨h, Or.inr x⟩
  · rintro (⟨h, x | x⟩ | ⟨h, x | x⟩)
    · exact ⟨h, Or.inl (Or.inl x)⟩
    · exact ⟨h, Or.inr (Or.inl x)⟩
    · exact ⟨h, Or.inl (Or.inr x)⟩
    · exact ⟨h, Or.inr (Or.inr x)⟩
/-- the reference's way: twelve attributes -/
def jf_yk (a : Nat) : Nat → Nat
  | 0 => 0
  | k + 1 => if a.testBit k = true then jf_yk a k ||| 2 ^ (k / 2) else jf_yk a k
theorem jf_yk_bit (a : Nat) : ∀ k r, (jf_yk a k).testBit r = true ↔ ∃ j, j < k ∧ j / 2 = r ∧ a.testBit j = true := by
  intro k
  induction k with
  | zero =>
    intro r
    show (0 : Nat).testBit r = true ↔ _
    exact ⟨fun h => absurd h ja_n0, fun ⟨j, h, _⟩ => absurd h (by omega)⟩
  | succ k ih =>
    intro r
    show (if a.testBit k = true then jf_yk a k ||| 2 ^ (k / 2) else jf_yk a k).testBit r = true ↔ _
    by_cases h : a.testBit k = true
    · rw [if_pos h, ja_mo, ih, ja_m2]
      constructor
      · rintro (⟨j, x, y⟩ | x)
        · exact ⟨j, by omega, y⟩
        · exact ⟨k, by omega, x, h⟩
      · rintro ⟨j, x, y, z⟩
        rcases Nat.lt_or_ge j k with w | w
        · exact Or.inl ⟨j, w, y, z⟩
        · have : j = k := by omega
          subst this
          exact Or.inr y
    · rw [if_neg h, ih]
      constructor
      · rintro ⟨j, x, y⟩
        exact ⟨j, by omega, y⟩
      · rintro ⟨j, x, y, z⟩
        rcases Nat.lt_or_ge j k with w | w
        · exact ⟨j, w, y, z⟩
        · have : j = k := by omega
          subst this
          exact absurd z h
theorem jf_yk_ro (a : Nat) : jf_yk a 12 = jf_ro a := ja_ext fun r => by
  rw [jf_yk_bit, jf_ro_bit]
  constructor
  · rintro ⟨j, x, y, z⟩
    refine ⟨by omega, ?_⟩
    rcases Nat.mod_two_eq_zero_or_one j with w | w
    · exact Or.inl (by rw [show 2 * r = j from by omega]; exact z)
    · exact Or.inr (by rw [show 2 * r + 1 = j from by omega]; exact z)
  · rintro ⟨h, x | x⟩
    · exact ⟨2 * r, by omega, by omega, x⟩
    · exact ⟨2 * r + 1, by omega, by omega, x⟩
/-! ===== the forest of operators ===== -/
def jf_set (s : Nat → Nat) (i : Nat) : Nat := s (2 * i) ||| s (2 * i + 1)
def jf_rl (la ra : Nat → Nat) (i : Nat) : Nat := jf_ro (la i) ||| jf_ro (ra i)
def jf_ii (la ra : Nat → Nat) (S i : Nat) : Nat := if ja_sd (jf_rl la ra i) S = 0 then 1 else 0
theorem jf_ii_1 {la ra : Nat → Nat} {S i : Nat} (h : ja_sub (jf_rl la ra i) S) : jf_ii la ra S i = 1 := if_pos (ja_sd0.mpr h)
theorem jf_ii_0 {la ra : Nat → Nat} {S i : Nat} (h : ¬ ja_sub (jf_rl la ra i) S) : jf_ii la ra S i = 0 := if_neg fun z => h (ja_sd0.mp z)
theorem jf_ii_le {la ra : Nat → Nat} {S i : Nat} : jf_ii la ra S i ≤ 1 := by unfold jf_ii; split <;> omega
def jf_nd (m : Nat) (s : Nat → Nat) (T : Nat) : Prop := (∃ r, r < 6 ∧ T = 2 ^ r) ∨ ∃ k, k < m ∧ T = jf_set s k
def jf_F1 (n e m U : Nat) : Prop := n ≤ 6 ∧ U < 2 ^ n ∧ e + m = ja_pc U
def jf_F2 (e U : Nat) (E V : Nat → Nat) : Prop :=
  (∀ j, j < e → E j ≠ 0 ∧ ja_sub (E j) U) ∧ (∀ j k, j < e → k < e → j ≠ k → ja_dj (E j) (E k)) ∧
  (∀ r, U.testBit r = true → ∃ j, j < e ∧ (E j).testBit r = true) ∧ (∀ j, j < e → ∀ a, (V j).testBit a = true → a < 12 ∧ (E j).testBit (a / 2) = true)
def jf_F3 (m U : Nat) (la ra s : Nat → Nat) : Prop :=
  ∀ i, i < m → la i ≠ 0 ∧ ra i ≠ 0 ∧ (∀ a, (la i).testBit a = true → a < 12 ∧ (s (2 * i)).testBit (a / 2) = true) ∧
    (∀ a, (ra i).testBit a = true → a < 12 ∧ (s (2 * i + 1)).testBit (a / 2) = true) ∧ ja_dj (s (2 * i)) (s (2 * i + 1)) ∧ ja_sub (jf_set s i) U
def jf_F4 (e m : Nat) (E s : Nat → Nat) : Prop := ∀ i j, i < m → j < e → ja_sub (jf_set s i) (E j) ∨ ja_dj (jf_set s i) (E j)
def jf_F5 (m : Nat) (s : Nat → Nat) : Prop :=
  ∀ i k, i < m → k < m → i ≠ k → ja_sub (jf_set s i) (jf_set s k) → ja_sub (jf_set s i) (s (2 * k)) ∨ ja_sub (jf_set s i) (s (2 * k + 1))
def jf_F6 (m : Nat) (la ra : Nat → Nat) : Prop := ∀ S, S ≠ 0 → S < 64 → ja_sm (jf_ii la ra S) m + 1 ≤ ja_pc S
def jf_F7 (e m : Nat) (E s : Nat → Nat) : Prop := (∀ j, j < e → jf_nd m s (E j)) ∧ (∀ i, i < m → jf_nd m s (s (2 * i)) ∧ jf_nd m s (s (2 * i + 1)))
def jf_FR (n e m U : Nat) (E V la ra s : Nat → Nat) : Prop :=
  jf_F1 n e m U ∧ jf_F2 e U E V ∧ jf_F3 m U la ra s ∧ jf_F4 e m E s ∧ jf_F5 m s ∧ jf_F6 m la ra ∧ jf_F7 e m E s
theorem jf_0 {n : Nat} (E V la ra s : Nat → Nat) (hn : n ≤ 6) : jf_FR n 0 0 0 E V la ra s := by
  refine ⟨⟨hn, Nat.two_pow_pos n, rfl⟩, ⟨fun j h => absurd h (by omega), fun j k h => absurd h (by omega), fun r h => absurd h ja_n0, fun j h => absurd h (by omega)⟩, fun i h => absurd h (by omega), fun i j h => absurd h (by omega), fun i j h => absurd h (by omega), ?_, ⟨fun j h => absurd h (by omega), fun j h => absurd h (by omega)⟩⟩
  intro S h0 h6
  show 0 + 1 ≤ _
  have := ja_pc_pos h0 h6
  omega
theorem jf_v6 : ∀ p, p < 6 → 3 * 4 ^ p < 2 ^ 12 ∧ ∀ a, a < 12 → (3 * 4 ^ p).testBit a = true → a / 2 = p := by decide +kernel
theorem jf_leaf {n e m U p : Nat} {E V la ra s : Nat → Nat} (h : jf_FR n e m U E V la ra s) (hp : p < n) (hu : ¬ U.testBit p = true) :
    jf_FR n (e + 1) m (U ||| 2 ^ p) (ja_up E e (2 ^ p)) (ja_up V e (3 * 4 ^ p)) la ra s := by
  obtain ⟨⟨hn, hU, hpc⟩, ⟨a1, a2, a3, a4⟩, h3, h4, h5, h6, h7, h8⟩ := h
  have hd : ja_dj U (2 ^ p) := fun i x y => hu (by rw [ja_m2.mp y]; exact x)
  have p6 : p < 6 := by omega
  refine ⟨⟨hn, Nat.or_lt_two_pow hU (Nat.pow_lt_pow_right (by decide) hp), by rw [ja_pc_or hd, ja_pc_p p p6]; omega⟩, ⟨?_, ?_, ?_, ?_⟩, ?_, ?_, h5, h6, ?_, h8⟩
  · intro j hj
    by_cases e1 : j = e
    · subst e1
      rw [ja_us]
      exact ⟨(ja_p64 p p6).2, ja_or_r⟩
    · rw [ja_un e1]
      exact ⟨(a1 j (by omega)).1, ja_sub_tr (a1 j (by omega)).2 ja_or_l⟩
  · intro j k hj hk hne
    by_cases e1 : j = e
    · subst e1
      rw [ja_us, ja_un (by omega)]
      exact fun i x y => hd i ((a1 k (by omega)).2 i y) x
    · rw [ja_un e1]
      by_cases e2 : k = e
      · subst e2
        rw [ja_us]
        exact fun i x y => hd i ((a1 j (by omega)).2 i x) y
      · rw [ja_un e2]
        exact a2 j k (by omega) (by omega) hne
  · intro r hr
    rcases ja_mo.mp hr with x | x
    · obtain ⟨j, hj, z⟩ := a3 r x
      exact ⟨j, by omega, by rw [ja_un (by omega)]; exact z⟩
    · exact ⟨e, by omega, by rw [ja_us]; exact x⟩
  · intro j hj a ha
    by_cases e1 : j = e
    · subst e1
      rw [ja_us] at ha ⊢
      have hv := jf_v6 p p6
      have h12 := ja_bd hv.1 ha
      exact ⟨h12, ja_m2.mpr (hv.2 a h12 ha).symm⟩
    · rw [ja_un e1] at ha ⊢
      exact a4 j (by omega) a ha
  · intro i hi
    obtain ⟨b1, b2, b3, b4, b5, b6⟩ := h3 i hi
    exact ⟨b1, b2, b3, b4, b5, ja_sub_tr b6 ja_or_l⟩
  · intro i j hi hj
    by_cases e1 : j = e
    · subst e1
      rw [ja_us]
      exact Or.inr fun k x y => hd k ((h3 i hi).2.2.2.2.2 k x) y
    · rw [ja_un e1]
      exact h4 i j hi (by omega)
  · intro j hj
    by_cases e1 : j = e
    · subst e1
      rw [ja_us]
      exact Or.inl ⟨p, p6, rfl⟩
    · rw [ja_un e1]
      exact h7 j (by omega)
theorem jf_ron {m U : Nat} {la ra s : Nat → Nat} (h3 : jf_F3 m U la ra s) {i : Nat} (hi : i < m) :
    jf_ro (la i) ≠ 0 ∧ jf_ro (ra i) ≠ 0 ∧ ja_sub (jf_ro (la i)) (s (2 * i)) ∧ ja_sub (jf_ro (ra i)) (s (2 * i + 1)) := by
  obtain ⟨b1, b2, b3, b4, b5, b6⟩ := h3 i hi
  have key : ∀ (x t : Nat), x ≠ 0 → (∀ a, x.testBit a = true → a < 12 ∧ t.testBit (a / 2) = true) → jf_ro x ≠ 0 ∧ ja_sub (jf_ro x) t := by
    intro x t hx ht
    constructor
    · obtain ⟨a, ha⟩ := ja_nz.mp hx
      refine ja_nz.mpr ⟨a / 2, (jf_ro_bit x (a / 2)).mpr ⟨by have := (ht a ha).1; omega, ?_⟩⟩
      rcases Nat.mod_two_eq_zero_or_one a with w | w
      · exact Or.inl (by rw [show 2 * (a / 2) = a from by omega]; exact ha)
      · exact Or.inr (by rw [show 2 * (a / 2) + 1 = a from by omega]; exact ha)
    · intro r hr
      obtain ⟨_, z | z⟩ := (jf_ro_bit x r).mp hr
      · have := (ht _ z).2
        rw [show 2 * r / 2 = r from by omega] at this
        exact this
      · have := (ht _ z).2
        rw [show (2 * r + 1) / 2 = r from by omega] at this
        exact this
  exact ⟨(key _ _ b1 b3).1, (key _ _ b2 b4).1, (key _ _ b1 b3).2, (key _ _ b2 b4).2⟩
theorem jf_rls {m U : Nat} {la ra s : Nat → Nat} (h3 : jf_F3 m U la ra s) {i : Nat} (hi : i < m) : ja_sub (jf_rl la ra i) (jf_set s i) := by
  have h := jf_ron h3 hi
  exact ja_or_sub (ja_sub_tr h.2.2.1 ja_or_l) (ja_sub_tr h.2.2.2 ja_or_r)
end
section
/-! ===== a join keeps the forest ===== -/
theorem jf_join {n e m U la' ra' v' : Nat} {E V la ra s E1 V1 la1 ra1 s1 : Nat → Nat} (h : jf_FR n (e + 2) m U E V la ra s)
    (hl0 : la' ≠ 0) (hls : ja_sub la' (V e)) (hr0 : ra' ≠ 0) (hrs : ja_sub ra' (V (e + 1)))
    (hv : ∀ a, v'.testBit a = true → (V e).testBit a = true ∨ (V (e + 1)).testBit a = true)
    (eE : ∀ j, j < e → E1 j = E j) (eEe : E1 e = E e ||| E (e + 1)) (eV : ∀ j, j < e → V1 j = V j) (eVe : V1 e = v')
    (el : ∀ i, i < m → la1 i = la i) (elm : la1 m = la') (er : ∀ i, i < m → ra1 i = ra i) (erm : ra1 m = ra')
    (es : ∀ i, i < 2 * m → s1 i = s i) (esl : s1 (2 * m) = E e) (esr : s1 (2 * m + 1) = E (e + 1)) :
    jf_FR n (e + 1) (m + 1) U E1 V1 la1 ra1 s1 := by
  obtain ⟨⟨hn, hU, hpc⟩, ⟨a1, a2, a3, a4⟩, h3, h4, h5, h6, h7, h8⟩ := h
  have hU6 : U < 64 := Nat.lt_of_lt_of_le hU (Nat.pow_le_pow_right (by decide) hn)
  have hA := a1 e (by omega)
  have hB := a1 (e + 1) (by omega)
  have hd : ja_dj (E e) (E (e + 1)) := a2 e (e + 1) (by omega) (by omega) (by omega)
  have eset : ∀ i, i < m → jf_set s1 i = jf_set s i := fun i hi => by
    unfold jf_set; rw [es _ (by omega), es _ (by omega)]
  have eset' : jf_set s1 m = E e ||| E (e + 1) := by unfold jf_set; rw [esl, esr]
  have g3 : jf_F3 (m + 1) U la1 ra1 s1 := by
    intro i hi
    by_cases e1 : i = m
    · subst e1
      rw [elm, erm, esl, esr, eset']
      exact ⟨hl0, hr0, fun a ha => a4 e (by omega) a (hls a ha), fun a ha => a4 (e + 1) (by omega) a (hrs a ha), hd, ja_or_sub hA.2 hB.2⟩
    · have hi' : i < m := by omega
      rw [el i hi', er i hi', es _ (by omega), es _ (by omega), eset i hi']
      exact h3 i hi'
  have nds : ∀ T, jf_nd m s T → jf_nd (m + 1) s1 T := by
    rintro T (x | ⟨k, hk, x⟩)
    · exact Or.inl x
    · exact Or.inr ⟨k, by omega, by rw [eset k hk]; exact x⟩
  refine ⟨⟨hn, hU, by omega⟩, ⟨?_, ?_, ?_, ?_⟩, g3, ?_, ?_, ?_, ?_, ?_⟩
  · intro j hj
    by_cases e1 : j = e
    · subst e1
      rw [eEe]
      refine ⟨fun z => hA.1 ?_, ja_or_sub hA.2 hB.2⟩
      exact ja_e0 fun i hi => absurd (ja_mo.mpr (Or.inl hi)) (by rw [z]; exact ja_n0)
    · rw [eE j (by omega)]
      exact a1 j (by omega)
  · intro j k hj hk hne
    by_cases e1 : j = e
    · subst e1
      rw [eEe, eE k (by omega)]
      intro i x y
      rcases ja_mo.mp x with z | z
      · exact a2 j k (by omega) (by omega) hne i z y
      · exact a2 (j + 1) k (by omega) (by omega) (by omega) i z y
    · rw [eE j (by omega)]
      by_cases e2 : k = e
      · subst e2
        rw [eEe]
        intro i x y
        rcases ja_mo.mp y with z | z
        · exact a2 j k (by omega) (by omega) hne i x z
        · exact a2 j (k + 1) (by omega) (by omega) (by omega) i x z
      · rw [eE k (by omega)]
        exact a2 j k (by omega) (by omega) hne
  · intro r hr
    obtain ⟨j, hj, z⟩ := a3 r hr
    rcases Nat.lt_or_ge j e with w | w
    · exact ⟨j, by omega, by rw [eE j w]; exact z⟩
    · refine ⟨e, by omega, ?_⟩
      rw [eEe, ja_mo]
      by_cases e1 : j = e
      · subst e1; exact Or.inl z
      · have : j = e + 1 := by omega
        subst this; exact Or.inr z
  · intro j hj a ha
    by_cases e1 : j = e
    · subst e1
      rw [eVe] at ha
      rw [eEe, ja_mo]
      rcases hv a ha with z | z
      · have := a4 j (by omega) a z
        exact ⟨this.1, Or.inl this.2⟩
      · have := a4 (j + 1) (by omega) a z
        exact ⟨this.1, Or.inr this.2⟩
    · rw [eV j (by omega)] at ha
      rw [eE j (by omega)]
      exact a4 j (by omega) a ha
  · intro i j hi hj
    by_cases e1 : i = m
    · subst e1
      rw [eset']
      by_cases e2 : j = e
      · subst e2
        rw [eEe]
        exact Or.inl ja_sub_rfl
      · rw [eE j (by omega)]
        refine Or.inr fun k x y => ?_
        rcases ja_mo.mp x with z | z
        · exact a2 e j (by omega) (by omega) (by omega) k z y
        · exact a2 (e + 1) j (by omega) (by omega) (by omega) k z y
    · have hi' : i < m := by omega
      rw [eset i hi']
      by_cases e2 : j = e
      · subst e2
        rw [eEe]
        rcases h4 i j hi' (by omega) with z | z
        · exact Or.inl (ja_sub_tr z ja_or_l)
        · rcases h4 i (j + 1) hi' (by omega) with w | w
          · exact Or.inl (ja_sub_tr w ja_or_r)
          · exact Or.inr fun k x y => (ja_mo.mp y).elim (z k x) (w k x)
      · rw [eE j (by omega)]
        exact h4 i j hi' (by omega)
  · intro i k hi hk hne hs
    by_cases e1 : i = m
    · subst e1
      have hk' : k < i := by omega
      rw [eset', eset k hk'] at hs
      exfalso
      obtain ⟨x, hx⟩ := ja_nz.mp hA.1
      obtain ⟨y, hy⟩ := ja_nz.mp hB.1
      rcases h4 k e hk' (by omega) with z | z
      · exact hd y (z y (hs y (ja_mo.mpr (Or.inr hy)))) hy
      · exact z x (hs x (ja_mo.mpr (Or.inl hx))) hx
    · have hi' : i < m := by omega
      by_cases e2 : k = m
      · subst e2
        rw [eset i hi', eset'] at hs
        rw [eset i hi', esl, esr]
        rcases h4 i e hi' (by omega) with z | z
        · exact Or.inl z
        · refine Or.inr fun x hx => ?_
          rcases ja_mo.mp (hs x hx) with w | w
          · exact absurd w (fun w => z x hx w)
          · exact w
      · have hk' : k < m := by omega
        rw [eset i hi', eset k hk'] at hs
        rw [eset i hi', es _ (by omega), es _ (by omega)]
        exact h5 i k hi' hk' hne hs
  · intro S hS0 hS6
    have eo : ∀ i, i < m → jf_rl la1 ra1 i = jf_rl la ra i := fun i hi => by unfold jf_rl; rw [el i hi, er i hi]
    show ja_sm (jf_ii la1 ra1 S) m + jf_ii la1 ra1 S m + 1 ≤ ja_pc S
    have eq1 : ja_sm (jf_ii la1 ra1 S) m = ja_sm (jf_ii la ra S) m := ja_sm_cg m fun i hi => by unfold jf_ii; rw [eo i hi]
    rw [eq1]
    by_cases hin : ja_sub (jf_rl la1 ra1 m) S
    · rw [jf_ii_1 hin]
      have hr := jf_ron g3 (i := m) (by omega)
      rw [elm, erm, esl, esr] at hr
      unfold jf_rl at hin
      rw [elm, erm] at hin
      have n1 : S &&& E e ≠ 0 := by
        obtain ⟨x, hx⟩ := ja_nz.mp hr.1
        exact ja_nz.mpr ⟨x, ja_ma.mpr ⟨hin x (ja_mo.mpr (Or.inl hx)), hr.2.2.1 x hx⟩⟩
      have n2 : ja_sd S (E e) ≠ 0 := by
        obtain ⟨x, hx⟩ := ja_nz.mp hr.2.1
        exact ja_nz.mpr ⟨x, ja_md.mpr ⟨hin x (ja_mo.mpr (Or.inr hx)), fun w => hd x w (hr.2.2.2 x hx)⟩⟩
      have b1 := h6 (S &&& E e) n1 (Nat.lt_of_le_of_lt Nat.and_le_left hS6)
      have b2 := h6 (ja_sd S (E e)) n2 (Nat.lt_of_le_of_lt (ja_sd_le _ _) hS6)
      have b3 := ja_pc_split S (E e)
      have b4 : ja_sm (jf_ii la ra S) m ≤ ja_sm (fun i => jf_ii la ra (S &&& E e) i + jf_ii la ra (ja_sd S (E e)) i) m := by
        refine ja_sm_le m fun i hi => ?_
        by_cases hx : ja_sub (jf_rl la ra i) S
        · rw [jf_ii_1 hx]
          have hsub := jf_rls h3 hi
          rcases h4 i e hi (by omega) with z | z
          · rw [jf_ii_1 (S := S &&& E e) fun x y => ja_ma.mpr ⟨hx x y, z x (hsub x y)⟩]
            omega
          · rw [jf_ii_1 (S := ja_sd S (E e)) fun x y => ja_md.mpr ⟨hx x y, fun w => z x (hsub x y) w⟩]
            omega
        · rw [jf_ii_0 hx]
          omega
      rw [ja_sm_add] at b4
      omega
    · rw [jf_ii_0 hin]
      exact h6 S hS0 hS6
  · intro j hj
    by_cases e1 : j = e
    · subst e1
      rw [eEe]
      exact Or.inr ⟨m, by omega, eset'.symm⟩
    · rw [eE j (by omega)]
      exact nds _ (h7 j (by omega))
  · intro i hi
    by_cases e1 : i = m
    · subst e1
      rw [esl, esr]
      exact ⟨nds _ (h7 e (by omega)), nds _ (h7 (e + 1) (by omega))⟩
    · have hi' : i < m := by omega
      rw [es _ (by omega), es _ (by omega)]
      exact ⟨nds _ (h8 i hi').1, nds _ (h8 i hi').2⟩
end
section
/-! ===== planning: components, splits ===== -/
noncomputable def ja_if {α : Type} (P : Prop) (a b : α) : α := @ite α P (Classical.propDecidable P) a b
theorem ja_ift {α : Type} {P : Prop} {a b : α} (h : P) : ja_if P a b = a := @if_pos P (Classical.propDecidable P) h α a b
theorem ja_iff {α : Type} {P : Prop} {a b : α} (h : ¬ P) : ja_if P a b = b := @if_neg P (Classical.propDecidable P) h α a b
def jp_ii (lr rr : Nat → Nat) (S i : Nat) : Nat := if ja_sd (lr i ||| rr i) S = 0 then 1 else 0
theorem jp_ii_1 {lr rr : Nat → Nat} {S i : Nat} (h : ja_sub (lr i ||| rr i) S) : jp_ii lr rr S i = 1 := if_pos (ja_sd0.mpr h)
theorem jp_ii_0 {lr rr : Nat → Nat} {S i : Nat} (h : ¬ ja_sub (lr i ||| rr i) S) : jp_ii lr rr S i = 0 := if_neg fun z => h (ja_sd0.mp z)
theorem jp_ii_s {lr rr : Nat → Nat} {S i : Nat} (h : jp_ii lr rr S i ≠ 0) : ja_sub (lr i ||| rr i) S := by
  apply Classical.byContradiction
  intro z
  exact h (jp_ii_0 z)
def jp_PL (m U : Nat) (lr rr : Nat → Nat) : Prop :=
  U < 64 ∧ m + 1 = ja_pc U ∧ (∀ i, i < m → lr i ≠ 0 ∧ rr i ≠ 0 ∧ ja_dj (lr i) (rr i) ∧ ja_sub (lr i ||| rr i) U) ∧
  (∀ S, S ≠ 0 → S < 64 → ja_sm (jp_ii lr rr S) m + 1 ≤ ja_pc S)
/-- the mask of the operators inside a set, first k -/
def jp_ok (lr rr : Nat → Nat) (S : Nat) : Nat → Nat
  | 0 => 0
  | k + 1 => if ja_sd (lr k ||| rr k) S = 0 then jp_ok lr rr S k ||| 2 ^ k else jp_ok lr rr S k
theorem jp_ok_bit {lr rr : Nat → Nat} {S : Nat} : ∀ k i, (jp_ok lr rr S k).testBit i = true ↔ i < k ∧ ja_sub (lr i ||| rr i) S := by
  intro k
  induction k with
  | zero =>
    intro i
    exact ⟨fun h => absurd h ja_n0, fun h => absurd h.1 (by omega)⟩
  | succ k ih =>
    intro i
    show (if ja_sd (lr k ||| rr k) S = 0 then jp_ok lr rr S k ||| 2 ^ k else jp_ok lr rr S k).testBit i = true ↔ _
    by_cases h : ja_sd (lr k ||| rr k) S = 0
    · rw [if_pos h, ja_mo, ih, ja_m2]
      constructor
      · rintro (x | x)
        · exact ⟨by omega, x.2⟩
        · subst x; exact ⟨by omega, ja_sd0.mp h⟩
      · intro x
        rcases Nat.lt_or_ge i k with z | z
        · exact Or.inl ⟨z, x.2⟩
        · exact Or.inr (by omega)
    · rw [if_neg h, ih]
      constructor
      · intro x; exact ⟨by omega, x.2⟩
      · intro x
        rcases Nat.lt_or_ge i k with z | z
        · exact ⟨z, x.2⟩
        · have : i = k := by omega
          subst this
          exact absurd (ja_sd0.mpr x.2) h
theorem jp_ok_lt {lr rr : Nat → Nat} {S : Nat} (k : Nat) (h : k ≤ 5) : jp_ok lr rr S k < 32 := by
  show jp_ok lr rr S k < 2 ^ 5
  apply Nat.lt_pow_two_of_testBit
  intro i hi
  cases z : (jp_ok lr rr S k).testBit i
  · rfl
  · have := ((jp_ok_bit k i).mp z).1
    omega
/-- one pass of the component, first k operators -/
def jp_cp (lr rr : Nat → Nat) (O C : Nat) : Nat → Nat
  | 0 => C
  | k + 1 => if O.testBit k = true ∧ (lr k ||| rr k) &&& jp_cp lr rr O C k ≠ 0 then jp_cp lr rr O C k ||| (lr k ||| rr k) else jp_cp lr rr O C k
def jp_cm (lr rr : Nat → Nat) (m O C : Nat) : Nat → Nat
  | 0 => C
  | p + 1 => jp_cp lr rr O (jp_cm lr rr m O C p) m
def jp_cl (lr rr : Nat → Nat) (m O D : Nat) : Prop := ∀ i, i < m → O.testBit i = true → ja_dj (lr i ||| rr i) D ∨ ja_sub (lr i ||| rr i) D
section
variable {lr rr : Nat → Nat} {m O : Nat}
theorem jp_cp_s (C k : Nat) : jp_cp lr rr O C (k + 1) = if O.testBit k = true ∧ (lr k ||| rr k) &&& jp_cp lr rr O C k ≠ 0 then jp_cp lr rr O C k ||| (lr k ||| rr k) else jp_cp lr rr O C k := rfl
theorem jp_cp_1 (C k : Nat) : ja_sub (jp_cp lr rr O C k) (jp_cp lr rr O C (k + 1)) := by
  rw [jp_cp_s]
  split
  · exact ja_or_l
  · exact ja_sub_rfl
theorem jp_cp_mono (C k : Nat) : ∀ d, ja_sub (jp_cp lr rr O C k) (jp_cp lr rr O C (k + d)) := by
  intro d
  induction d with
  | zero => exact ja_sub_rfl
  | succ d ih => exact ja_sub_tr ih (jp_cp_1 C (k + d))
theorem jp_cp_sub (C k : Nat) : ja_sub C (jp_cp lr rr O C k) := by
  have := jp_cp_mono (lr := lr) (rr := rr) (O := O) C 0 k
  rw [Nat.zero_add] at this
  exact this
theorem jp_cp_min {C D : Nat} (hD : jp_cl lr rr m O D) (h : ja_sub C D) : ∀ k, k ≤ m → ja_sub (jp_cp lr rr O C k) D := by
  intro k
  induction k with
  | zero => intro _; exact h
  | succ k ih =>
    intro hk
    have ih := ih (by omega)
    rw [jp_cp_s]
    split
    · rename_i hc
      refine ja_or_sub ih ?_
      rcases hD k (by omega) hc.1 with z | z
      · obtain ⟨i, hi⟩ := ja_nz.mp hc.2
        exact absurd (ih i (ja_ma.mp hi).2) (fun w => z i (ja_ma.mp hi).1 w)
      · exact z
    · exact ih
theorem jp_cp_fix {C : Nat} (h : jp_cp lr rr O C m = C) : jp_cl lr rr m O C := by
  have hk : ∀ k, k ≤ m → jp_cp lr rr O C k = C := by
    intro k hk
    refine ja_sub_anti ?_ (jp_cp_sub C k)
    have := jp_cp_mono (lr := lr) (rr := rr) (O := O) C k (m - k)
    rw [show k + (m - k) = m from by omega, h] at this
    exact this
  intro i hi ho
  by_cases hz : (lr i ||| rr i) &&& C = 0
  · exact Or.inl (ja_an0'.mp hz)
  · right
    have h1 := hk (i + 1) (by omega)
    rw [jp_cp_s, hk i (by omega), if_pos ⟨ho, hz⟩] at h1
    intro x hx
    rw [← h1]
    exact ja_mo.mpr (Or.inr hx)
theorem jp_cm_sub (C : Nat) : ∀ p, ja_sub C (jp_cm lr rr m O C p) := by
  intro p
  induction p with
  | zero => exact ja_sub_rfl
  | succ p ih => exact ja_sub_tr ih (jp_cp_sub _ m)
theorem jp_cm_min {C D : Nat} (hD : jp_cl lr rr m O D) (h : ja_sub C D) : ∀ p, ja_sub (jp_cm lr rr m O C p) D := by
  intro p
  induction p with
  | zero => exact h
  | succ p ih => exact jp_cp_min hD ih m (Nat.le_refl _)
theorem jp_cm_grow {C U : Nat} (hU : U < 64) (hO : ∀ i, i < m → O.testBit i = true → ja_sub (lr i ||| rr i) U) (hC : ja_sub C U) (h0 : C ≠ 0) :
    ∀ p, jp_cl lr rr m O (jp_cm lr rr m O C p) ∨ p + 1 ≤ ja_pc (jp_cm lr rr m O C p) := by
  have hUc : jp_cl lr rr m O U := fun i hi ho => Or.inr (hO i hi ho)
  intro p
  induction p with
  | zero => exact Or.inr (ja_pc_pos h0 (Nat.lt_of_le_of_lt (ja_sub_le hC) hU))
  | succ p ih =>
    rcases ih with z | z
    · left
      have e : jp_cm lr rr m O C (p + 1) = jp_cm lr rr m O C p := ja_sub_anti (jp_cp_min z ja_sub_rfl m (Nat.le_refl _)) (jp_cp_sub _ m)
      rw [e]
      exact z
    · by_cases hl : ja_pc (jp_cm lr rr m O C (p + 1)) ≤ ja_pc (jp_cm lr rr m O C p)
      · left
        have s6 : jp_cm lr rr m O C (p + 1) < 64 := Nat.lt_of_le_of_lt (ja_sub_le (jp_cm_min hUc hC (p + 1))) hU
        have e : jp_cm lr rr m O C p = jp_cm lr rr m O C (p + 1) := ja_pc_eq (jp_cp_sub _ m) s6 hl
        rw [← e]
        exact jp_cp_fix (by show jp_cm lr rr m O C (p + 1) = _; exact e.symm)
      · right
        omega
theorem jp_cm_cl {C U : Nat} (hU : U < 64) (hm : m + 1 = ja_pc U) (hO : ∀ i, i < m → O.testBit i = true → ja_sub (lr i ||| rr i) U) (hC : ja_sub C U) (h0 : C ≠ 0) :
    jp_cl lr rr m O (jp_cm lr rr m O C m) := by
  have hUc : jp_cl lr rr m O U := fun i hi ho => Or.inr (hO i hi ho)
  rcases jp_cm_grow hU hO hC h0 m with z | z
  · exact z
  · have e := ja_pc_eq (jp_cm_min hUc hC m) hU (by omega)
    rw [e]
    exact hUc
end
/-! connected and tight sets -/
def jp_gd (m : Nat) (lr rr : Nat → Nat) (S : Nat) : Prop :=
  S ≠ 0 ∧ (∀ C, C ≠ 0 → ja_sub C S → (∀ i, i < m → ja_sub (lr i ||| rr i) S → ja_sub (lr i ||| rr i) C ∨ ja_dj (lr i ||| rr i) C) → C = S) ∧
  ja_sm (jp_ii lr rr S) m + 1 = ja_pc S
section
variable {lr rr : Nat → Nat} {m U : Nat}
theorem jp_gd1 (H : jp_PL m U lr rr) {r : Nat} (hr : r < 6) : jp_gd m lr rr (2 ^ r) := by
  refine ⟨(ja_p64 r hr).2, ?_, ?_⟩
  · intro C h0 hs _
    refine ja_sub_anti hs ?_
    intro i hi
    obtain ⟨j, hj⟩ := ja_nz.mp h0
    have e1 := ja_m2.mp (hs j hj)
    have e2 := ja_m2.mp hi
    rw [← e2, e1]
    exact hj
  · have h1 := H.2.2.2 (2 ^ r) (ja_p64 r hr).2 (ja_p64 r hr).1
    rw [ja_pc_p r hr] at h1 ⊢
    omega
theorem jp_nsub {q a b : Nat} (H : jp_PL m U lr rr) (hq : q < m) (hd : ja_dj a b) (hb : ja_sub (rr q) b) : ¬ ja_sub (lr q ||| rr q) a := by
  intro h
  obtain ⟨x, hx⟩ := ja_nz.mp (H.2.2.1 q hq).2.1
  exact hd x (h x (ja_mo.mpr (Or.inr hx))) (hb x hx)
theorem jp_nsub' {q a b : Nat} (H : jp_PL m U lr rr) (hq : q < m) (hd : ja_dj a b) (ha : ja_sub (lr q) a) : ¬ ja_sub (lr q ||| rr q) b := by
  intro h
  obtain ⟨x, hx⟩ := ja_nz.mp (H.2.2.1 q hq).1
  exact hd x (ha x hx) (h x (ja_mo.mpr (Or.inl hx)))
theorem jp_rl0 {i : Nat} (H : jp_PL m U lr rr) (hi : i < m) : lr i ||| rr i ≠ 0 := by
  obtain ⟨x, hx⟩ := ja_nz.mp (H.2.2.1 i hi).1
  exact ja_nz.mpr ⟨x, ja_mo.mpr (Or.inl hx)⟩
theorem jp_split {q a b : Nat} (H : jp_PL m U lr rr) (ga : jp_gd m lr rr a) (gb : jp_gd m lr rr b) (hd : ja_dj a b) (h6 : a ||| b < 64) (hq : q < m) (hl : ja_sub (lr q) a) (hr : ja_sub (rr q) b) :
    (∀ i, i < m → i ≠ q → ja_sub (lr i ||| rr i) (a ||| b) → ja_sub (lr i ||| rr i) a ∨ ja_sub (lr i ||| rr i) b) ∧ jp_gd m lr rr (a ||| b) := by
  have hS0 : a ||| b ≠ 0 := by
    obtain ⟨x, hx⟩ := ja_nz.mp ga.1
    exact ja_nz.mpr ⟨x, ja_mo.mpr (Or.inl hx)⟩
  have hc := H.2.2.2 (a ||| b) hS0 h6
  rw [ja_pc_or hd] at hc
  have ha := ga.2.2
  have hb := gb.2.2
  have hqS : ja_sub (lr q ||| rr q) (a ||| b) := ja_or_sub (ja_sub_tr hl ja_or_l) (ja_sub_tr hr ja_or_r)
  have hle : ∀ i, i < m → (jp_ii lr rr a i + jp_ii lr rr b i) + (if i = q then 1 else 0) ≤ jp_ii lr rr (a ||| b) i := by
    intro i hi
    by_cases e : i = q
    · subst e
      rw [jp_ii_0 (jp_nsub H hi hd hr), jp_ii_0 (jp_nsub' H hi hd hl), jp_ii_1 hqS, if_pos rfl]
      omega
    · rw [if_neg e]
      by_cases h1 : ja_sub (lr i ||| rr i) a
      · have h2 : ¬ ja_sub (lr i ||| rr i) b := fun z => by
          obtain ⟨x, hx⟩ := ja_nz.mp (jp_rl0 H hi)
          exact hd x (h1 x hx) (z x hx)
        rw [jp_ii_1 h1, jp_ii_0 h2, jp_ii_1 (ja_sub_tr h1 ja_or_l)]
        omega
      · rw [jp_ii_0 h1]
        by_cases h2 : ja_sub (lr i ||| rr i) b
        · rw [jp_ii_1 h2, jp_ii_1 (ja_sub_tr h2 ja_or_r)]
          omega
        · rw [jp_ii_0 h2]
          omega
  have hs : ja_sm (fun i => (jp_ii lr rr a i + jp_ii lr rr b i) + (if i = q then 1 else 0)) m = ja_pc a + ja_pc b - 1 := by
    rw [ja_sm_add, ja_sm_add, ja_sm_1 1 m hq]
    omega
  have heq := ja_sm_eq m hle (by rw [hs]; omega)
  have hpart : ∀ i, i < m → i ≠ q → ja_sub (lr i ||| rr i) (a ||| b) → ja_sub (lr i ||| rr i) a ∨ ja_sub (lr i ||| rr i) b := by
    intro i hi hne hin
    have := heq i hi
    rw [if_neg hne, jp_ii_1 hin] at this
    by_cases h1 : jp_ii lr rr a i = 0
    · exact Or.inr (jp_ii_s (by omega))
    · exact Or.inl (jp_ii_s h1)
  refine ⟨hpart, hS0, ?_, ?_⟩
  · intro C h0 hs hcl
    have hA : C &&& a = 0 ∨ C &&& a = a := by
      by_cases hz : C &&& a = 0
      · exact Or.inl hz
      · refine Or.inr (ga.2.1 _ hz (fun i hi => (ja_ma.mp hi).2) ?_)
        intro i hi hin
        rcases hcl i hi (ja_sub_tr hin ja_or_l) with z | z
        · exact Or.inl fun x hx => ja_ma.mpr ⟨z x hx, hin x hx⟩
        · exact Or.inr fun x hx hy => z x hx (ja_ma.mp hy).1
    have hB : C &&& b = 0 ∨ C &&& b = b := by
      by_cases hz : C &&& b = 0
      · exact Or.inl hz
      · refine Or.inr (gb.2.1 _ hz (fun i hi => (ja_ma.mp hi).2) ?_)
        intro i hi hin
        rcases hcl i hi (ja_sub_tr hin ja_or_r) with z | z
        · exact Or.inl fun x hx => ja_ma.mpr ⟨z x hx, hin x hx⟩
        · exact Or.inr fun x hx hy => z x hx (ja_ma.mp hy).1
    obtain ⟨x1, hx1⟩ := ja_nz.mp (H.2.2.1 q hq).1
    obtain ⟨x2, hx2⟩ := ja_nz.mp (H.2.2.1 q hq).2.1
    have key : ja_sub a C ∧ ja_sub b C := by
      rcases hA with z | z
      · rcases hB with w | w
        · exfalso
          obtain ⟨x, hx⟩ := ja_nz.mp h0
          rcases ja_mo.mp (hs x hx) with v | v
          · exact ja_an0'.mp z x hx v
          · exact ja_an0'.mp w x hx v
        · exfalso
          have hbC : ja_sub b C := fun x hx => by
            rw [← w] at hx
            exact (ja_ma.mp hx).1
          rcases hcl q hq hqS with v | v
          · exact ja_an0'.mp z x1 (v x1 (ja_mo.mpr (Or.inl hx1))) (hl x1 hx1)
          · exact v x2 (ja_mo.mpr (Or.inr hx2)) (hbC x2 (hr x2 hx2))
      · have haC : ja_sub a C := fun x hx => by
          rw [← z] at hx
          exact (ja_ma.mp hx).1
        rcases hB with w | w
        · exfalso
          rcases hcl q hq hqS with v | v
          · exact ja_an0'.mp w x2 (v x2 (ja_mo.mpr (Or.inr hx2))) (hr x2 hx2)
          · exact v x1 (ja_mo.mpr (Or.inl hx1)) (haC x1 (hl x1 hx1))
        · exact ⟨haC, fun x hx => by
            rw [← w] at hx
            exact (ja_ma.mp hx).1⟩
    exact ja_sub_anti hs (ja_or_sub key.1 key.2)
  · have := ja_sm_cg m (fun i hi => (heq i hi).symm)
    rw [this, hs, ja_pc_or hd]
    have := ja_pc_pos ga.1 (Nat.lt_of_le_of_lt (ja_sub_le ja_or_l) h6)
    omega
/-- the component of q's left relations over the other operators inside S -/
def jp_co (m : Nat) (lr rr : Nat → Nat) (S q : Nat) : Nat := jp_cm lr rr m (ja_sd (jp_ok lr rr S m) (2 ^ q)) (lr q) m
theorem jp_O {S q i : Nat} : (ja_sd (jp_ok lr rr S m) (2 ^ q)).testBit i = true ↔ i < m ∧ ja_sub (lr i ||| rr i) S ∧ i ≠ q := by
  rw [ja_md, jp_ok_bit, ja_m2]
  constructor
  · rintro ⟨⟨a, b⟩, c⟩
    exact ⟨a, b, fun z => c z.symm⟩
  · rintro ⟨a, b, c⟩
    exact ⟨⟨a, b⟩, fun z => c z.symm⟩
theorem jp_co_lr {S q : Nat} : ja_sub (lr q) (jp_co m lr rr S q) := jp_cm_sub _ _
theorem jp_co_S {S q : Nat} (hl : ja_sub (lr q) S) : ja_sub (jp_co m lr rr S q) S :=
  jp_cm_min (fun i _ ho => Or.inr (jp_O.mp ho).2.1) hl m
theorem jp_co_cl {S q : Nat} (H : jp_PL m U lr rr) (hq : q < m) : jp_cl lr rr m (ja_sd (jp_ok lr rr S m) (2 ^ q)) (jp_co m lr rr S q) := by
  have h := H.2.2.1 q hq
  exact jp_cm_cl H.1 H.2.1 (fun i hi _ => (H.2.2.1 i hi).2.2.2) (ja_sub_tr ja_or_l h.2.2.2) h.1
theorem jp_co_eq {q a b : Nat} (H : jp_PL m U lr rr) (ga : jp_gd m lr rr a) (gb : jp_gd m lr rr b) (hd : ja_dj a b) (h6 : a ||| b < 64) (hq : q < m) (hl : ja_sub (lr q) a) (hr : ja_sub (rr q) b) :
    jp_co m lr rr (a ||| b) q = a := by
  have hp := (jp_split H ga gb hd h6 hq hl hr).1
  have h1 : ja_sub (jp_co m lr rr (a ||| b) q) a := by
    refine jp_cm_min (fun i hi ho => ?_) hl m
    obtain ⟨_, h2, h3⟩ := jp_O.mp ho
    rcases hp i hi h3 h2 with z | z
    · exact Or.inr z
    · exact Or.inl fun x hx hy => hd x hy (z x hx)
  have hcl := jp_co_cl (S := a ||| b) H hq
  refine ga.2.1 _ ?_ h1 ?_
  · obtain ⟨x, hx⟩ := ja_nz.mp (H.2.2.1 q hq).1
    exact ja_nz.mpr ⟨x, jp_co_lr x hx⟩
  · intro i hi hin
    have hne : i ≠ q := fun z => by
      subst z
      exact jp_nsub H hi hd hr hin
    rcases hcl i hi (jp_O.mpr ⟨hi, ja_sub_tr hin ja_or_l, hne⟩) with z | z
    · exact Or.inr z
    · exact Or.inl z
end
end
section
/-! ===== the table of plans ===== -/
def jp_F (m : Nat) (lr rr : Nat → Nat) (al : Nat → Nat → Nat → Prop) (W : Nat → Int32) (q sl sr : Nat) : Prop :=
  W sl ≠ 0 ∧ W sr ≠ 0 ∧ ja_sub (lr q) sl ∧ ja_sub (rr q) sr ∧ ∀ i, i < m → (ja_sub (lr i ||| rr i) sl → al q i 0) ∧ (ja_sub (lr i ||| rr i) sr → al q i 1)
def jp_X (m : Nat) (lr rr : Nat → Nat) (al : Nat → Nat → Nat → Prop) (W : Nat → Int32) (S q : Nat) : Prop :=
  q < m ∧ ja_sub (lr q ||| rr q) S ∧ jp_F m lr rr al W q (jp_co m lr rr S q) (ja_sd S (jp_co m lr rr S q))
section
variable {lr rr : Nat → Nat} {m U : Nat} {al : Nat → Nat → Nat → Prop} {W : Nat → Int32}
theorem jp_Xp {S q : Nat} (H : jp_PL m U lr rr) (h : jp_X m lr rr al W S q) :
    jp_co m lr rr S q ≠ 0 ∧ ja_sd S (jp_co m lr rr S q) ≠ 0 ∧ jp_co m lr rr S q < S ∧ ja_sd S (jp_co m lr rr S q) < S ∧ ja_sub (jp_co m lr rr S q) S ∧ jp_co m lr rr S q ||| ja_sd S (jp_co m lr rr S q) = S := by
  obtain ⟨hq, hin, _, _, hl, hr, _⟩ := h
  have hs : ja_sub (jp_co m lr rr S q) S := jp_co_S (ja_sub_tr ja_or_l hin)
  obtain ⟨x, hx⟩ := ja_nz.mp (H.2.2.1 q hq).1
  obtain ⟨y, hy⟩ := ja_nz.mp (H.2.2.1 q hq).2.1
  have n1 : jp_co m lr rr S q ≠ 0 := ja_nz.mpr ⟨x, hl x hx⟩
  have n2 : ja_sd S (jp_co m lr rr S q) ≠ 0 := ja_nz.mpr ⟨y, hr y hy⟩
  refine ⟨n1, n2, ?_, ?_, hs, ja_sd_or hs⟩
  · have h1 := ja_sub_le hs
    rcases Nat.lt_or_ge (jp_co m lr rr S q) S with z | z
    · exact z
    · have e : jp_co m lr rr S q = S := by omega
      exfalso
      have := hr y hy
      rw [ja_md] at this
      rw [e] at this
      exact this.2 this.1
  · have h1 := ja_sd_le S (jp_co m lr rr S q)
    rcases Nat.lt_or_ge (ja_sd S (jp_co m lr rr S q)) S with z | z
    · exact z
    · have e : ja_sd S (jp_co m lr rr S q) = S := by omega
      exfalso
      have h2 := hs x (hl x hx)
      rw [← e] at h2
      exact (ja_md.mp h2).2 (hl x hx)
/-- a split that fits is the component's -/
theorem jp_XY {S q sl : Nat} (H : jp_PL m U lr rr) (hS6 : S < 64) (hSU : ja_sub S U) (hW : ∀ T, T ≠ 0 → T < S → ja_sub T U → W T ≠ 0 → jp_gd m lr rr T)
    (hq : q < m) (h0 : sl ≠ 0) (hlt : sl < S) (hs : ja_sub sl S) (hF : jp_F m lr rr al W q sl (ja_sd S sl)) :
    sl = jp_co m lr rr S q ∧ jp_X m lr rr al W S q := by
  have hF0 := hF
  obtain ⟨w1, w2, hl, hr, hal⟩ := hF
  have n2 : ja_sd S sl ≠ 0 := fun z => by
    have := ja_sub_le (ja_sd0.mp z)
    omega
  have l2 : ja_sd S sl < S := by
    have h1 := ja_sd_le S sl
    rcases Nat.lt_or_ge (ja_sd S sl) S with z | z
    · exact z
    · have e : ja_sd S sl = S := by omega
      exfalso
      obtain ⟨x, hx⟩ := ja_nz.mp h0
      have h2 := hs x hx
      rw [← e] at h2
      exact (ja_md.mp h2).2 hx
  have ga := hW sl h0 hlt (ja_sub_tr hs hSU) w1
  have gb := hW _ n2 l2 (ja_sub_tr (ja_sd_sub _ _) hSU) w2
  have eo := ja_sd_or hs
  have e := jp_co_eq H ga gb (ja_sd_dj S sl) (by rw [eo]; exact hS6) hq hl hr
  rw [eo] at e
  refine ⟨e.symm, hq, ?_, ?_⟩
  · have := ja_or_sub (ja_sub_tr hl (ja_or_l (b := ja_sd S sl))) (ja_sub_tr hr (ja_or_r (a := sl)))
    rw [eo] at this
    exact this
  · rw [e]
    exact hF0
/-- what one accepted root does to ways, cost, root, left -/
def jp_st (W C : Nat → Int32) (L R : Nat) (h : Int32) (q : Nat) (s : Int32 × Int32 × Int32 × Int32) : Int32 × Int32 × Int32 × Int32 :=
  if s.2.1 < 0 ∨ (h + C L) + C R < s.2.1 then (s.1 + W L * W R, (h + C L) + C R, nI q, nI L) else (s.1 + W L * W R, s.2.1, s.2.2.1, s.2.2.2)
noncomputable def jp_ps (m : Nat) (lr rr : Nat → Nat) (al : Nat → Nat → Nat → Prop) (W C : Nat → Int32) (S : Nat) (h : Int32) (s0 : Int32 × Int32 × Int32 × Int32) : Nat → Int32 × Int32 × Int32 × Int32
  | 0 => s0
  | q + 1 => ja_if (jp_X m lr rr al W S q) (jp_st W C (jp_co m lr rr S q) (ja_sd S (jp_co m lr rr S q)) h q (jp_ps m lr rr al W C S h s0 q)) (jp_ps m lr rr al W C S h s0 q)
theorem jp_ps_t {C : Nat → Int32} {S q : Nat} {h : Int32} {s0 : Int32 × Int32 × Int32 × Int32} (x : jp_X m lr rr al W S q) :
    jp_ps m lr rr al W C S h s0 (q + 1) = jp_st W C (jp_co m lr rr S q) (ja_sd S (jp_co m lr rr S q)) h q (jp_ps m lr rr al W C S h s0 q) := ja_ift x
theorem jp_ps_f {C : Nat → Int32} {S q : Nat} {h : Int32} {s0 : Int32 × Int32 × Int32 × Int32} (x : ¬ jp_X m lr rr al W S q) :
    jp_ps m lr rr al W C S h s0 (q + 1) = jp_ps m lr rr al W C S h s0 q := ja_iff x
/-- a sound entry of the table -/
def jp_TB (m : Nat) (lr rr : Nat → Nat) (W C : Nat → Int32) (T : Nat) : Prop :=
  ∃ w c : Nat, W T = nI w ∧ w ≤ 5 ^ (ja_pc T - 1) ∧ (w = 0 → C T = -1) ∧ (w ≠ 0 → jp_gd m lr rr T ∧ C T = nI c ∧ c ≤ (ja_pc T - 1) * 64000000)
def jp_SI (m : Nat) (lr rr : Nat → Nat) (al : Nat → Nat → Nat → Prop) (W C : Nat → Int32) (S : Nat) (hs : Nat) (q : Nat) (s : Int32 × Int32 × Int32 × Int32) : Prop :=
  ∃ w : Nat, s.1 = nI w ∧ w ≤ q * 5 ^ (ja_pc S - 2) ∧ (w = 0 → s.2.1 = -1 ∧ ∀ j, j < q → ¬ jp_X m lr rr al W S j) ∧
    (w ≠ 0 → ∃ j, j < q ∧ jp_X m lr rr al W S j ∧ s.2.2.1 = nI j ∧ s.2.2.2 = nI (jp_co m lr rr S j) ∧
      ∃ cl cr : Nat, C (jp_co m lr rr S j) = nI cl ∧ C (ja_sd S (jp_co m lr rr S j)) = nI cr ∧ hs + cl + cr ≤ (ja_pc S - 1) * 64000000 ∧ s.2.1 = nI (hs + cl + cr))
theorem jp_p5 : ∀ k, k ≤ 4 → 5 * 5 ^ k ≤ 3125 := by decide +kernel
theorem jp_pw {a b p : Nat} (ha : 1 ≤ a) (hb : 1 ≤ b) (h : p = a + b) : 5 ^ (a - 1) * 5 ^ (b - 1) = 5 ^ (p - 2) := by
  rw [← Nat.pow_add]
  congr 1
  omega
theorem jp_SIs {C : Nat → Int32} {S : Nat} {hs : Nat} {r0 l0 : Int32} (H : jp_PL m U lr rr) (hS6 : S < 64) (hSU : ja_sub S U) (h5 : m ≤ 5) (hh : hs ≤ 64000000)
    (hT : ∀ T, T ≠ 0 → T < S → ja_sub T U → jp_TB m lr rr W C T) : ∀ q, q ≤ m → jp_SI m lr rr al W C S hs q (jp_ps m lr rr al W C S (nI hs) (0, -1, r0, l0) q) := by
  intro q
  induction q with
  | zero =>
    intro _
    exact ⟨0, rfl, Nat.zero_le _, fun _ => ⟨rfl, fun j hj => absurd hj (by omega)⟩, fun z => absurd rfl z⟩
  | succ q ih =>
    intro hq
    obtain ⟨w, e1, hw, hz, hn⟩ := ih (by omega)
    have hmul : (q + 1) * 5 ^ (ja_pc S - 2) = q * 5 ^ (ja_pc S - 2) + 5 ^ (ja_pc S - 2) := by rw [Nat.succ_mul]
    by_cases hx : jp_X m lr rr al W S q
    · rw [jp_ps_t hx]
      generalize hsv : jp_ps m lr rr al W C S (nI hs) (0, -1, r0, l0) q = sv at e1 hz hn
      have hx0 := hx
      obtain ⟨p1, p2, p3, p4, p5, p6⟩ := jp_Xp H hx
      obtain ⟨_, _, wl0, wr0, _⟩ := hx
      obtain ⟨wl, cl, el, bl, zl, gl⟩ := hT _ p1 p3 (ja_sub_tr p5 hSU)
      obtain ⟨wr, cr, er, br, zr, gr⟩ := hT _ p2 p4 (ja_sub_tr (ja_sd_sub _ _) hSU)
      have nl : wl ≠ 0 := fun z => wl0 (by rw [el, z]; rfl)
      have nr : wr ≠ 0 := fun z => wr0 (by rw [er, z]; rfl)
      obtain ⟨_, cle, clb⟩ := gl nl
      obtain ⟨_, cre, crb⟩ := gr nr
      have hpc : ja_pc S = ja_pc (jp_co m lr rr S q) + ja_pc (ja_sd S (jp_co m lr rr S q)) := ja_pc_sub p5
      have a1 := ja_pc_pos p1 (by omega)
      have a2 := ja_pc_pos p2 (by omega)
      have a6 := ja_pc_6 hS6
      have hwm : wl * wr ≤ 5 ^ (ja_pc S - 2) := by
        rw [← jp_pw a1 a2 hpc]
        exact Nat.mul_le_mul bl br
      have b5 : 5 * 5 ^ (ja_pc S - 2) ≤ 3125 := jp_p5 _ (by omega)
      have hwp : 0 < wl * wr := Nat.mul_pos (by omega) (by omega)
      have hq5 : q * 5 ^ (ja_pc S - 2) ≤ 4 * 5 ^ (ja_pc S - 2) := Nat.mul_le_mul_right _ (by omega)
      have ec : (nI hs + C (jp_co m lr rr S q)) + C (ja_sd S (jp_co m lr rr S q)) = nI (hs + cl + cr) := by rw [cle, cre, nI_add, nI_add]
      have ew : sv.1 + W (jp_co m lr rr S q) * W (ja_sd S (jp_co m lr rr S q)) = nI (w + wl * wr) := by rw [e1, el, er, pk_mul, nI_add]
      have hcb : hs + cl + cr ≤ (ja_pc S - 1) * 64000000 := by omega
      unfold jp_st
      rw [ec, ew]
      by_cases hc : sv.2.1 < 0 ∨ nI (hs + cl + cr) < sv.2.1
      · rw [if_pos hc]
        exact ⟨w + wl * wr, rfl, by omega, fun z => absurd z (by omega), fun _ => ⟨q, by omega, hx0, rfl, rfl, cl, cr, cle, cre, hcb, rfl⟩⟩
      · rw [if_neg hc]
        refine ⟨w + wl * wr, rfl, by omega, fun z => absurd z (by omega), fun _ => ?_⟩
        have hw0 : w ≠ 0 := fun z => hc (Or.inl (by rw [(hz z).1]; decide))
        obtain ⟨j, hj, rest⟩ := hn hw0
        exact ⟨j, by omega, rest⟩
    · rw [jp_ps_f hx]
      refine ⟨w, e1, Nat.le_trans hw (by rw [hmul]; exact Nat.le_add_right _ _), fun z => ⟨(hz z).1, fun j hj => ?_⟩, fun z => ?_⟩
      · rcases Nat.lt_or_ge j q with y | y
        · exact (hz z).2 j y
        · have : j = q := by omega
          subst this
          exact hx
      · obtain ⟨j, hj, rest⟩ := hn z
        exact ⟨j, by omega, rest⟩
/-- the table's rule, for the sets up to t -/
def jp_SP (m U : Nat) (lr rr : Nat → Nat) (al : Nat → Nat → Nat → Prop) (sz : Nat → Nat) (t : Nat) (W C RT LF : Nat → Int32) : Prop :=
  ∀ S, S ≠ 0 → S < t → ja_sub S U → (ja_sg S → W S = 1 ∧ C S = 0) ∧
    (¬ ja_sg S → ∃ r0 l0, (W S, C S, RT S, LF S) = jp_ps m lr rr al W C S (nI (sz S)) (0, -1, r0, l0) m)
theorem jp_m5 (H : jp_PL m U lr rr) : m ≤ 5 := by
  have := ja_pc_6 H.1
  have := H.2.1
  omega
theorem jp_TBs {C RT LF : Nat → Int32} {sz : Nat → Nat} {t : Nat} (H : jp_PL m U lr rr) (hz : ∀ S, S ≠ 0 → ja_sub S U → sz S ≤ 64000000)
    (h : jp_SP m U lr rr al sz t W C RT LF) : ∀ S, S ≠ 0 → S < t → ja_sub S U → jp_TB m lr rr W C S := by
  intro S
  induction S using Nat.strongRecOn with
  | ind S ih =>
    intro h0 ht hS
    have hS6 : S < 64 := Nat.lt_of_le_of_lt (ja_sub_le hS) H.1
    by_cases hg : ja_sg S
    · obtain ⟨e1, e2⟩ := (h S h0 ht hS).1 hg
      obtain ⟨r, hr, e⟩ := ja_sg_ex hS6 h0 hg
      refine ⟨1, 0, e1, Nat.pow_pos (by decide), fun z => absurd z (by decide), fun _ => ⟨by rw [e]; exact jp_gd1 H hr, e2, Nat.zero_le _⟩⟩
    · obtain ⟨r0, l0, e⟩ := (h S h0 ht hS).2 hg
      have hT : ∀ T, T ≠ 0 → T < S → ja_sub T U → jp_TB m lr rr W C T := fun T t0 tl ts => ih T tl t0 (by omega) ts
      have hsi := jp_SIs (al := al) (r0 := r0) (l0 := l0) H hS6 hS (jp_m5 H) (hz S h0 hS) hT m (Nat.le_refl _)
      rw [← e] at hsi
      obtain ⟨w, e1, hw, hz0, hn⟩ := hsi
      have hp2 : 2 ≤ ja_pc S := by
        have h1 := ja_pc_pos h0 hS6
        rcases Nat.lt_or_ge 1 (ja_pc S) with y | y
        · exact y
        · exact absurd ((ja_sg_pc S hS6 h0).mpr (by omega)) hg
      have hb : w ≤ 5 ^ (ja_pc S - 1) := by
        have e5 : 5 ^ (ja_pc S - 1) = 5 ^ (ja_pc S - 2) * 5 := by
          rw [← Nat.pow_succ]
          congr 1
          omega
        have : m * 5 ^ (ja_pc S - 2) ≤ 5 * 5 ^ (ja_pc S - 2) := Nat.mul_le_mul_right _ (jp_m5 H)
        rw [e5]
        omega
      by_cases hw0 : w = 0
      · exact ⟨w, 0, e1, hb, fun z => (hz0 z).1, fun z => absurd hw0 z⟩
      · obtain ⟨j, hj, hx, _, _, cl, cr, ecl, ecr, hle, ec⟩ := hn hw0
        refine ⟨w, sz S + cl + cr, e1, hb, fun z => absurd z hw0, fun _ => ⟨?_, ec, hle⟩⟩
        obtain ⟨p1, p2, p3, p4, p5, p6⟩ := jp_Xp H hx
        obtain ⟨hq, _, wl0, wr0, hl, hr, _⟩ := hx
        have gdl : jp_gd m lr rr (jp_co m lr rr S j) := by
          obtain ⟨wl, _, el, _, _, gl⟩ := hT _ p1 p3 (ja_sub_tr p5 hS)
          exact (gl (fun z => wl0 (by rw [el, z]; rfl))).1
        have gdr : jp_gd m lr rr (ja_sd S (jp_co m lr rr S j)) := by
          obtain ⟨wr, _, er, _, _, gr⟩ := hT _ p2 p4 (ja_sub_tr (ja_sd_sub _ _) hS)
          exact (gr (fun z => wr0 (by rw [er, z]; rfl))).1
        have := (jp_split H gdl gdr (ja_sd_dj _ _) (by rw [p6]; exact hS6) hq hl hr).2
        rw [p6] at this
        exact this
/-- a set with a plan, not single: its root and its parts -/
theorem jp_RTs {C RT LF : Nat → Int32} {sz : Nat → Nat} {t S : Nat} (H : jp_PL m U lr rr) (hz : ∀ S, S ≠ 0 → ja_sub S U → sz S ≤ 64000000)
    (h : jp_SP m U lr rr al sz t W C RT LF) (h0 : S ≠ 0) (ht : S < t) (hS : ja_sub S U) (hg : ¬ ja_sg S) :
    (W S = 0 → ∀ j, j < m → ¬ jp_X m lr rr al W S j) ∧ (W S ≠ 0 → ∃ j, jp_X m lr rr al W S j ∧ RT S = nI j ∧ LF S = nI (jp_co m lr rr S j) ∧
      ∃ cl cr : Nat, C (jp_co m lr rr S j) = nI cl ∧ C (ja_sd S (jp_co m lr rr S j)) = nI cr ∧ sz S + cl + cr ≤ 320000000 ∧ C S = nI (sz S + cl + cr)) := by
  have hS6 : S < 64 := Nat.lt_of_le_of_lt (ja_sub_le hS) H.1
  obtain ⟨r0, l0, e⟩ := (h S h0 ht hS).2 hg
  have hT : ∀ T, T ≠ 0 → T < S → ja_sub T U → jp_TB m lr rr W C T := fun T t0 tl ts => jp_TBs H hz h T t0 (by omega) ts
  have hsi := jp_SIs (al := al) (r0 := r0) (l0 := l0) H hS6 hS (jp_m5 H) (hz S h0 hS) hT m (Nat.le_refl _)
  rw [← e] at hsi
  obtain ⟨w, e1, hw, hz0, hn⟩ := hsi
  have hb : w < 2 ^ 31 := by
    have a6 := ja_pc_6 hS6
    have : m * 5 ^ (ja_pc S - 2) ≤ 5 * 5 ^ (ja_pc S - 2) := Nat.mul_le_mul_right _ (jp_m5 H)
    have b5 : 5 * 5 ^ (ja_pc S - 2) ≤ 3125 := jp_p5 _ (by omega)
    omega
  have ew : W S = nI w := e1
  constructor
  · intro hw0
    rw [ew, ja_z hb] at hw0
    exact (hz0 hw0).2
  · intro hw0
    obtain ⟨j, _, hx, a1, a2, cl, cr, a3, a4, a5, a6⟩ := hn (fun z => hw0 (by rw [ew, z]; rfl))
    have := ja_pc_6 hS6
    exact ⟨j, hx, a1, a2, cl, cr, a3, a4, by omega, a6⟩
/-- two tables that keep the rule agree -/
theorem jp_uq {C RT LF W' C' RT' LF' : Nat → Int32} {sz : Nat → Nat} {t : Nat} (H : jp_PL m U lr rr)
    (h : jp_SP m U lr rr al sz t W C RT LF) (h' : jp_SP m U lr rr al sz t W' C' RT' LF') :
    ∀ S, S ≠ 0 → S < t → ja_sub S U → W S = W' S ∧ C S = C' S ∧ (¬ ja_sg S → W S = 0 ∨ (RT S = RT' S ∧ LF S = LF' S)) := by
  intro S
  induction S using Nat.strongRecOn with
  | ind S ih =>
    intro h0 ht hS
    by_cases hg : ja_sg S
    · obtain ⟨e1, e2⟩ := (h S h0 ht hS).1 hg
      obtain ⟨f1, f2⟩ := (h' S h0 ht hS).1 hg
      exact ⟨by rw [e1, f1], by rw [e2, f2], fun z => absurd hg z⟩
    · obtain ⟨r0, l0, e⟩ := (h S h0 ht hS).2 hg
      obtain ⟨r1, l1, f⟩ := (h' S h0 ht hS).2 hg
      have hag : ∀ T, T ≠ 0 → T < S → ja_sub T U → W T = W' T ∧ C T = C' T := fun T t0 tl ts => ⟨(ih T tl t0 (by omega) ts).1, (ih T tl t0 (by omega) ts).2.1⟩
      have hXX : ∀ q, jp_X m lr rr al W S q ↔ jp_X m lr rr al W' S q := by
        intro q
        constructor
        · intro x
          obtain ⟨p1, p2, p3, p4, p5, p6⟩ := jp_Xp H x
          obtain ⟨y1, y2, y3, y4, y5⟩ := x
          rw [(hag _ p1 p3 (ja_sub_tr p5 hS)).1] at y3
          rw [(hag _ p2 p4 (ja_sub_tr (ja_sd_sub _ _) hS)).1] at y4
          exact ⟨y1, y2, y3, y4, y5⟩
        · intro x
          obtain ⟨p1, p2, p3, p4, p5, p6⟩ := jp_Xp H x
          obtain ⟨y1, y2, y3, y4, y5⟩ := x
          rw [← (hag _ p1 p3 (ja_sub_tr p5 hS)).1] at y3
          rw [← (hag _ p2 p4 (ja_sub_tr (ja_sd_sub _ _) hS)).1] at y4
          exact ⟨y1, y2, y3, y4, y5⟩
      have key : ∀ q, (jp_ps m lr rr al W C S (nI (sz S)) (0, -1, r0, l0) q = (0, -1, r0, l0) ∧ jp_ps m lr rr al W' C' S (nI (sz S)) (0, -1, r1, l1) q = (0, -1, r1, l1)) ∨
          jp_ps m lr rr al W C S (nI (sz S)) (0, -1, r0, l0) q = jp_ps m lr rr al W' C' S (nI (sz S)) (0, -1, r1, l1) q := by
        intro q
        induction q with
        | zero => exact Or.inl ⟨rfl, rfl⟩
        | succ q iq =>
          by_cases x : jp_X m lr rr al W S q
          · right
            rw [jp_ps_t x, jp_ps_t ((hXX q).mp x)]
            obtain ⟨p1, p2, p3, p4, p5, p6⟩ := jp_Xp H x
            have g1 := hag _ p1 p3 (ja_sub_tr p5 hS)
            have g2 := hag _ p2 p4 (ja_sub_tr (ja_sd_sub _ _) hS)
            rcases iq with ⟨z1, z2⟩ | z
            · rw [z1, z2]
              unfold jp_st
              rw [if_pos (Or.inl (by show (-1 : Int32) < 0; decide)), if_pos (Or.inl (by show (-1 : Int32) < 0; decide)), g1.1, g1.2, g2.1, g2.2]
            · rw [z]
              unfold jp_st
              rw [g1.1, g1.2, g2.1, g2.2]
          · rw [jp_ps_f x, jp_ps_f (fun y => x ((hXX q).mpr y))]
            exact iq
      rcases key m with ⟨z1, z2⟩ | z
      · rw [z1] at e
        rw [z2] at f
        have e1 : W S = 0 := congrArg (fun p => p.1) e
        have e2 : C S = -1 := congrArg (fun p => p.2.1) e
        have f1 : W' S = 0 := congrArg (fun p => p.1) f
        have f2 : C' S = -1 := congrArg (fun p => p.2.1) f
        exact ⟨by rw [e1, f1], by rw [e2, f2], fun _ => Or.inl e1⟩
      · have z := e.trans (z.trans f.symm)
        exact ⟨congrArg (fun p => p.1) z, congrArg (fun p => p.2.1) z, fun _ => Or.inr ⟨congrArg (fun p => p.2.2.1) z, congrArg (fun p => p.2.2.2) z⟩⟩
end
end
section
/-! ===== kinds, allowed, sizes, the initial tree is a plan ===== -/
def jk_ch (a b : Nat) : Bool := (decide (a % 5 = 0) && !decide (b % 5 = 2)) || ((decide (a % 5 = 1) || decide (a % 5 = 2)) && decide (b = 1)) || (decide (a = 2) && decide (b = 2))
def jk_bl (a b : Nat) : Bool := (!decide (a % 5 = 2) && !decide (b % 5 = 2)) || (decide (a = 2) && decide (b = 2)) || (decide (a % 5 = 2) && decide (b = 1)) || (decide (a = 1) && decide (b % 5 = 2))
def jk_br (a b : Nat) : Bool := (decide (a % 5 = 0) && decide (b % 5 = 0)) || (decide (a = 2) && decide (b = 2))
def jp_al (s kd : Nat → Nat) (q r t : Nat) : Prop :=
  (ja_sub (jf_set s q) (s (2 * r)) → (if t = 0 then jk_bl (kd q) (kd r) else jk_ch (kd q) (kd r)) = true) ∧
  (¬ ja_sub (jf_set s q) (s (2 * r)) → ja_sub (jf_set s q) (s (2 * r + 1)) → (if t = 0 then jk_ch (kd r) (kd q) else jk_br (kd q) (kd r)) = true)
def jp_lr (la : Nat → Nat) (i : Nat) : Nat := jf_ro (la i)
theorem jp_of {n m U : Nat} {E V la ra s : Nat → Nat} (h : jf_FR n 1 m U E V la ra s) : jp_PL m U (jp_lr la) (jp_lr ra) := by
  obtain ⟨⟨hn, hU, hpc⟩, h2, h3, h4, h5, h6, h7⟩ := h
  refine ⟨Nat.lt_of_lt_of_le hU (Nat.pow_le_pow_right (by decide) hn), by omega, ?_, h6⟩
  intro i hi
  obtain ⟨b1, b2, b3, b4⟩ := jf_ron h3 hi
  refine ⟨b1, b2, fun x hx hy => (h3 i hi).2.2.2.2.1 x (b3 x hx) (b4 x hy), ?_⟩
  exact ja_sub_tr (jf_rls h3 hi) (h3 i hi).2.2.2.2.2
theorem jf_set_ns {m U : Nat} {la ra s : Nat → Nat} (h3 : jf_F3 m U la ra s) (h6 : U < 64) {k : Nat} (hk : k < m) :
    s (2 * k) ≠ 0 ∧ s (2 * k + 1) ≠ 0 ∧ jf_set s k ≠ 0 ∧ ¬ ja_sg (jf_set s k) ∧ s (2 * k) < jf_set s k ∧ s (2 * k + 1) < jf_set s k ∧ ja_sd (jf_set s k) (s (2 * k)) = s (2 * k + 1) := by
  obtain ⟨b1, b2, b3, b4⟩ := jf_ron h3 hk
  obtain ⟨_, _, _, _, c5, c6⟩ := h3 k hk
  obtain ⟨x, hx⟩ := ja_nz.mp b1
  obtain ⟨y, hy⟩ := ja_nz.mp b2
  have n1 : s (2 * k) ≠ 0 := ja_nz.mpr ⟨x, b3 x hx⟩
  have n2 : s (2 * k + 1) ≠ 0 := ja_nz.mpr ⟨y, b4 y hy⟩
  have n3 : jf_set s k ≠ 0 := ja_nz.mpr ⟨x, ja_mo.mpr (Or.inl (b3 x hx))⟩
  have hlt : jf_set s k < 64 := Nat.lt_of_le_of_lt (ja_sub_le c6) h6
  have l1 : s (2 * k) ≤ jf_set s k := ja_sub_le ja_or_l
  have l2 : s (2 * k + 1) ≤ jf_set s k := ja_sub_le ja_or_r
  refine ⟨n1, n2, n3, ?_, ?_, ?_, ja_sd_of_or c5⟩
  · intro hg
    have h1 := (ja_sg_pc _ hlt n3).mp hg
    have h2 : ja_pc (jf_set s k) = ja_pc (s (2 * k)) + ja_pc (s (2 * k + 1)) := ja_pc_or c5
    have := ja_pc_pos n1 (by omega)
    have := ja_pc_pos n2 (by omega)
    omega
  · rcases Nat.lt_or_ge (s (2 * k)) (jf_set s k) with z | z
    · exact z
    · have e : s (2 * k) = jf_set s k := by omega
      exact absurd (c5 y (by rw [e]; exact ja_mo.mpr (Or.inr (b4 y hy))) (b4 y hy)) id
  · rcases Nat.lt_or_ge (s (2 * k + 1)) (jf_set s k) with z | z
    · exact z
    · have e : s (2 * k + 1) = jf_set s k := by omega
      exact absurd (c5 x (b3 x hx) (by rw [e]; exact ja_mo.mpr (Or.inl (b3 x hx)))) id
theorem jf_inj {m U : Nat} {la ra s : Nat → Nat} (h3 : jf_F3 m U la ra s) (h5 : jf_F5 m s) {i k : Nat} (hi : i < m) (hk : k < m) (e : jf_set s i = jf_set s k) : i = k := by
  apply Classical.byContradiction
  intro hne
  obtain ⟨b1, b2, b3, b4⟩ := jf_ron h3 hk
  obtain ⟨_, _, _, _, c5, c6⟩ := h3 k hk
  obtain ⟨x, hx⟩ := ja_nz.mp b1
  obtain ⟨y, hy⟩ := ja_nz.mp b2
  rcases h5 i k hi hk hne (by rw [e]; exact ja_sub_rfl) with z | z
  · exact c5 y (z y (by rw [e]; exact ja_mo.mpr (Or.inr (b4 y hy)))) (b4 y hy)
  · exact c5 x (b3 x hx) (z x (by rw [e]; exact ja_mo.mpr (Or.inl (b3 x hx))))
/-- nothing below an operator of the initial tree forbids it -/
theorem jp_alt {m U : Nat} {la ra s kd : Nat → Nat} (h3 : jf_F3 m U la ra s) {k i t : Nat} (hi : i < m) (hs : ja_sub (jp_lr la i ||| jp_lr ra i) (jf_set s k)) : jp_al s kd k i t := by
  obtain ⟨b1, b2, b3, b4⟩ := jf_ron h3 hi
  obtain ⟨_, _, _, _, c5, _⟩ := h3 i hi
  obtain ⟨x, hx⟩ := ja_nz.mp b1
  obtain ⟨y, hy⟩ := ja_nz.mp b2
  constructor
  · intro z
    exact absurd (c5 y (z y (hs y (ja_mo.mpr (Or.inr hy)))) (b4 y hy)) id
  · intro _ z
    exact absurd (c5 x (b3 x hx) (z x (hs x (ja_mo.mpr (Or.inl hx))))) id
theorem jp_plan {n m U t : Nat} {E V la ra s kd : Nat → Nat} {sz : Nat → Nat} {W C RT LF : Nat → Int32} (h : jf_FR n 1 m U E V la ra s) (hz : ∀ S, S ≠ 0 → ja_sub S U → sz S ≤ 64000000)
    (hsp : jp_SP m U (jp_lr la) (jp_lr ra) (jp_al s kd) sz t W C RT LF) : ∀ T, T ≠ 0 → T < t → ja_sub T U → jf_nd m s T → W T ≠ 0 := by
  have H := jp_of h
  obtain ⟨⟨hn, hU, hpc⟩, h2, h3, h4, h5, h6, h7, h8⟩ := h
  intro T
  induction T using Nat.strongRecOn with
  | ind T ih =>
    intro h0 ht hT hnd
    have hT6 : T < 64 := Nat.lt_of_le_of_lt (ja_sub_le hT) H.1
    rcases hnd with ⟨r, hr, e⟩ | ⟨k, hk, e⟩
    · have hg : ja_sg T := by rw [e]; exact ja_sg_two r hr
      rw [((hsp T h0 ht hT).1 hg).1]
      decide
    · obtain ⟨n1, n2, n3, n4, l1, l2, ed⟩ := jf_set_ns h3 H.1 hk
      rw [← e] at n3 n4 l1 l2 ed
      intro hw
      refine (jp_RTs H hz hsp h0 ht hT n4).1 hw k hk ?_
      obtain ⟨b1, b2, b3, b4⟩ := jf_ron h3 hk
      have s1 : ja_sub (s (2 * k)) T := by rw [e]; exact ja_or_l
      have s2 : ja_sub (s (2 * k + 1)) T := by rw [e]; exact ja_or_r
      have w1 := ih _ l1 n1 (by omega) (ja_sub_tr s1 hT) (h8 k hk).1
      have w2 := ih _ l2 n2 (by omega) (ja_sub_tr s2 hT) (h8 k hk).2
      refine (jp_XY H hT6 hT ?_ hk n1 l1 s1 ?_).2
      · intro T' t0 tl ts tw
        obtain ⟨w, c, ew, _, _, g⟩ := jp_TBs H hz hsp T' t0 (by omega) ts
        exact (g (fun z => tw (by rw [ew, z]; rfl))).1
      · rw [ed]
        refine ⟨w1, w2, b3, b4, fun i hi => ⟨fun z => ?_, fun z => ?_⟩⟩
        · exact jp_alt h3 hi (by rw [← e]; exact ja_sub_tr z s1)
        · exact jp_alt h3 hi (by rw [← e]; exact ja_sub_tr z s2)
/-! sizes -/
def jp_pr (est : Nat → Nat) (S : Nat) : Nat → Nat
  | 0 => 1
  | k + 1 => if S.testBit k = true then jp_pr est S k * est k else jp_pr est S k
def jp_dp (lr rr dv : Nat → Nat) (S : Nat) : Nat → Nat
  | 0 => 1
  | k + 1 => if ja_sd (lr k ||| rr k) S = 0 then jp_dp lr rr dv S k * dv k else jp_dp lr rr dv S k
def jp_sz (est lr rr dv : Nat → Nat) (m S : Nat) : Nat := if jp_pr est S 6 < jp_dp lr rr dv S m then 1 else jp_pr est S 6 / jp_dp lr rr dv S m
theorem jp_pr_b {est : Nat → Nat} {S : Nat} (h : ∀ r, S.testBit r = true → 1 ≤ est r ∧ est r ≤ 20) : ∀ k, 1 ≤ jp_pr est S k ∧ jp_pr est S k ≤ 20 ^ k := by
  intro k
  induction k with
  | zero => exact ⟨Nat.le_refl _, Nat.le_refl _⟩
  | succ k ih =>
    show 1 ≤ (if S.testBit k = true then jp_pr est S k * est k else jp_pr est S k) ∧ (if S.testBit k = true then jp_pr est S k * est k else jp_pr est S k) ≤ 20 ^ (k + 1)
    by_cases hb : S.testBit k = true
    · rw [if_pos hb, Nat.pow_succ]
      exact ⟨Nat.mul_pos ih.1 (h k hb).1, Nat.mul_le_mul ih.2 (h k hb).2⟩
    · rw [if_neg hb, Nat.pow_succ]
      exact ⟨ih.1, by omega⟩
theorem jp_dp_b {lr rr dv : Nat → Nat} {S : Nat} : ∀ k, (∀ i, i < k → 1 ≤ dv i ∧ dv i ≤ 20) → 1 ≤ jp_dp lr rr dv S k ∧ jp_dp lr rr dv S k ≤ 20 ^ k := by
  intro k
  induction k with
  | zero => intro _; exact ⟨Nat.le_refl _, Nat.le_refl _⟩
  | succ k ih =>
    intro h
    have ih := ih (fun i hi => h i (by omega))
    show 1 ≤ (if ja_sd (lr k ||| rr k) S = 0 then jp_dp lr rr dv S k * dv k else jp_dp lr rr dv S k) ∧ (if ja_sd (lr k ||| rr k) S = 0 then jp_dp lr rr dv S k * dv k else jp_dp lr rr dv S k) ≤ 20 ^ (k + 1)
    by_cases hb : ja_sd (lr k ||| rr k) S = 0
    · rw [if_pos hb, Nat.pow_succ]
      exact ⟨Nat.mul_pos ih.1 (h k (by omega)).1, Nat.mul_le_mul ih.2 (h k (by omega)).2⟩
    · rw [if_neg hb, Nat.pow_succ]
      exact ⟨ih.1, by omega⟩
theorem jp_dp_5 {lr rr dv : Nat → Nat} {S m : Nat} (h : ∀ i, i < m → 1 ≤ dv i ∧ dv i ≤ 20) (h5 : m ≤ 5) : 1 ≤ jp_dp lr rr dv S m ∧ jp_dp lr rr dv S m ≤ 3200000 := by
  have := jp_dp_b (lr := lr) (rr := rr) (S := S) m h
  exact ⟨this.1, Nat.le_trans this.2 (Nat.le_trans (Nat.pow_le_pow_right (by decide) h5) (by decide))⟩
theorem jp_pr_6 {est : Nat → Nat} {S : Nat} (h : ∀ r, S.testBit r = true → 1 ≤ est r ∧ est r ≤ 20) : 1 ≤ jp_pr est S 6 ∧ jp_pr est S 6 ≤ 64000000 := by
  have := jp_pr_b h 6
  exact ⟨this.1, Nat.le_trans this.2 (by decide)⟩
theorem jp_sz_b {est lr rr dv : Nat → Nat} {S m : Nat} (h : ∀ r, S.testBit r = true → 1 ≤ est r ∧ est r ≤ 20) : jp_sz est lr rr dv m S ≤ 64000000 := by
  have := jp_pr_6 h
  unfold jp_sz
  split
  · decide
  · exact Nat.le_trans (Nat.div_le_self _ _) this.2
theorem jp_pr_n {est : Nat → Nat} {S n : Nat} (h : ∀ r, S.testBit r = true → r < n) : ∀ d, jp_pr est S (n + d) = jp_pr est S n := by
  intro d
  induction d with
  | zero => rfl
  | succ d ih =>
    show (if S.testBit (n + d) = true then jp_pr est S (n + d) * est (n + d) else jp_pr est S (n + d)) = _
    rw [if_neg (fun z => absurd (h _ z) (by omega)), ih]
end
section
/-! ===== laying the chosen plan ===== -/
def jl_st (rt lf : Nat → Nat) (S : Nat) (M : Nat → Bool) (s : Nat → Nat) : (Nat → Bool) × (Nat → Nat) :=
  if M S = true ∧ ¬ (S &&& (S - 1) = 0) then
    (fun T => if T = lf S ∨ T = ja_sd S (lf S) then true else M T, ja_up (ja_up s (10 + 2 * rt S) (lf S)) (11 + 2 * rt S) (ja_sd S (lf S)))
  else (M, s)
def jl_ly (rt lf : Nat → Nat) : Nat → (Nat → Bool) → (Nat → Nat) → (Nat → Bool) × (Nat → Nat)
  | 0, M, s => (M, s)
  | t + 1, M, s => jl_ly rt lf t (jl_st rt lf (t + 1) M s).1 (jl_st rt lf (t + 1) M s).2
theorem jl_st_t {rt lf : Nat → Nat} {S : Nat} {M : Nat → Bool} {s : Nat → Nat} (h : M S = true) (g : ¬ ja_sg S) :
    jl_st rt lf S M s = (fun T => if T = lf S ∨ T = ja_sd S (lf S) then true else M T, ja_up (ja_up s (10 + 2 * rt S) (lf S)) (11 + 2 * rt S) (ja_sd S (lf S))) := if_pos ⟨h, g⟩
theorem jl_st_f {rt lf : Nat → Nat} {S : Nat} {M : Nat → Bool} {s : Nat → Nat} (h : ¬ M S = true ∨ ja_sg S) : jl_st rt lf S M s = (M, s) := if_neg fun z => h.elim (fun y => y z.1) (fun y => z.2 y)
/-- what the chosen root of a set with a plan obeys -/
def jl_Q (m U : Nat) (lr rr : Nat → Nat) (G : Nat → Prop) (rt lf : Nat → Nat) : Prop :=
  ∀ S, G S → S ≠ 0 ∧ ja_sub S U ∧ (¬ ja_sg S → rt S < m ∧ lf S ≠ 0 ∧ ja_sd S (lf S) ≠ 0 ∧ lf S < S ∧ ja_sd S (lf S) < S ∧ ja_sub (lf S) S ∧ G (lf S) ∧ G (ja_sd S (lf S)) ∧
    ja_sub (lr (rt S)) (lf S) ∧ ja_sub (rr (rt S)) (ja_sd S (lf S)) ∧ (∀ i, i < m → i ≠ rt S → ja_sub (lr i ||| rr i) S → ja_sub (lr i ||| rr i) (lf S) ∨ ja_sub (lr i ||| rr i) (ja_sd S (lf S))))
def jl_I (m U : Nat) (lr rr : Nat → Nat) (G : Nat → Prop) (rt lf s0 : Nat → Nat) (t : Nat) (M : Nat → Bool) (s : Nat → Nat) : Prop :=
  M U = true ∧ (∀ S, M S = true → G S) ∧
  (∀ A B, M A = true → M B = true → (A ≤ t ∨ ja_sg A) → (B ≤ t ∨ ja_sg B) → A ≠ B → ja_dj A B) ∧
  (∀ q, q < m → (∃ A, M A = true ∧ A ≤ t ∧ ja_sub (lr q ||| rr q) A) ∨ (∃ P, M P = true ∧ t < P ∧ ¬ ja_sg P ∧ rt P = q)) ∧
  (∀ P, M P = true → t < P → ¬ ja_sg P → s (10 + 2 * rt P) = lf P ∧ s (11 + 2 * rt P) = ja_sd P (lf P) ∧ M (lf P) = true ∧ M (ja_sd P (lf P)) = true ∧ ∀ A, M A = true → A ≤ t → ¬ ja_sub (lr (rt P) ||| rr (rt P)) A) ∧
  (∀ i, i < 10 → s i = s0 i)
section
variable {m U : Nat} {lr rr : Nat → Nat} {G : Nat → Prop} {rt lf s0 : Nat → Nat}
theorem jl_I0 (H : jp_PL m U lr rr) (hG : G U) : jl_I m U lr rr G rt lf s0 U (fun T => decide (T = U)) s0 := by
  have e : ∀ A, decide (A = U) = true → A = U := fun A h => of_decide_eq_true h
  refine ⟨decide_eq_true rfl, fun S h => by rw [e S h]; exact hG, fun A B ha hb _ _ hne => absurd ((e A ha).trans (e B hb).symm) hne, fun q hq => Or.inl ⟨U, decide_eq_true rfl, Nat.le_refl _, (H.2.2.1 q hq).2.2.2⟩, fun P hP hl => absurd (e P hP) (by omega), fun _ _ => rfl⟩
theorem jl_nsg {q S : Nat} (H : jp_PL m U lr rr) (hq : q < m) (h6 : S < 64) (h0 : S ≠ 0) (hg : ja_sg S) : ¬ ja_sub (lr q ||| rr q) S := by
  intro h
  obtain ⟨r, hr, e⟩ := ja_sg_ex h6 h0 hg
  obtain ⟨b1, b2, b3, _⟩ := H.2.2.1 q hq
  obtain ⟨x, hx⟩ := ja_nz.mp b1
  obtain ⟨y, hy⟩ := ja_nz.mp b2
  have e1 := h x (ja_mo.mpr (Or.inl hx))
  have e2 := h y (ja_mo.mpr (Or.inr hy))
  rw [e, ja_m2] at e1 e2
  subst e1
  subst e2
  exact b3 _ hx hy
theorem jl_step (H : jp_PL m U lr rr) (hQ : jl_Q m U lr rr G rt lf) {t : Nat} {M : Nat → Bool} {s : Nat → Nat} (h : jl_I m U lr rr G rt lf s0 (t + 1) M s) :
    jl_I m U lr rr G rt lf s0 t (jl_st rt lf (t + 1) M s).1 (jl_st rt lf (t + 1) M s).2 := by
  obtain ⟨h1, h2, h3, h4, h5, h6⟩ := h
  by_cases hc : M (t + 1) = true ∧ ¬ ja_sg (t + 1)
  · obtain ⟨hm, hg⟩ := hc
    rw [jl_st_t hm hg]
    obtain ⟨q0, q1, qr⟩ := hQ _ (h2 _ hm)
    obtain ⟨r1, r2, r3, r4, r5, r6, r7, r8, r9, r10, r11⟩ := qr hg
    have hSU : t + 1 < 64 := Nat.lt_of_le_of_lt (ja_sub_le q1) H.1
    have hRs : ja_sub (ja_sd (t + 1) (lf (t + 1))) (t + 1) := ja_sd_sub _ _
    have hdj := ja_sd_dj (t + 1) (lf (t + 1))
    -- membership in the new marks
    have mk : ∀ T, (if T = lf (t + 1) ∨ T = ja_sd (t + 1) (lf (t + 1)) then true else M T) = true ↔ (T = lf (t + 1) ∨ T = ja_sd (t + 1) (lf (t + 1)) ∨ M T = true) := by
      intro T
      by_cases hT : T = lf (t + 1) ∨ T = ja_sd (t + 1) (lf (t + 1))
      · rw [if_pos hT]
        exact ⟨fun _ => hT.elim Or.inl (fun z => Or.inr (Or.inl z)), fun _ => rfl⟩
      · rw [if_neg hT]
        exact ⟨fun z => Or.inr (Or.inr z), fun z => z.elim (fun y => absurd (Or.inl y) hT) (fun y => y.elim (fun y => absurd (Or.inr y) hT) id)⟩
    have old : ∀ A, M A = true → (A ≤ t ∨ ja_sg A) → ja_dj A (t + 1) := by
      intro A hA hl
      refine h3 A (t + 1) hA hm (hl.elim (fun z => Or.inl (by omega)) Or.inr) (Or.inl (Nat.le_refl _)) ?_
      intro e
      subst e
      exact hl.elim (fun z => by omega) hg
    have rtS : ja_sub (lr (rt (t + 1)) ||| rr (rt (t + 1))) (t + 1) := ja_or_sub (ja_sub_tr r9 r6) (ja_sub_tr r10 hRs)
    refine ⟨(mk U).mpr (Or.inr (Or.inr h1)), ?_, ?_, ?_, ?_, ?_⟩
    · intro T hT
      rcases (mk T).mp hT with z | z | z
      · rw [z]; exact r7
      · rw [z]; exact r8
      · exact h2 T z
    · intro A B hA hB la lb hne
      rcases (mk A).mp hA with a | a | a
      · rcases (mk B).mp hB with b | b | b
        · exact absurd (a.trans b.symm) hne
        · rw [a, b]; exact hdj
        · rw [a]; exact fun x hx hy => old B b lb x hy (r6 x hx)
      · rcases (mk B).mp hB with b | b | b
        · rw [a, b]; exact ja_dj_symm hdj
        · exact absurd (a.trans b.symm) hne
        · rw [a]; exact fun x hx hy => old B b lb x hy (hRs x hx)
      · rcases (mk B).mp hB with b | b | b
        · rw [b]; exact fun x hx hy => old A a la x hx (r6 x hy)
        · rw [b]; exact fun x hx hy => old A a la x hx (hRs x hy)
        · exact h3 A B a b (la.elim (fun z => Or.inl (by omega)) Or.inr) (lb.elim (fun z => Or.inl (by omega)) Or.inr) hne
    · intro q hq
      rcases h4 q hq with ⟨A, hA, hl, hs⟩ | ⟨P, hP, hl, hs, e⟩
      · by_cases eA : A = t + 1
        · subst eA
          by_cases eq : q = rt (t + 1)
          · exact Or.inr ⟨t + 1, (mk _).mpr (Or.inr (Or.inr hm)), by omega, hg, eq.symm⟩
          · rcases r11 q hq eq hs with z | z
            · exact Or.inl ⟨_, (mk _).mpr (Or.inl rfl), by omega, z⟩
            · exact Or.inl ⟨_, (mk _).mpr (Or.inr (Or.inl rfl)), by omega, z⟩
        · exact Or.inl ⟨A, (mk _).mpr (Or.inr (Or.inr hA)), by omega, hs⟩
      · exact Or.inr ⟨P, (mk _).mpr (Or.inr (Or.inr hP)), by omega, hs, e⟩
    · intro P hP hl hgP
      by_cases eP : P = t + 1
      · subst eP
        refine ⟨by show ja_up _ _ _ _ = _; rw [ja_un (by omega), ja_us], ja_us, (mk _).mpr (Or.inl rfl), (mk _).mpr (Or.inr (Or.inl rfl)), ?_⟩
        intro A hA hlA hsub
        rcases (mk A).mp hA with a | a | a
        · rw [a] at hsub
          exact jp_nsub H r1 hdj r10 hsub
        · rw [a] at hsub
          exact jp_nsub' H r1 hdj r9 hsub
        · obtain ⟨x, hx⟩ := ja_nz.mp (jp_rl0 H r1)
          exact old A a (Or.inl hlA) x (hsub x hx) (rtS x hx)
      · have hPM : M P = true := by
          rcases (mk P).mp hP with a | a | a
          · omega
          · omega
          · exact a
        obtain ⟨c1, c2, c3, c4, c5⟩ := h5 P hPM (by omega) hgP
        have hne : rt P ≠ rt (t + 1) := fun z => c5 (t + 1) hm (Nat.le_refl _) (by rw [z]; exact rtS)
        refine ⟨?_, ?_, (mk _).mpr (Or.inr (Or.inr c3)), (mk _).mpr (Or.inr (Or.inr c4)), ?_⟩
        · show ja_up _ _ _ _ = _
          rw [ja_un (by omega), ja_un (by omega)]
          exact c1
        · show ja_up _ _ _ _ = _
          rw [ja_un (by omega), ja_un (by omega)]
          exact c2
        · intro A hA hlA hsub
          rcases (mk A).mp hA with a | a | a
          · rw [a] at hsub
            exact c5 (t + 1) hm (Nat.le_refl _) (ja_sub_tr hsub r6)
          · rw [a] at hsub
            exact c5 (t + 1) hm (Nat.le_refl _) (ja_sub_tr hsub hRs)
          · exact c5 A a (by omega) hsub
    · intro i hi
      show ja_up _ _ _ _ = _
      rw [ja_un (by omega), ja_un (by omega)]
      exact h6 i hi
  · have hc' : ¬ M (t + 1) = true ∨ ja_sg (t + 1) := by
      by_cases a : M (t + 1) = true
      · exact Or.inr (Classical.byContradiction fun b => hc ⟨a, b⟩)
      · exact Or.inl a
    rw [jl_st_f hc']
    refine ⟨h1, h2, fun A B ha hb la lb hne => h3 A B ha hb (la.elim (fun z => Or.inl (by omega)) Or.inr) (lb.elim (fun z => Or.inl (by omega)) Or.inr) hne, ?_, ?_, h6⟩
    · intro q hq
      rcases h4 q hq with ⟨A, hA, hl, hs⟩ | ⟨P, hP, hl, hs, e⟩
      · by_cases eA : A = t + 1
        · subst eA
          rcases hc' with z | z
          · exact absurd hA z
          · obtain ⟨q0, q1, _⟩ := hQ _ (h2 _ hA)
            exact absurd hs (jl_nsg H hq (Nat.lt_of_le_of_lt (ja_sub_le q1) H.1) q0 z)
        · exact Or.inl ⟨A, hA, by omega, hs⟩
      · exact Or.inr ⟨P, hP, by omega, hs, e⟩
    · intro P hP hl hgP
      by_cases eP : P = t + 1
      · subst eP
        rcases hc' with z | z
        · exact absurd hP z
        · exact absurd z hgP
      · obtain ⟨c1, c2, c3, c4, c5⟩ := h5 P hP (by omega) hgP
        exact ⟨c1, c2, c3, c4, fun A hA hlA => c5 A hA (by omega)⟩
theorem jl_all (H : jp_PL m U lr rr) (hQ : jl_Q m U lr rr G rt lf) : ∀ t M s, jl_I m U lr rr G rt lf s0 t M s → jl_I m U lr rr G rt lf s0 0 (jl_ly rt lf t M s).1 (jl_ly rt lf t M s).2 := by
  intro t
  induction t with
  | zero => intro M s h; exact h
  | succ t ih => intro M s h; exact ih _ _ (jl_step H hQ h)
end
/-- a tree over the operators: its sides s, two an operator -/
def jr_TW (m U : Nat) (s : Nat → Nat) : Prop :=
  jf_nd m s U ∧ (∀ i, i < m → s (2 * i) ≠ 0 ∧ s (2 * i + 1) ≠ 0 ∧ ja_dj (s (2 * i)) (s (2 * i + 1)) ∧ ja_sub (jf_set s i) U ∧ jf_nd m s (s (2 * i)) ∧ jf_nd m s (s (2 * i + 1))) ∧
  (∀ i k, i < m → k < m → jf_set s i = jf_set s k → i = k)
theorem jr_TW0 {n m U : Nat} {E V la ra s : Nat → Nat} (h : jf_FR n 1 m U E V la ra s) : jr_TW m U s := by
  have H := jp_of h
  obtain ⟨⟨hn, hU, hpc⟩, ⟨a1, a2, a3, a4⟩, h3, h4, h5, h6, h7, h8⟩ := h
  have e0 : E 0 = U := by
    refine ja_sub_anti (a1 0 (by omega)).2 ?_
    intro r hr
    obtain ⟨j, hj, z⟩ := a3 r hr
    have : j = 0 := by omega
    rw [this] at z
    exact z
  refine ⟨by rw [← e0]; exact h7 0 (by omega), ?_, fun i k hi hk e => jf_inj h3 h5 hi hk e⟩
  intro i hi
  obtain ⟨n1, n2, _⟩ := jf_set_ns h3 H.1 hi
  exact ⟨n1, n2, (h3 i hi).2.2.2.2.1, (h3 i hi).2.2.2.2.2, (h8 i hi).1, (h8 i hi).2⟩
section
variable {m U : Nat} {lr rr : Nat → Nat} {G : Nat → Prop} {rt lf s0 : Nat → Nat} {M : Nat → Bool} {s : Nat → Nat}
theorem jl_set1 (hQ : jl_Q m U lr rr G rt lf) (h : jl_I m U lr rr G rt lf s0 0 M s) {P : Nat} (hP : M P = true) (hg : ¬ ja_sg P) :
    jf_set (fun j => s (10 + j)) (rt P) = P ∧ s (10 + 2 * rt P) = lf P ∧ s (10 + (2 * rt P + 1)) = ja_sd P (lf P) := by
  obtain ⟨h1, h2, h3, h4, h5, h6⟩ := h
  obtain ⟨q0, q1, qr⟩ := hQ P (h2 P hP)
  obtain ⟨c1, c2, _⟩ := h5 P hP (by omega) hg
  have e2 : s (10 + (2 * rt P + 1)) = ja_sd P (lf P) := by rw [show 10 + (2 * rt P + 1) = 11 + 2 * rt P from by omega]; exact c2
  refine ⟨?_, c1, e2⟩
  show s (10 + 2 * rt P) ||| s (10 + (2 * rt P + 1)) = P
  rw [c1, e2]
  exact ja_sd_or (qr hg).2.2.2.2.2.1
theorem jl_ex (hQ : jl_Q m U lr rr G rt lf) (h : jl_I m U lr rr G rt lf s0 0 M s) {q : Nat} (hq : q < m) : ∃ P, M P = true ∧ ¬ ja_sg P ∧ rt P = q := by
  rcases h.2.2.2.1 q hq with ⟨A, hA, hl, _⟩ | ⟨P, hP, _, hg, e⟩
  · exact absurd (hQ A (h.2.1 A hA)).1 (by omega)
  · exact ⟨P, hP, hg, e⟩
theorem jl_nd (H : jp_PL m U lr rr) (hQ : jl_Q m U lr rr G rt lf) (h : jl_I m U lr rr G rt lf s0 0 M s) {P : Nat} (hP : M P = true) : jf_nd m (fun j => s (10 + j)) P := by
  obtain ⟨q0, q1, qr⟩ := hQ P (h.2.1 P hP)
  by_cases hg : ja_sg P
  · exact Or.inl (ja_sg_ex (Nat.lt_of_le_of_lt (ja_sub_le q1) H.1) q0 hg)
  · exact Or.inr ⟨rt P, (qr hg).1, (jl_set1 hQ h hP hg).1.symm⟩
theorem jl_TW (H : jp_PL m U lr rr) (hQ : jl_Q m U lr rr G rt lf) (h : jl_I m U lr rr G rt lf s0 0 M s) : jr_TW m U (fun j => s (10 + j)) := by
  refine ⟨jl_nd H hQ h h.1, ?_, ?_⟩
  · intro i hi
    obtain ⟨P, hP, hg, e⟩ := jl_ex hQ h hi
    subst e
    obtain ⟨e0, e1, e2⟩ := jl_set1 hQ h hP hg
    obtain ⟨q0, q1, qr⟩ := hQ P (h.2.1 P hP)
    obtain ⟨r1, r2, r3, r4, r5, r6, r7, r8, r9, r10, r11⟩ := qr hg
    obtain ⟨c1, c2, c3, c4, _⟩ := h.2.2.2.2.1 P hP (by omega) hg
    rw [e0]
    show s (10 + 2 * rt P) ≠ 0 ∧ s (10 + (2 * rt P + 1)) ≠ 0 ∧ ja_dj (s (10 + 2 * rt P)) (s (10 + (2 * rt P + 1))) ∧ ja_sub P U ∧ jf_nd m (fun j => s (10 + j)) (s (10 + 2 * rt P)) ∧ jf_nd m (fun j => s (10 + j)) (s (10 + (2 * rt P + 1)))
    rw [e1, e2]
    exact ⟨r2, r3, ja_sd_dj _ _, q1, jl_nd H hQ h c3, jl_nd H hQ h c4⟩
  · intro i k hi hk e
    obtain ⟨P, hP, hg, e1⟩ := jl_ex hQ h hi
    obtain ⟨P', hP', hg', e2⟩ := jl_ex hQ h hk
    subst e1
    subst e2
    rw [(jl_set1 hQ h hP hg).1, (jl_set1 hQ h hP' hg').1] at e
    rw [e]
/-- marked sets and nodes -/
theorem jl_mk (hQ : jl_Q m U lr rr G rt lf) (h : jl_I m U lr rr G rt lf s0 0 M s) {q : Nat} (hq : q < m) : M (jf_set (fun j => s (10 + j)) q) = true ∧ ¬ ja_sg (jf_set (fun j => s (10 + j)) q) ∧ rt (jf_set (fun j => s (10 + j)) q) = q := by
  obtain ⟨P, hP, hg, e⟩ := jl_ex hQ h hq
  subst e
  rw [(jl_set1 hQ h hP hg).1]
  exact ⟨hP, hg, rfl⟩
/-- the cost of a marked set is the sum over the operators inside it -/
theorem jl_cost {C : Nat → Int32} {sz : Nat → Nat} (H : jp_PL m U lr rr) (hQ : jl_Q m U lr rr G rt lf) (h : jl_I m U lr rr G rt lf s0 0 M s)
    (h1 : ∀ S, G S → ja_sg S → C S = 0) (h2 : ∀ S, G S → ¬ ja_sg S → C S = nI (sz S) + C (lf S) + C (ja_sd S (lf S))) :
    ∀ P, M P = true → C P = nI (ja_sm (fun q => if ja_sd (lr q ||| rr q) P = 0 then sz (jf_set (fun j => s (10 + j)) q) else 0) m) := by
  intro P
  induction P using Nat.strongRecOn with
  | ind P ih =>
    intro hP
    have hG := h.2.1 P hP
    obtain ⟨q0, q1, qr⟩ := hQ P hG
    have h6 : P < 64 := Nat.lt_of_le_of_lt (ja_sub_le q1) H.1
    by_cases hg : ja_sg P
    · rw [h1 P hG hg, ja_sm_cg (g := fun _ => 0) m (fun i hi => if_neg (fun z => jl_nsg H hi h6 q0 hg (ja_sd0.mp z))), ja_sm_0]
      rfl
    · obtain ⟨r1, r2, r3, r4, r5, r6, r7, r8, r9, r10, r11⟩ := qr hg
      obtain ⟨c1, c2, c3, c4, _⟩ := h.2.2.2.2.1 P hP (by omega) hg
      have hdj := ja_sd_dj P (lf P)
      rw [h2 P hG hg, ih _ r4 c3, ih _ r5 c4, nI_add, nI_add]
      apply congrArg nI
      rw [← ja_sm_1 (sz P) m r1, ← ja_sm_add, ← ja_sm_add]
      refine ja_sm_cg m fun i hi => ?_
      by_cases e : i = rt P
      · subst e
        rw [if_pos rfl, if_neg (fun z => jp_nsub H hi hdj r10 (ja_sd0.mp z)), if_neg (fun z => jp_nsub' H hi hdj r9 (ja_sd0.mp z)), if_pos (ja_sd0.mpr (ja_or_sub (ja_sub_tr r9 r6) (ja_sub_tr r10 (ja_sd_sub _ _)))), (jl_set1 hQ h hP hg).1]
        rfl
      · rw [if_neg e]
        by_cases hs : ja_sub (lr i ||| rr i) P
        · rw [if_pos (ja_sd0.mpr hs)]
          obtain ⟨x, hx⟩ := ja_nz.mp (jp_rl0 H hi)
          rcases r11 i hi e hs with z | z
          · rw [if_pos (ja_sd0.mpr z), if_neg (fun w => hdj x (z x hx) (ja_sd0.mp w x hx))]
            omega
          · rw [if_pos (ja_sd0.mpr z), if_neg (fun w => hdj x (ja_sd0.mp w x hx) (z x hx))]
            omega
        · rw [if_neg (fun z => hs (ja_sd0.mp z)), if_neg (fun z => hs (ja_sub_tr (ja_sd0.mp z) r6)), if_neg (fun z => hs (ja_sub_tr (ja_sd0.mp z) (ja_sd_sub _ _)))]
end
end
section
/-! ===== rows of a node: lists of packed rows ===== -/
def jr_dg (x r : Nat) : Nat := x / 2 ^ (15 - 3 * r) % 8
def jr_rb (T x : Nat) : Prop := ∀ p, x.testBit p = true → p < 18 ∧ T.testBit (5 - p / 3) = true
def jr_ok (T : Nat) (rc : Nat → Nat) (x : Nat) : Prop := x ≠ 0 ∧ jr_rb T x ∧ ∀ r, r < 6 → jr_dg x r ≤ rc r
theorem jr_rb0 (T : Nat) : jr_rb T 0 := fun _ h => absurd h ja_n0
theorem jr_lt {T x : Nat} (h : jr_rb T x) : x < 2 ^ 18 := by
  apply Nat.lt_pow_two_of_testBit
  intro i hi
  cases z : x.testBit i
  · rfl
  · have := (h i z).1
    omega
theorem jr_rb_or {A B x y : Nat} (hx : jr_rb A x) (hy : jr_rb B y) : jr_rb (A ||| B) (x ||| y) := by
  intro p hp
  rcases ja_mo.mp hp with z | z
  · exact ⟨(hx p z).1, ja_mo.mpr (Or.inl (hx p z).2)⟩
  · exact ⟨(hy p z).1, ja_mo.mpr (Or.inr (hy p z).2)⟩
theorem jr_un {A B x y x' y' : Nat} (hd : ja_dj A B) (hx : jr_rb A x) (hx' : jr_rb A x') (hy : jr_rb B y) (hy' : jr_rb B y') (e : x ||| y = x' ||| y') : x = x' ∧ y = y' := by
  have key : ∀ p, x.testBit p = true ∨ y.testBit p = true ↔ x'.testBit p = true ∨ y'.testBit p = true := by
    intro p
    rw [← ja_mo, ← ja_mo, e]
  constructor
  · refine ja_ext fun p => ⟨fun h => ?_, fun h => ?_⟩
    · rcases (key p).mp (Or.inl h) with z | z
      · exact z
      · exact absurd (hd _ (hx p h).2 (hy' p z).2) id
    · rcases (key p).mpr (Or.inl h) with z | z
      · exact z
      · exact absurd (hd _ (hx' p h).2 (hy p z).2) id
  · refine ja_ext fun p => ⟨fun h => ?_, fun h => ?_⟩
    · rcases (key p).mp (Or.inr h) with z | z
      · exact absurd (hd _ (hx' p z).2 (hy p h).2) id
      · exact z
    · rcases (key p).mpr (Or.inr h) with z | z
      · exact absurd (hd _ (hx p z).2 (hy' p h).2) id
      · exact z
theorem jr_dg_or (x y r : Nat) : jr_dg (x ||| y) r = jr_dg x r ||| jr_dg y r := by
  unfold jr_dg
  rw [Nat.or_div_two_pow, show (8 : Nat) = 2 ^ 3 from rfl, Nat.or_mod_two_pow]
theorem jr_dg_0 {T x r : Nat} (h : jr_rb T x) (hr : r < 6) (ht : ¬ T.testBit r = true) : jr_dg x r = 0 := by
  refine ja_e0 fun i hi => ?_
  unfold jr_dg at hi
  rw [show (8 : Nat) = 2 ^ 3 from rfl, Nat.testBit_mod_two_pow, Nat.testBit_div_two_pow, Bool.and_eq_true, decide_eq_true_eq] at hi
  have := (h _ hi.2).2
  rw [show 5 - (i + (15 - 3 * r)) / 3 = r from by omega] at this
  exact ht this
theorem jr_ok_or {A B x y : Nat} {rc : Nat → Nat} (hd : ja_dj A B) (hx : jr_ok A rc x) (hy : jr_ok B rc y) : jr_ok (A ||| B) rc (x ||| y) := by
  refine ⟨?_, jr_rb_or hx.2.1 hy.2.1, ?_⟩
  · obtain ⟨p, hp⟩ := ja_nz.mp hx.1
    exact ja_nz.mpr ⟨p, ja_mo.mpr (Or.inl hp)⟩
  · intro r hr
    rw [jr_dg_or]
    by_cases h : A.testBit r = true
    · rw [jr_dg_0 hy.2.1 hr (fun z => hd r h z), Nat.or_zero]
      exact hx.2.2 r hr
    · rw [jr_dg_0 hx.2.1 hr h, Nat.zero_or]
      exact hy.2.2 r hr
theorem jr_ok_mono {A B x : Nat} {rc : Nat → Nat} (hs : ja_sub A B) (hx : jr_ok A rc x) : jr_ok B rc x :=
  ⟨hx.1, fun p hp => ⟨(hx.2.1 p hp).1, hs _ (hx.2.1 p hp).2⟩, hx.2.2⟩
theorem jr_add {A B x y : Nat} (hd : ja_dj A B) (hx : jr_rb A x) (hy : jr_rb B y) : nI x + nI y = nI (x ||| y) := by
  have h0 : x &&& y = 0 := ja_an0'.mpr fun p a b => hd _ (hx p a).2 (hy p b).2
  rw [← ja_or]
  apply Int32.toBitVec_inj.mp
  have e : (nI x).toBitVec &&& (nI y).toBitVec = 0#32 := by
    have := nx_and x y
    rw [h0] at this
    exact congrArg Int32.toBitVec this
  rw [Int32.toBitVec_add, Int32.toBitVec_or]
  exact BitVec.add_eq_or_of_and_eq_zero _ _ e
/-! how many rows -/
def jr_G (s : Nat) : Nat := [0, 1, 2, 3, 4, 6, 9, 12, 18, 27, 36, 54, 81].getD s 0
theorem jr_GG : ∀ s, s < 13 → ∀ t, t < 13 → s + t < 13 → jr_G s * jr_G t ≤ jr_G (s + t) ∧ jr_G s + jr_G t ≤ jr_G (s + t) := by decide +kernel
theorem jr_G81 : ∀ s, s < 13 → jr_G s ≤ 81 := by decide +kernel
theorem jr_G4 : ∀ s, s < 5 → s ≤ jr_G s := by decide +kernel
def jr_tt (rc : Nat → Nat) (T : Nat) : Nat := ja_sm (fun r => if T.testBit r = true then rc r else 0) 6
theorem jr_tt_or {rc : Nat → Nat} {A B : Nat} (hd : ja_dj A B) : jr_tt rc (A ||| B) = jr_tt rc A + jr_tt rc B := by
  unfold jr_tt
  rw [← ja_sm_add]
  refine ja_sm_cg 6 fun i _ => ?_
  by_cases h : A.testBit i = true
  · rw [if_pos h, if_pos (ja_mo.mpr (Or.inl h)), if_neg (fun z => hd i h z), Nat.add_zero]
  · rw [if_neg h]
    by_cases h2 : B.testBit i = true
    · rw [if_pos h2, if_pos (ja_mo.mpr (Or.inr h2)), Nat.zero_add]
    · rw [if_neg h2, if_neg (fun z => (ja_mo.mp z).elim h h2)]
theorem jr_tt_le {rc : Nat → Nat} {T : Nat} : jr_tt rc T ≤ ja_sm rc 6 := ja_sm_le 6 fun i _ => by
  split
  · exact Nat.le_refl _
  · exact Nat.zero_le _
theorem jr_tt_1 {rc : Nat → Nat} {r : Nat} (hr : r < 6) : jr_tt rc (2 ^ r) = rc r := by
  unfold jr_tt
  rw [ja_sm_cg (g := fun i => if i = r then rc r else 0) 6, ja_sm_1 (rc r) 6 hr]
  intro i _
  by_cases e : i = r
  · subst e
    rw [if_pos rfl, if_pos (ja_m2.mpr rfl)]
  · rw [if_neg e, if_neg (fun z => e (ja_m2.mp z).symm)]
def jr_OK (T : Nat) (rc : Nat → Nat) (L : List Nat) : Prop := L.Nodup ∧ (∀ x, x ∈ L → jr_ok T rc x) ∧ L.length ≤ jr_G (jr_tt rc T)
/-! a leaf -/
def jr_lf (r c : Nat) : List Nat := (List.range c).map (fun i => (i + 1) * 2 ^ (15 - 3 * r))
theorem jr_lf_a : ∀ r, r < 6 → ∀ i, i < 4 → (i + 1) * 2 ^ (15 - 3 * r) ≠ 0 ∧ (i + 1) * 2 ^ (15 - 3 * r) < 2 ^ 18 ∧ jr_dg ((i + 1) * 2 ^ (15 - 3 * r)) r = i + 1 := by decide +kernel
theorem jr_lf_b : ∀ r, r < 6 → ∀ i, i < 4 → ∀ k, k < 6 → k ≠ r → jr_dg ((i + 1) * 2 ^ (15 - 3 * r)) k = 0 := by decide +kernel
theorem jr_lf_c : ∀ r, r < 6 → ∀ i, i < 4 → ∀ p, p < 18 → ((i + 1) * 2 ^ (15 - 3 * r)).testBit p = true → 5 - p / 3 = r := by decide +kernel
theorem jr_lf_OK {rc : Nat → Nat} {r : Nat} (hr : r < 6) (hc : rc r ≤ 4) : jr_OK (2 ^ r) rc (jr_lf r (rc r)) := by
  refine ⟨?_, ?_, ?_⟩
  · unfold jr_lf List.Nodup
    refine List.Pairwise.map _ ?_ List.nodup_range
    intro a b hne e
    exact hne (by have := Nat.eq_of_mul_eq_mul_right (Nat.two_pow_pos _) e; omega)
  · intro x hx
    unfold jr_lf at hx
    obtain ⟨i, hi, e⟩ := List.mem_map.mp hx
    rw [List.mem_range] at hi
    obtain ⟨a1, a2, a3⟩ := jr_lf_a r hr i (by omega)
    have a4 := jr_lf_b r hr i (by omega)
    have a5 := jr_lf_c r hr i (by omega)
    rw [e] at a1 a2 a3 a4 a5
    refine ⟨a1, fun p hp => ?_, fun k hk => ?_⟩
    · have := ja_bd a2 hp
      exact ⟨this, ja_m2.mpr (a5 p this hp).symm⟩
    · by_cases ek : k = r
      · subst ek
        rw [a3]
        omega
      · rw [a4 k hk ek]
        exact Nat.zero_le _
  · unfold jr_lf
    rw [List.length_map, List.length_range, jr_tt_1 hr]
    exact jr_G4 _ (by omega)
/-! one operator -/
def jr_J (k : Nat) (mt : Nat → Nat → Bool) (R : List Nat) (l : Nat) : List Nat :=
  if R.any (mt l) = true then (if k = 3 then [l] else if k = 4 then [] else (R.filter (mt l)).map (fun r => l ||| r)) else (if k = 1 ∨ k = 2 ∨ k = 4 then [l] else [])
def jr_OY (k : Nat) (mt : Nat → Nat → Bool) (L R : List Nat) : List Nat :=
  L.flatMap (jr_J k mt R) ++ (if k = 2 then R.filter (fun r => !(L.any (fun l => mt l r))) else [])
theorem jr_J_mem {k : Nat} {mt : Nat → Nat → Bool} {R : List Nat} {l z : Nat} (h : z ∈ jr_J k mt R l) : ∃ b, (b = 0 ∨ b ∈ R) ∧ z = l ||| b := by
  unfold jr_J at h
  split at h
  · split at h
    · rw [List.mem_singleton] at h
      exact ⟨0, Or.inl rfl, by rw [h, Nat.or_zero]⟩
    · split at h
      · exact absurd h List.not_mem_nil
      · obtain ⟨r, hr, e⟩ := List.mem_map.mp h
        exact ⟨r, Or.inr (List.mem_filter.mp hr).1, e.symm⟩
  · split at h
    · rw [List.mem_singleton] at h
      exact ⟨0, Or.inl rfl, by rw [h, Nat.or_zero]⟩
    · exact absurd h List.not_mem_nil
theorem jr_fl_le {f : Nat → List Nat} {b : Nat} : ∀ L : List Nat, (∀ l, l ∈ L → (f l).length ≤ b) → (L.flatMap f).length ≤ L.length * b := by
  intro L
  induction L with
  | nil => intro _; exact Nat.zero_le _
  | cons a L ih =>
    intro h
    rw [List.flatMap_cons, List.length_append, List.length_cons, Nat.succ_mul]
    have h1 := ih (fun l hl => h l (List.mem_cons_of_mem _ hl))
    have h2 := h a List.mem_cons_self
    omega
theorem jr_fp {p q : Nat → Bool} (hd : ∀ x, p x = true → q x = true → False) : ∀ R : List Nat, (R.filter p ++ R.filter q).Perm (R.filter (fun x => p x || q x)) := by
  intro R
  induction R with
  | nil => exact List.Perm.refl _
  | cons a R ih =>
    by_cases hp : p a = true
    · have hq : ¬ q a = true := fun z => hd a hp z
      rw [List.filter_cons_of_pos hp, List.filter_cons_of_neg hq, List.filter_cons_of_pos (by rw [hp]; rfl)]
      exact List.Perm.cons _ ih
    · rw [List.filter_cons_of_neg hp]
      by_cases hq : q a = true
      · rw [List.filter_cons_of_pos hq, List.filter_cons_of_pos (by rw [hq, Bool.or_true])]
        exact List.perm_middle.trans (List.Perm.cons _ ih)
      · rw [List.filter_cons_of_neg hq, List.filter_cons_of_neg (by rw [Bool.or_eq_true]; exact fun z => z.elim hp hq)]
        exact ih
theorem jr_num {a b u : Nat} (hu : u ≤ b) : a * (if b - u < 1 then 1 else b - u) + u ≤ a * b ∨ a * (if b - u < 1 then 1 else b - u) + u ≤ a + b := by
  by_cases h : b - u < 1
  · rw [if_pos h]
    exact Or.inr (by omega)
  · rw [if_neg h]
    rcases Nat.eq_zero_or_pos a with z | z
    · rw [z, Nat.zero_mul]
      exact Or.inr (by omega)
    · left
      have h1 : a * b = a * (b - u) + a * u := by rw [← Nat.mul_add]; congr 1; omega
      have h2 : 1 * u ≤ a * u := Nat.mul_le_mul_right u z
      omega
theorem jr_OY_len (k : Nat) (mt : Nat → Nat → Bool) (L R : List Nat) : (jr_OY k mt L R).length ≤ L.length * R.length ∨ (jr_OY k mt L R).length ≤ L.length + R.length := by
  by_cases hk : k = 2
  · have hu : (R.filter (fun r => !(L.any (fun l => mt l r)))).length ≤ R.length := List.length_filter_le _ _
    have hb : ∀ l, l ∈ L → (jr_J k mt R l).length ≤ (if R.length - (R.filter (fun r => !(L.any (fun l => mt l r)))).length < 1 then 1 else R.length - (R.filter (fun r => !(L.any (fun l => mt l r)))).length) := by
      intro l hl
      have h1 : (R.filter (mt l)).length + (R.filter (fun r => !(L.any (fun l => mt l r)))).length ≤ R.length := by
        rw [← List.length_append, (jr_fp (p := mt l) (q := fun r => !(L.any (fun l => mt l r))) (fun x hx hy => by
          have : L.any (fun l => mt l x) = true := List.any_eq_true.mpr ⟨l, hl, hx⟩
          rw [this] at hy
          exact absurd hy (by decide)) R).length_eq]
        exact List.length_filter_le _ _
      have h2 : (jr_J k mt R l).length ≤ 1 ∨ (jr_J k mt R l).length ≤ (R.filter (mt l)).length := by
        unfold jr_J
        split
        · split
          · exact Or.inl (Nat.le_refl _)
          · split
            · exact Or.inl (Nat.zero_le _)
            · rw [List.length_map]
              exact Or.inr (Nat.le_refl _)
        · split
          · exact Or.inl (Nat.le_refl _)
          · exact Or.inl (Nat.zero_le _)
      split <;> omega
    have h3 := jr_fl_le L hb
    have h4 := jr_num (a := L.length) hu
    unfold jr_OY
    rw [if_pos hk, List.length_append]
    omega
  · have hb : ∀ l, l ∈ L → (jr_J k mt R l).length ≤ (if R.length - 0 < 1 then 1 else R.length - 0) := by
      intro l hl
      have h1 : (R.filter (mt l)).length ≤ R.length := List.length_filter_le _ _
      have h2 : (jr_J k mt R l).length ≤ 1 ∨ (jr_J k mt R l).length ≤ (R.filter (mt l)).length := by
        unfold jr_J
        split
        · split
          · exact Or.inl (Nat.le_refl _)
          · split
            · exact Or.inl (Nat.zero_le _)
            · rw [List.length_map]
              exact Or.inr (Nat.le_refl _)
        · split
          · exact Or.inl (Nat.le_refl _)
          · exact Or.inl (Nat.zero_le _)
      split <;> omega
    have h3 := jr_fl_le L hb
    have h4 := jr_num (a := L.length) (b := R.length) (u := 0) (Nat.zero_le _)
    unfold jr_OY
    rw [if_neg hk, List.append_nil]
    omega
theorem jr_OY_OK {A B : Nat} {rc : Nat → Nat} {k : Nat} {mt : Nat → Nat → Bool} {L R : List Nat} (hd : ja_dj A B) (h12 : ja_sm rc 6 ≤ 12) (hL : jr_OK A rc L) (hR : jr_OK B rc R) :
    jr_OK (A ||| B) rc (jr_OY k mt L R) := by
  obtain ⟨l1, l2, l3⟩ := hL
  obtain ⟨r1, r2, r3⟩ := hR
  have rbb : ∀ b, (b = 0 ∨ b ∈ R) → jr_rb B b := fun b hb => hb.elim (fun z => by rw [z]; exact jr_rb0 B) (fun z => (r2 b z).2.1)
  refine ⟨?_, ?_, ?_⟩
  · unfold jr_OY
    refine List.nodup_append.mpr ⟨?_, ?_, ?_⟩
    · unfold List.Nodup
      refine List.pairwise_flatMap.mpr ⟨?_, ?_⟩
      · intro l hl
        unfold jr_J
        split
        · split
          · exact List.pairwise_singleton _ _
          · split
            · exact List.Pairwise.nil
            · refine List.pairwise_map.mpr (List.Pairwise.imp_of_mem (R := (· ≠ ·)) ?_ (r1.filter _))
              intro a b ha hb hne e
              exact hne (jr_un hd (l2 l hl).2.1 (l2 l hl).2.1 (r2 a (List.mem_filter.mp ha).1).2.1 (r2 b (List.mem_filter.mp hb).1).2.1 e).2
        · split
          · exact List.pairwise_singleton _ _
          · exact List.Pairwise.nil
      · refine List.Pairwise.imp_of_mem (R := (· ≠ ·)) ?_ l1
        intro a b ha hb hne x hx y hy e
        obtain ⟨b1, hb1, e1⟩ := jr_J_mem hx
        obtain ⟨b2, hb2, e2⟩ := jr_J_mem hy
        rw [e1, e2] at e
        exact hne (jr_un hd (l2 a ha).2.1 (l2 b hb).2.1 (rbb _ hb1) (rbb _ hb2) e).1
    · split
      · exact r1.filter _
      · exact List.Pairwise.nil
    · intro x hx y hy e
      split at hy
      · obtain ⟨l, hl, hxl⟩ := List.mem_flatMap.mp hx
        obtain ⟨b, hb, e1⟩ := jr_J_mem hxl
        have hyR := (List.mem_filter.mp hy).1
        have e2 : l ||| b = 0 ||| y := by rw [← e1, e, Nat.zero_or]
        exact (l2 l hl).1 (jr_un hd (l2 l hl).2.1 (jr_rb0 A) (rbb _ hb) (r2 y hyR).2.1 e2).1
      · exact absurd hy List.not_mem_nil
  · intro x hx
    unfold jr_OY at hx
    rcases List.mem_append.mp hx with z | z
    · obtain ⟨l, hl, hxl⟩ := List.mem_flatMap.mp z
      obtain ⟨b, hb, e1⟩ := jr_J_mem hxl
      rw [e1]
      rcases hb with w | w
      · rw [w, Nat.or_zero]
        exact jr_ok_mono ja_or_l (l2 l hl)
      · exact jr_ok_or hd (l2 l hl) (r2 b w)
    · split at z
      · exact jr_ok_mono ja_or_r (r2 x (List.mem_filter.mp z).1)
      · exact absurd z List.not_mem_nil
  · rw [jr_tt_or hd]
    have t1 : jr_tt rc A + jr_tt rc B ≤ 12 := by rw [← jr_tt_or hd]; exact Nat.le_trans jr_tt_le h12
    have g := jr_GG (jr_tt rc A) (by omega) (jr_tt rc B) (by omega) (by omega)
    have m1 : L.length * R.length ≤ jr_G (jr_tt rc A) * jr_G (jr_tt rc B) := Nat.mul_le_mul l3 r3
    have := jr_OY_len k mt L R
    omega
/-! the component's order: groups by key -/
def jr_mt (kl kr : Nat → Nat) (ns : Bool) (l r : Nat) : Bool := decide (kl l = kr r) && (!decide (kl l = 109) || ns)
def jr_hit (kl kr : Nat → Nat) (ns : Bool) (L R : List Nat) (c : Nat) : Bool := L.any (fun l => decide (kl l = c) && R.any (jr_mt kl kr ns l))
def jr_UX (kl kr : Nat → Nat) (ns : Bool) (L R : List Nat) : Nat → List Nat
  | 0 => []
  | c + 1 => jr_UX kl kr ns L R c ++ (if jr_hit kl kr ns L R c = true then [] else R.filter (fun r => decide (kr r = c)))
def jr_OX (k : Nat) (kl kr : Nat → Nat) (ns : Bool) (L R : List Nat) : List Nat :=
  L.flatMap (jr_J k (jr_mt kl kr ns) R) ++ (if k = 2 then jr_UX kl kr ns L R 110 else [])
theorem jr_UXp (kl kr : Nat → Nat) (ns : Bool) (L R : List Nat) : ∀ c, (jr_UX kl kr ns L R c).Perm (R.filter (fun r => decide (kr r < c) && !jr_hit kl kr ns L R (kr r))) := by
  intro c
  induction c with
  | zero =>
    have : R.filter (fun r => decide (kr r < 0) && !jr_hit kl kr ns L R (kr r)) = [] := by
      apply List.filter_eq_nil_iff.mpr
      intro a _
      simp
    rw [this]
    exact List.Perm.refl _
  | succ c ih =>
    show (jr_UX kl kr ns L R c ++ (if jr_hit kl kr ns L R c = true then [] else R.filter (fun r => decide (kr r = c)))).Perm _
    by_cases h : jr_hit kl kr ns L R c = true
    · rw [if_pos h, List.append_nil]
      refine ih.trans (List.Perm.of_eq (List.filter_congr fun r _ => ?_))
      by_cases e : kr r = c
      · rw [e, h]
        simp
      · rw [show decide (kr r < c + 1) = decide (kr r < c) from by
          by_cases z : kr r < c
          · rw [decide_eq_true z, decide_eq_true (by omega)]
          · rw [decide_eq_false z, decide_eq_false (by omega)]]
    · rw [if_neg h]
      refine (List.Perm.append_right _ ih).trans ((jr_fp ?_ R).trans (List.Perm.of_eq (List.filter_congr fun r _ => ?_)))
      · intro x hx hy
        rw [Bool.and_eq_true, decide_eq_true_eq] at hx
        rw [decide_eq_true_eq] at hy
        omega
      · by_cases e : kr r = c
        · rw [e, decide_eq_true (by omega : c < c + 1), decide_eq_true rfl]
          simp [h]
        · rw [decide_eq_false e, Bool.or_false, show decide (kr r < c + 1) = decide (kr r < c) from by
            by_cases z : kr r < c
            · rw [decide_eq_true z, decide_eq_true (by omega)]
            · rw [decide_eq_false z, decide_eq_false (by omega)]]
theorem jr_hit_any {kl kr : Nat → Nat} {ns : Bool} {L R : List Nat} {r : Nat} (hr : r ∈ R) : jr_hit kl kr ns L R (kr r) = L.any (fun l => jr_mt kl kr ns l r) := by
  rw [Bool.eq_iff_iff]
  unfold jr_hit
  rw [List.any_eq_true, List.any_eq_true]
  constructor
  · rintro ⟨l, hl, h⟩
    rw [Bool.and_eq_true, decide_eq_true_eq, List.any_eq_true] at h
    obtain ⟨e, r', hr', h'⟩ := h
    refine ⟨l, hl, ?_⟩
    unfold jr_mt at h' ⊢
    rw [Bool.and_eq_true] at h' ⊢
    exact ⟨decide_eq_true e, h'.2⟩
  · rintro ⟨l, hl, h⟩
    refine ⟨l, hl, ?_⟩
    rw [Bool.and_eq_true, decide_eq_true_eq, List.any_eq_true]
    refine ⟨?_, r, hr, h⟩
    unfold jr_mt at h
    rw [Bool.and_eq_true, decide_eq_true_eq] at h
    exact h.1
theorem jr_fmp {f g : Nat → List Nat} (h : ∀ l, (f l).Perm (g l)) : ∀ L : List Nat, (L.flatMap f).Perm (L.flatMap g) := by
  intro L
  induction L with
  | nil => exact List.Perm.refl _
  | cons a L ih =>
    rw [List.flatMap_cons, List.flatMap_cons]
    exact List.Perm.append (h a) ih
theorem jr_J_perm {k : Nat} {mt : Nat → Nat → Bool} {R R' : List Nat} (h : R.Perm R') (l : Nat) : (jr_J k mt R l).Perm (jr_J k mt R' l) := by
  unfold jr_J
  rw [h.any_eq]
  split
  · split
    · exact List.Perm.refl _
    · split
      · exact List.Perm.refl _
      · exact (h.filter _).map _
  · exact List.Perm.refl _
theorem jr_XYp {k : Nat} {kl kr : Nat → Nat} {ns : Bool} {L L' R R' : List Nat} (hk : ∀ r, kr r < 110) (hL : L.Perm L') (hR : R.Perm R') :
    (jr_OX k kl kr ns L R).Perm (jr_OY k (jr_mt kl kr ns) L' R') := by
  unfold jr_OX jr_OY
  refine List.Perm.append ((List.Perm.flatMap_right _ hL).trans (jr_fmp (jr_J_perm hR) L')) ?_
  split
  · refine (jr_UXp kl kr ns L R 110).trans ?_
    have e1 : R.filter (fun r => decide (kr r < 110) && !jr_hit kl kr ns L R (kr r)) = R.filter (fun r => !(L'.any (fun l => jr_mt kl kr ns l r))) := by
      refine List.filter_congr fun r hr => ?_
      rw [decide_eq_true (hk r), Bool.true_and, jr_hit_any hr, hL.any_eq]
    rw [e1]
    exact hR.filter _
  · exact List.Perm.refl _
end
section
/-! ===== slices of arrays, slots, loops over lists ===== -/
def jr_sl (a : Nat → Int32) : Nat → List Nat → Prop
  | _, [] => True
  | p, x :: L => a p = nI x ∧ jr_sl a (p + 1) L
theorem jr_sl_app {a : Nat → Int32} {M : List Nat} : ∀ (L : List Nat) (p : Nat), jr_sl a p (L ++ M) ↔ jr_sl a p L ∧ jr_sl a (p + L.length) M := by
  intro L
  induction L with
  | nil => intro p; exact ⟨fun h => ⟨trivial, h⟩, fun h => h.2⟩
  | cons x L ih =>
    intro p
    show a p = nI x ∧ jr_sl a (p + 1) (L ++ M) ↔ (a p = nI x ∧ jr_sl a (p + 1) L) ∧ jr_sl a (p + (L.length + 1)) M
    rw [ih, show p + 1 + L.length = p + (L.length + 1) from by omega]
    exact ⟨fun h => ⟨⟨h.1, h.2.1⟩, h.2.2⟩, fun h => ⟨h.1.1, h.1.2, h.2⟩⟩
theorem jr_sl_fr {a a' : Nat → Int32} : ∀ (L : List Nat) (p : Nat), (∀ i, p ≤ i → i < p + L.length → a' i = a i) → jr_sl a p L → jr_sl a' p L := by
  intro L
  induction L with
  | nil => intro p _ _; trivial
  | cons x L ih =>
    intro p h hs
    have e : (x :: L).length = L.length + 1 := rfl
    refine ⟨by rw [h p (Nat.le_refl _) (by omega)]; exact hs.1, ih (p + 1) (fun i h1 h2 => h i (by omega) (by omega)) hs.2⟩
theorem jr_sl_1 {a : Nat → Int32} {p x : Nat} {P Q : List Nat} (h : jr_sl a p (P ++ x :: Q)) : a (p + P.length) = nI x := ((jr_sl_app P p).mp h).2.1
theorem jr_sl_snoc {a : Nat → Int32} {p x : Nat} {P : List Nat} (h : jr_sl a p P) (hx : a (p + P.length) = nI x) : jr_sl a p (P ++ [x]) := (jr_sl_app P p).mpr ⟨h, hx, trivial⟩
theorem jr_sl_get {a : Nat → Int32} : ∀ (L : List Nat) (p i : Nat) (h : i < L.length), jr_sl a p L → a (p + i) = nI L[i] := by
  intro L
  induction L with
  | nil => intro p i h; exact absurd h (Nat.not_lt_zero _)
  | cons x L ih =>
    intro p i h hs
    cases i with
    | zero => exact hs.1
    | succ i =>
      have h' : i < L.length := Nat.lt_of_succ_lt_succ h
      have := ih (p + 1) i h' hs.2
      rw [show p + 1 + i = p + (i + 1) from by omega] at this
      exact this
def jr_HS (rows cnt : Nat → Int32) (s : Nat) (L : List Nat) : Prop := cnt s = nI L.length ∧ L.length ≤ 81 ∧ jr_sl rows (s * 81) L
def jr_fr (s : Nat) (rows cnt rows' cnt' : Nat → Int32) : Prop := (∀ t, t ≠ s → cnt' t = cnt t) ∧ (∀ t i, t ≠ s → i < 81 → rows' (t * 81 + i) = rows (t * 81 + i))
theorem jr_fr_rfl {s : Nat} {rows cnt : Nat → Int32} : jr_fr s rows cnt rows cnt := ⟨fun _ _ => rfl, fun _ _ _ _ => rfl⟩
theorem jr_fr_tr {s : Nat} {r c r' c' r'' c'' : Nat → Int32} (h : jr_fr s r c r' c') (k : jr_fr s r' c' r'' c'') : jr_fr s r c r'' c'' :=
  ⟨fun t ht => (k.1 t ht).trans (h.1 t ht), fun t i ht hi => (k.2 t i ht hi).trans (h.2 t i ht hi)⟩
theorem jr_HS_fr {s t : Nat} {r c r' c' : Nat → Int32} {L : List Nat} (h : jr_fr s r c r' c') (ht : t ≠ s) (k : jr_HS r c t L) : jr_HS r' c' t L := by
  refine ⟨by rw [h.1 t ht]; exact k.1, k.2.1, jr_sl_fr L _ (fun i h1 h2 => ?_) k.2.2⟩
  obtain ⟨j, rfl⟩ : ∃ j, i = t * 81 + j := ⟨i - t * 81, by omega⟩
  exact h.2 t j ht (by have := k.2.1; omega)
theorem jr_app_HS {s x : Nat} {r c : Nat → Int32} {L : List Nat} (k : jr_HS r c s L) (hl : L.length < 81) : jr_HS (upd r (s * 81 + L.length) (nI x)) (upd c s (nI (L.length + 1))) s (L ++ [x]) := by
  refine ⟨by rw [pk_us, List.length_append]; rfl, by rw [List.length_append]; show L.length + 1 ≤ 81; omega, jr_sl_snoc (jr_sl_fr L _ (fun i h1 h2 => pk_un (by omega)) k.2.2) pk_us⟩
theorem jr_app_fr {s n : Nat} {x y : Int32} {r c : Nat → Int32} (hn : n < 81) : jr_fr s r c (upd r (s * 81 + n) x) (upd c s y) :=
  ⟨fun t ht => pk_un ht, fun t i ht hi => pk_un (by omega)⟩
theorem jr_clr_fr {s : Nat} {y : Int32} {r c : Nat → Int32} : jr_fr s r c r (upd c s y) := ⟨fun _ ht => pk_un ht, fun _ _ _ _ => rfl⟩
theorem jr_clr_HS {s : Nat} {r c : Nat → Int32} : jr_HS r (upd c s 0) s [] := ⟨pk_us, Nat.zero_le _, trivial⟩
/-- a loop over a list's places -/
theorem jr_lw {σ : Type} (W : Nat → Nat → σ → Prop) (L : List Nat) (I : List Nat → σ → Prop) (hx : ∀ n s, I L s → W (n + 1) L.length s)
    (hs : ∀ n P x Q s, L = P ++ x :: Q → I P s → (∀ s', I (P ++ [x]) s' → W n (P.length + 1) s') → W (n + 1) P.length s) :
    ∀ (Q P : List Nat) (s : σ) (n : Nat), L = P ++ Q → Q.length < n → I P s → W n P.length s := by
  intro Q
  induction Q with
  | nil =>
    intro P s n e hn hI
    obtain ⟨n, rfl⟩ : ∃ k, n = k + 1 := ⟨n - 1, by omega⟩
    rw [List.append_nil] at e
    subst e
    exact hx n s hI
  | cons x Q ih =>
    intro P s n e hn hI
    obtain ⟨n, rfl⟩ : ∃ k, n = k + 1 := ⟨n - 1, by omega⟩
    refine hs n P x Q s e hI fun s' hI' => ?_
    have := ih (P ++ [x]) s' n (by rw [e, List.append_assoc]; rfl) (by have : (x :: Q).length = Q.length + 1 := rfl; omega) hI'
    rw [List.length_append] at this
    exact this
theorem jr_lw0 {σ : Type} (W : Nat → Nat → σ → Prop) (L : List Nat) (I : List Nat → σ → Prop) (s : σ) (h0 : I [] s) (hx : ∀ n s, I L s → W (n + 1) L.length s)
    (hs : ∀ n P x Q s, L = P ++ x :: Q → I P s → (∀ s', I (P ++ [x]) s' → W n (P.length + 1) s') → W (n + 1) P.length s) : ∃ n, W n 0 s :=
  ⟨L.length + 1, jr_lw W L I hx hs L [] s (L.length + 1) rfl (by omega) h0⟩
/-! index arithmetic of the program -/
theorem jn_ma (s k i : Nat) : nI s * nI k + nI i = nI (s * k + i) := by rw [pk_mul, nI_add]
theorem jn_81 (s i : Nat) : nI s * 81 + nI i = nI (s * 81 + i) := jn_ma s 81 i
theorem jn_at {a : Nat → Int32} {x : Int32} {n : Nat} (e : x = nI n) (h : n < 2 ^ 31) : a x.toNatClampNeg = a n := by rw [e, nI_clamp h]
theorem jn_up {a : Nat → Int32} {x v : Int32} {n : Nat} (e : x = nI n) (h : n < 2 ^ 31) : upd a x.toNatClampNeg v = upd a n v := by rw [e, nI_clamp h]
section
variable {f_nullKey f_maxRows f_n f_rowLimit f_rowTotal f_entryCount f_usedRels f_opCount f_optimised f_initialCost f_resultRows : Int32} {a_rowCount a_values a_entryRels a_entryVisible a_estimates a_opKind a_opLeftAttrs a_opRightAttrs a_opDivisor a_opLeftRels a_opRightRels a_sideSet a_eligible a_opsIn a_bestCost a_planCount a_rootOf a_leftPart a_nodeAt a_slotRows a_slotCount a_keys a_grouped a_groupStart a_groupHit a_result : Nat → Int32}
theorem jx_app {post : SX → Prop} {s x : Nat} {L : List Nat} (hs : s < 11) (h : jr_HS a_slotRows a_slotCount s L) (hl : L.length < 81)
    (k : post (f_nullKey, f_maxRows, f_n, f_rowLimit, f_rowTotal, f_entryCount, f_usedRels, f_opCount, f_optimised, f_initialCost, f_resultRows, a_rowCount, a_values, a_entryRels, a_entryVisible, a_estimates, a_opKind, a_opLeftAttrs, a_opRightAttrs, a_opDivisor, a_opLeftRels, a_opRightRels, a_sideSet, a_eligible, a_opsIn, a_bestCost, a_planCount, a_rootOf, a_leftPart, a_nodeAt, upd a_slotRows (s * 81 + L.length) (nI x), upd a_slotCount s (nI (L.length + 1)), a_keys, a_grouped, a_groupStart, a_groupHit, a_result)) : wpX_append post (f_nullKey, f_maxRows, f_n, f_rowLimit, f_rowTotal, f_entryCount, f_usedRels, f_opCount, f_optimised, f_initialCost, f_resultRows, a_rowCount, a_values, a_entryRels, a_entryVisible, a_estimates, a_opKind, a_opLeftAttrs, a_opRightAttrs, a_opDivisor, a_opLeftRels, a_opRightRels, a_sideSet, a_eligible, a_opsIn, a_bestCost, a_planCount, a_rootOf, a_leftPart, a_nodeAt, a_slotRows, a_slotCount, a_keys, a_grouped, a_groupStart, a_groupHit, a_result) (nI s) (nI x) := by
  refine ⟨vp_in_nI hs (by decide), nm_r (e' := nI L.length) ((jn_at rfl (by omega)).trans h.1) (br_f (nI_ge (b := 81) hl (by decide)) ⟨?_, nm_r (jn_up (jn_81 s L.length) (by omega)) ⟨vp_in_nI hs (by decide), nm_r ?_ k⟩⟩)⟩
  · rw [jn_81]
    exact vp_in_nI (by omega) (by decide)
  · rw [nI_1]
    exact jn_up rfl (by omega)
end
section
variable {g_n g_rowLimit g_entries g_ops g_optimised g_hasResult : Int32} {b_cells b_rowCount b_entrySet b_entryVisible b_estimates b_operators b_sides b_inPlan b_least b_ways b_root b_rootLeft b_found b_foundCount : Nat → Int32}
theorem jy_add {post : SY → Prop} {s x : Nat} {L : List Nat} (hs : s < 64) (h : jr_HS b_found b_foundCount s L) (hl : L.length < 81)
    (k : post (g_n, g_rowLimit, g_entries, g_ops, g_optimised, g_hasResult, b_cells, b_rowCount, b_entrySet, b_entryVisible, b_estimates, b_operators, b_sides, b_inPlan, b_least, b_ways, b_root, b_rootLeft, upd b_found (s * 81 + L.length) (nI x), upd b_foundCount s (nI (L.length + 1)))) : wpY_add post (g_n, g_rowLimit, g_entries, g_ops, g_optimised, g_hasResult, b_cells, b_rowCount, b_entrySet, b_entryVisible, b_estimates, b_operators, b_sides, b_inPlan, b_least, b_ways, b_root, b_rootLeft, b_found, b_foundCount) (nI s) (nI x) := by
  have e1 : b_foundCount (nI s).toNatClampNeg = nI L.length := (jn_at rfl (by omega)).trans h.1
  have hv : vp_in (nI s) 64 := vp_in_nI hs (by decide)
  refine ⟨hv, ?_⟩
  rw [e1]
  refine br_f (nI_ge (b := 81) hl (by decide)) ⟨hv, ?_, nm_r (jn_up (jn_81 s L.length) (by omega)) ⟨hv, hv, nm_r ?_ k⟩⟩
  · rw [jn_81]
    exact vp_in_nI (by omega) (by decide)
  · rw [nI_1]
    exact jn_up rfl (by omega)
end
end
section
/-! ===== keys ===== -/
def jr_kc (v : Nat → Int32) (am x k s : Nat) : Option Nat :=
  if am.testBit k = true then (if 0 ≤ v (k * 8 + jr_dg x (k / 2)) then some (s + (v (k * 8 + jr_dg x (k / 2))).toNatClampNeg) else none) else some s
def jr_ky (v : Nat → Int32) (am x : Nat) : Nat → Option Nat
  | 0 => some 0
  | k + 1 => (jr_ky v am x k).bind (jr_kc v am x k)
def jr_kv (v : Nat → Int32) (am x : Nat) : Nat := if (jr_ky v am x 12).getD 109 < 110 then (jr_ky v am x 12).getD 109 else 109
theorem jr_kv_lt (v : Nat → Int32) (am x : Nat) : jr_kv v am x < 110 := by
  unfold jr_kv
  split
  · assumption
  · decide
def jr_VV (rc : Nat → Nat) (v cells : Nat → Int32) : Prop :=
  ∀ a, a < 12 → ∀ d, d ≤ rc (a / 2) → (v (a * 8 + d) = -1 ∨ ∃ k, k ≤ 9 ∧ v (a * 8 + d) = nI k) ∧ (d = 0 → v (a * 8 + d) = -1) ∧ (d ≠ 0 → cells (a * 4 + d - 1) = v (a * 8 + d))
section
variable {v : Nat → Int32} {am x : Nat}
theorem jr_ky_s {k s : Nat} (h : jr_ky v am x k = some s) : jr_ky v am x (k + 1) = jr_kc v am x k s := by
  show (jr_ky v am x k).bind _ = _
  rw [h]
  rfl
theorem jr_ky_n {k : Nat} (h : jr_ky v am x k = none) : ∀ d, jr_ky v am x (k + d) = none := by
  intro d
  induction d with
  | zero => exact h
  | succ d ih =>
    show (jr_ky v am x (k + d)).bind _ = none
    rw [ih]
    rfl
theorem jr_ky_b {rc : Nat → Nat} {cells : Nat → Int32} (hV : jr_VV rc v cells) (hx : ∀ r, r < 6 → jr_dg x r ≤ rc r) : ∀ k s, k ≤ 12 → jr_ky v am x k = some s → s ≤ 9 * k := by
  intro k
  induction k with
  | zero =>
    intro s _ h
    have : (0 : Nat) = s := Option.some.inj h
    omega
  | succ k ih =>
    intro s hk h
    cases e : jr_ky v am x k with
    | none =>
      rw [jr_ky_n e 1] at h
      exact absurd h (by simp)
    | some t =>
      have h1 := ih t (by omega) e
      rw [jr_ky_s e] at h
      unfold jr_kc at h
      split at h
      · split at h
        · have h2 := Option.some.inj h
          rcases (hV k (by omega) _ (hx (k / 2) (by omega))).1 with z | ⟨c, hc, z⟩
          · rw [z] at h2
            have : (-1 : Int32).toNatClampNeg = 0 := by decide
            omega
          · rw [z, nI_clamp (by omega)] at h2
            omega
        · exact absurd h (by simp)
      · have h2 := Option.some.inj h
        omega
theorem jr_kv_some {rc : Nat → Nat} {cells : Nat → Int32} (hV : jr_VV rc v cells) (hx : ∀ r, r < 6 → jr_dg x r ≤ rc r) {s : Nat} (h : jr_ky v am x 12 = some s) : jr_kv v am x = s ∧ s < 109 := by
  have := jr_ky_b hV hx 12 s (Nat.le_refl _) h
  unfold jr_kv
  rw [h]
  exact ⟨if_pos (show s < 110 by omega), by omega⟩
theorem jr_kv_none (h : jr_ky v am x 12 = none) : jr_kv v am x = 109 := by
  unfold jr_kv
  rw [h]
  rfl
end
theorem jn_dg {x r : Nat} (hx : x < 2 ^ 31) (hr : r < 6) : ((nI x >>> ((15 - (3 * nI r)) &&& 31)) &&& 7) = nI (jr_dg x r) := by
  have e : (15 : Int32) - 3 * nI r = nI (15 - 3 * r) := by
    rw [show (3 : Int32) * nI r = nI (3 * r) from pk_mul 3 r]
    exact pk_sub (a := 15) (by omega)
  rw [e, pk_shrN hx _ (15 - 3 * r) (s_l _ (by omega))]
  exact pk_andN (Nat.lt_of_le_of_lt (Nat.div_le_self _ _) (by omega)) 3 (by decide)
theorem jn_half {i : Nat} (hi : i < 2 ^ 31) : nI i >>> ((1 : Int32) &&& 31) = nI (i / 2) := pk_shrN hi _ 1 (by decide)
theorem jn_hd {i : Nat} (hi : i < 2 ^ 31) : nI i / 2 = nI (i / 2) := pk_div (d := 2) hi (by decide) (by decide)
theorem jn_not {v : Int32} (h : ¬ 0 ≤ v) : ¬ 0 ≤ v := h
section
variable {f_nullKey f_maxRows f_n f_rowLimit f_rowTotal f_entryCount f_usedRels f_opCount f_optimised f_initialCost f_resultRows : Int32} {a_rowCount a_values a_entryRels a_entryVisible a_estimates a_opKind a_opLeftAttrs a_opRightAttrs a_opDivisor a_opLeftRels a_opRightRels a_sideSet a_eligible a_opsIn a_bestCost a_planCount a_rootOf a_leftPart a_nodeAt a_slotRows a_slotCount a_keys a_grouped a_groupStart a_groupHit a_result : Nat → Int32}
theorem jx_key {post : Int32 → Prop} {x am : Nat} {rc : Nat → Nat} {cells : Nat → Int32} (hV : jr_VV rc a_values cells) (h4 : ∀ r, rc r ≤ 4) (hx : ∀ r, r < 6 → jr_dg x r ≤ rc r) (hx31 : x < 2 ^ 31) (ham : am < 2 ^ 31)
    (k : post (nI (jr_kv a_values am x))) : wpX_keyOf post (f_nullKey, f_maxRows, f_n, f_rowLimit, f_rowTotal, f_entryCount, f_usedRels, f_opCount, f_optimised, f_initialCost, f_resultRows, a_rowCount, a_values, a_entryRels, a_entryVisible, a_estimates, a_opKind, a_opLeftAttrs, a_opRightAttrs, a_opDivisor, a_opLeftRels, a_opRightRels, a_sideSet, a_eligible, a_opsIn, a_bestCost, a_planCount, a_rootOf, a_leftPart, a_nodeAt, a_slotRows, a_slotCount, a_keys, a_grouped, a_groupStart, a_groupHit, a_result) (nI x) (nI am) := by
  refine loop_0 (fun n i s => wX_keyOf_5 post (nI x) (nI am) f_nullKey f_maxRows f_n f_rowLimit f_rowTotal f_entryCount f_usedRels f_opCount f_optimised f_initialCost f_resultRows a_rowCount a_values a_entryRels a_entryVisible a_estimates a_opKind a_opLeftAttrs a_opRightAttrs a_opDivisor a_opLeftRels a_opRightRels a_sideSet a_eligible a_opsIn a_bestCost a_planCount a_rootOf a_leftPart a_nodeAt a_slotRows a_slotCount a_keys a_grouped a_groupStart a_groupHit a_result n s (nI i)) (fun i s => ∃ t, s = nI t ∧ jr_ky a_values am x i = some t) 12 0 ⟨0, rfl, rfl⟩ ?_ ?_
  · rintro n s ⟨t, rfl, ht⟩
    refine br_t (by decide) ?_
    rw [(jr_kv_some hV hx ht).1] at k
    exact k
  · rintro n i s hi ⟨t, rfl, ht⟩ ih
    refine br_f (nI_ge (b := 12) hi (by decide)) ?_
    by_cases hb : am.testBit i = true
    · refine br_f (fun z => (ja_b0 ham (by omega)).mp z hb) (nm_r (e' := nI (jr_dg x (i / 2))) (by rw [jn_half (by omega)]; exact jn_dg hx31 (by omega)) ?_)
      have hd := hx (i / 2) (by omega)
      have hd4 := h4 (i / 2)
      have e8 : nI i * 8 + nI (jr_dg x (i / 2)) = nI (i * 8 + jr_dg x (i / 2)) := jn_ma i 8 _
      refine ⟨by rw [e8]; exact vp_in_nI (by omega) (by decide), nm_r (jn_at e8 (by omega)) ?_⟩
      rcases (hV i hi _ hd).1 with z | ⟨c, hc, z⟩
      · rw [z]
        refine br_f (by decide) ?_
        have hn : jr_ky a_values am x (i + 1) = none := by
          rw [jr_ky_s ht]
          unfold jr_kc
          rw [if_pos hb, z, if_neg (by decide)]
        have hn := jr_ky_n hn (12 - (i + 1))
        rw [show i + 1 + (12 - (i + 1)) = 12 from by omega] at hn
        rw [jr_kv_none hn] at k
        exact k
      · rw [z]
        refine br_t (nI_pos' (by omega)) (nm_r (nI_add t c) (nm_r (nI_1 i) (ih _ ⟨t + c, rfl, ?_⟩)))
        rw [jr_ky_s ht]
        unfold jr_kc
        rw [if_pos hb, z, if_pos (nI_pos' (by omega)), nI_clamp (by omega)]
    · refine br_t ((ja_b0 ham (by omega)).mpr hb) (nm_r (nI_1 i) (ih _ ⟨t, rfl, ?_⟩))
      rw [jr_ky_s ht]
      unfold jr_kc
      rw [if_neg hb]
end
section
variable {g_n g_rowLimit g_entries g_ops g_optimised g_hasResult : Int32} {b_cells b_rowCount b_entrySet b_entryVisible b_estimates b_operators b_sides b_inPlan b_least b_ways b_root b_rootLeft b_found b_foundCount : Nat → Int32}
theorem jy_stored {post : Int32 → Prop} {n a d : Nat} {rc : Nat → Nat} {v : Nat → Int32} (hV : jr_VV rc v b_cells) (hn : n ≤ 6) (en : g_n = nI n) (hrc : ∀ r, b_rowCount r = nI (rc r)) (h4 : ∀ r, rc r ≤ 4)
    (ha : a < 2 * n) (hd : d ≤ rc (a / 2)) (k : post (v (a * 8 + d))) : wpY_stored post (g_n, g_rowLimit, g_entries, g_ops, g_optimised, g_hasResult, b_cells, b_rowCount, b_entrySet, b_entryVisible, b_estimates, b_operators, b_sides, b_inPlan, b_least, b_ways, b_root, b_rootLeft, b_found, b_foundCount) (nI a) (nI d) := by
  subst en
  have e2 : (2 : Int32) * nI n = nI (2 * n) := pk_mul 2 n
  have h4' := h4 (a / 2)
  obtain ⟨v1, v2, v3⟩ := hV a (by omega) d hd
  refine br_f (nI_pos (by omega)) (br_f (by rw [e2]; exact nI_ge ha (by omega)) (br_f (nI_pos (by omega)) ⟨by decide, ?_⟩))
  rw [jn_hd (by omega), nI_clamp (by omega), hrc]
  refine ⟨vp_in_nI (by omega) (by decide), br_t (nI_le hd (by omega)) ?_⟩
  by_cases z : d = 0
  · rw [v2 z] at k
    subst z
    exact br_t rfl k
  · have e4 : nI a * 4 + nI d - 1 = nI (a * 4 + d - 1) := by
      rw [show nI a * 4 + nI d = nI (a * 4 + d) from jn_ma a 4 d]
      exact pk_sub (b := 1) (by omega)
    refine br_f (nI_ne0 (by omega) (by omega)) ?_
    rw [e4, nI_clamp (by omega)]
    refine ⟨vp_in_nI (by omega) (by decide), ?_⟩
    rw [v3 z]
    exact k
theorem jy_sum {post : Int32 → Prop} {n x am : Nat} {rc : Nat → Nat} {v : Nat → Int32} (hV : jr_VV rc v b_cells) (hn : n ≤ 6) (en : g_n = nI n) (hrc : ∀ r, b_rowCount r = nI (rc r)) (h4 : ∀ r, rc r ≤ 4)
    (hx : ∀ r, r < 6 → jr_dg x r ≤ rc r) (hx31 : x < 2 ^ 31) (ham : am < 2 ^ 31) (hab : ∀ a, am.testBit a = true → a < 2 * n)
    (k : post (if jr_kv v am x = 109 then -1 else nI (jr_kv v am x))) : wpY_sum post (g_n, g_rowLimit, g_entries, g_ops, g_optimised, g_hasResult, b_cells, b_rowCount, b_entrySet, b_entryVisible, b_estimates, b_operators, b_sides, b_inPlan, b_least, b_ways, b_root, b_rootLeft, b_found, b_foundCount) (nI am) (nI x) := by
  have e2 : (2 : Int32) * g_n = nI (2 * n) := by rw [en]; exact pk_mul 2 n
  have hend : ∀ d t, jr_ky v am x (2 * n) = some t → jr_ky v am x (2 * n + d) = some t := by
    intro d t ht
    induction d with
    | zero => exact ht
    | succ d ih =>
      rw [show 2 * n + (d + 1) = 2 * n + d + 1 from rfl, jr_ky_s ih]
      unfold jr_kc
      rw [if_neg fun z => absurd (hab _ z) (by omega)]
  refine loop_0 (fun m i s => wY_sum_5 post (nI am) (nI x) g_n g_rowLimit g_entries g_ops g_optimised g_hasResult b_cells b_rowCount b_entrySet b_entryVisible b_estimates b_operators b_sides b_inPlan b_least b_ways b_root b_rootLeft b_found b_foundCount m s (nI i)) (fun i s => ∃ t, s = nI t ∧ jr_ky v am x i = some t) (2 * n) 0 ⟨0, rfl, rfl⟩ ?_ ?_
  · rintro m s ⟨t, rfl, ht⟩
    refine br_t (by rw [e2]; exact nI_le (Nat.le_refl _) (by omega)) ?_
    have h12 := hend (12 - 2 * n) t ht
    rw [show 2 * n + (12 - 2 * n) = 12 from by omega] at h12
    obtain ⟨q1, q2⟩ := jr_kv_some hV hx h12
    rw [q1, if_neg (by omega)] at k
    exact k
  · rintro m i s hi ⟨t, rfl, ht⟩ ih
    refine br_f (by rw [e2]; exact nI_ge hi (by omega)) ?_
    by_cases hb : am.testBit i = true
    · refine br_f (fun z => (ja_b0 ham (by omega)).mp z hb) ⟨by decide, ?_⟩
      rw [jn_hd (by omega), jn_dg hx31 (by omega)]
      have hd := hx (i / 2) (by omega)
      refine jy_stored hV hn en hrc h4 hi hd ?_
      rcases (hV i (by omega) _ hd).1 with z | ⟨c, hc, z⟩
      · rw [z]
        refine br_t rfl ?_
        have hn : jr_ky v am x (i + 1) = none := by
          rw [jr_ky_s ht]
          unfold jr_kc
          rw [if_pos hb, z, if_neg (by decide)]
        have hn := jr_ky_n hn (12 - (i + 1))
        rw [show i + 1 + (12 - (i + 1)) = 12 from by omega] at hn
        rw [jr_kv_none hn, if_pos rfl] at k
        exact k
      · rw [z]
        refine br_f (fun w => absurd (by rw [w]; decide : ¬ 0 ≤ nI c) (fun w => w (nI_pos' (by omega)))) (nm_r (nI_add t c) (nm_r (nI_1 i) (ih _ ⟨t + c, rfl, ?_⟩)))
        rw [jr_ky_s ht]
        unfold jr_kc
        rw [if_pos hb, z, if_pos (nI_pos' (by omega)), nI_clamp (by omega)]
    · refine br_t ((ja_b0 ham (by omega)).mpr hb) (nm_r (nI_1 i) (ih _ ⟨t, rfl, ?_⟩))
      rw [jr_ky_s ht]
      unfold jr_kc
      rw [if_neg hb]
theorem jy_matches {post : Int32 → Prop} {n i x y am bm kd : Nat} {rc : Nat → Nat} {v : Nat → Int32} (hV : jr_VV rc v b_cells) (hn : n ≤ 6) (en : g_n = nI n) (hrc : ∀ r, b_rowCount r = nI (rc r)) (h4 : ∀ r, rc r ≤ 4)
    (hx : ∀ r, r < 6 → jr_dg x r ≤ rc r) (hx31 : x < 2 ^ 31) (hy : ∀ r, r < 6 → jr_dg y r ≤ rc r) (hy31 : y < 2 ^ 31)
    (hi : i < 5) (e1 : b_operators (i * 4 + 1) = nI am) (ham : am < 2 ^ 31) (hab : ∀ a, am.testBit a = true → a < 2 * n)
    (e2 : b_operators (i * 4 + 2) = nI bm) (hbm : bm < 2 ^ 31) (hbb : ∀ a, bm.testBit a = true → a < 2 * n) (e0 : b_operators (i * 4) = nI kd) (hkd : kd < 10)
    (k : post (if jr_mt (jr_kv v am) (jr_kv v bm) (decide (5 ≤ kd)) x y = true then 1 else 0)) : wpY_matches post (g_n, g_rowLimit, g_entries, g_ops, g_optimised, g_hasResult, b_cells, b_rowCount, b_entrySet, b_entryVisible, b_estimates, b_operators, b_sides, b_inPlan, b_least, b_ways, b_root, b_rootLeft, b_found, b_foundCount) (nI i) (nI x) (nI y) := by
  have f1 : nI i * 4 + 1 = nI (i * 4 + 1) := jn_ma i 4 1
  have f2 : nI i * 4 + 2 = nI (i * 4 + 2) := jn_ma i 4 2
  have f0 : nI i * 4 = nI (i * 4) := pk_mul i 4
  have a1 := jr_kv_lt v am x
  have a2 := jr_kv_lt v bm y
  unfold wpY_matches
  dsimp only
  rw [f1, f2, f0, nI_clamp (by omega), nI_clamp (by omega), nI_clamp (by omega), e1, e2, e0]
  refine ⟨vp_in_nI (by omega) (by decide), ?_⟩
  refine jy_sum hV hn en hrc h4 hx hx31 ham hab ?_
  refine ⟨vp_in_nI (by omega) (by decide), ?_⟩
  refine jy_sum hV hn en hrc h4 hy hy31 hbm hbb ?_
  unfold jr_mt at k
  by_cases c1 : jr_kv v am x = 109
  · rw [if_pos c1]
    rw [c1] at k
    by_cases c2 : jr_kv v bm y = 109
    · rw [if_pos c2]
      rw [c2] at k
      refine br_t rfl (br_t rfl ⟨vp_in_nI (by omega) (by decide), ?_⟩)
      refine pk_lt kd 5 (fun h => ?_) (fun h => ?_)
      · rw [decide_eq_false (by omega : ¬ 5 ≤ kd)] at k
        exact k
      · rw [decide_eq_true h] at k
        exact k
    · rw [if_neg c2]
      refine br_f (fun w => ?_) ?_
      · have : ¬ (0 : Int32) ≤ -1 := by decide
        rw [w] at this
        exact this (nI_pos' (by omega))
      · rw [decide_eq_false (by omega : ¬ 109 = jr_kv v bm y)] at k
        exact k
  · rw [if_neg c1]
    have n1 : ¬ nI (jr_kv v am x) = -1 := fun w => by
      have : ¬ (0 : Int32) ≤ -1 := by decide
      rw [← w] at this
      exact this (nI_pos' (by omega))
    rw [decide_eq_false c1] at k
    by_cases c2 : jr_kv v bm y = 109
    · rw [if_pos c2]
      refine br_f n1 ?_
      rw [decide_eq_false (by omega : ¬ jr_kv v am x = jr_kv v bm y)] at k
      exact k
    · rw [if_neg c2]
      refine pk_eq (jr_kv v am x) (jr_kv v bm y) (fun h => br_f n1 ?_) (fun h => ?_)
      · rw [decide_eq_true h] at k
        exact k
      · rw [decide_eq_false h] at k
        exact k
end
end
section
/-! ===== counting sort by key ===== -/
def jr_fk (kr : Nat → Nat) (k : Nat) (R : List Nat) : List Nat := R.filter (fun r => decide (kr r = k))
def jr_lk (kr : Nat → Nat) (R : List Nat) (k : Nat) : Nat := (R.filter (fun r => decide (kr r < k))).length
def jr_GR (kr : Nat → Nat) (R : List Nat) (gs grouped : Nat → Int32) : Prop :=
  (∀ k, k ≤ 110 → gs k = nI (jr_lk kr R k)) ∧ ∀ k, k < 110 → jr_sl grouped (jr_lk kr R k) (jr_fk kr k R)
section
variable {kr : Nat → Nat} {R : List Nat}
theorem jr_lk_s (k : Nat) : jr_lk kr R (k + 1) = jr_lk kr R k + (jr_fk kr k R).length := by
  unfold jr_lk jr_fk
  rw [← List.length_append, (jr_fp (p := fun r => decide (kr r < k)) (q := fun r => decide (kr r = k)) (fun x hx hy => by
    rw [decide_eq_true_eq] at hx hy
    omega) R).length_eq]
  refine congrArg List.length (List.filter_congr fun r _ => ?_)
  rw [Bool.eq_iff_iff, Bool.or_eq_true, decide_eq_true_eq, decide_eq_true_eq, decide_eq_true_eq]
  omega
theorem jr_lk_0 : jr_lk kr R 0 = 0 := by
  unfold jr_lk
  rw [List.filter_eq_nil_iff.mpr (fun a _ => by simp)]
  rfl
theorem jr_lk_le (k : Nat) : jr_lk kr R k ≤ R.length := List.length_filter_le _ _
theorem jr_lk_m (k d : Nat) : jr_lk kr R k ≤ jr_lk kr R (k + d) := by
  induction d with
  | zero => exact Nat.le_refl _
  | succ d ih =>
    have := jr_lk_s (kr := kr) (R := R) (k + d)
    rw [show k + (d + 1) = k + d + 1 from rfl]
    omega
theorem jr_fk_app (k : Nat) (P Q : List Nat) : jr_fk kr k (P ++ Q) = jr_fk kr k P ++ jr_fk kr k Q := List.filter_append ..
theorem jr_fk_y {k x : Nat} {Q : List Nat} (h : kr x = k) : jr_fk kr k (x :: Q) = x :: jr_fk kr k Q := List.filter_cons_of_pos (decide_eq_true h)
theorem jr_fk_n {k x : Nat} {Q : List Nat} (h : kr x ≠ k) : jr_fk kr k (x :: Q) = jr_fk kr k Q := List.filter_cons_of_neg (by rw [decide_eq_true_eq]; exact h)
/-- one step of the last loop -/
theorem jr_gstep {P Q : List Nat} {x : Nat} {gs grouped : Nat → Int32} (e : R = P ++ x :: Q) (hx : kr x < 110)
    (h1 : ∀ k, k ≤ 110 → gs k = nI (jr_lk kr R k + (jr_fk kr k (P ++ [x])).length)) (h2 : ∀ k, k < 110 → jr_sl grouped (jr_lk kr R k + (jr_fk kr k (P ++ [x])).length) (jr_fk kr k Q)) :
    (∀ k, k ≤ 110 → upd gs (kr x) (nI (jr_lk kr R (kr x) + (jr_fk kr (kr x) P).length)) k = nI (jr_lk kr R k + (jr_fk kr k P).length)) ∧
    (∀ k, k < 110 → jr_sl (upd grouped (jr_lk kr R (kr x) + (jr_fk kr (kr x) P).length) (nI x)) (jr_lk kr R k + (jr_fk kr k P).length) (jr_fk kr k (x :: Q))) ∧
    jr_lk kr R (kr x) + (jr_fk kr (kr x) P).length < R.length := by
  have len : ∀ k, (jr_fk kr k R).length = (jr_fk kr k P).length + (jr_fk kr k (x :: Q)).length := fun k => by rw [e, jr_fk_app, List.length_append]
  have l1 : (jr_fk kr (kr x) (x :: Q)).length = (jr_fk kr (kr x) Q).length + 1 := by rw [jr_fk_y rfl]; rfl
  refine ⟨?_, ?_, ?_⟩
  · intro k hk
    by_cases ek : k = kr x
    · subst ek
      rw [pk_us]
    · rw [pk_un ek, h1 k hk, jr_fk_app, jr_fk_n (Q := []) (fun z => ek z.symm)]
      rw [List.length_append]
      rfl
  · intro k hk
    have hs := h2 k hk
    rw [jr_fk_app, List.length_append] at hs
    by_cases ek : k = kr x
    · subst ek
      rw [jr_fk_y rfl]
      rw [jr_fk_y (Q := []) rfl] at hs
      refine ⟨pk_us, jr_sl_fr _ _ (fun i a b => pk_un (by omega)) ?_⟩
      exact hs
    · rw [jr_fk_n (fun z => ek z.symm)]
      rw [jr_fk_n (Q := []) (fun z => ek z.symm)] at hs
      refine jr_sl_fr _ _ (fun i a b => pk_un ?_) hs
      have lk := len k
      rw [jr_fk_n (fun z => ek z.symm)] at lk
      have lx := len (kr x)
      have s1 := jr_lk_s (kr := kr) (R := R) k
      have s2 := jr_lk_s (kr := kr) (R := R) (kr x)
      rcases Nat.lt_or_ge k (kr x) with z | z
      · have := jr_lk_m (kr := kr) (R := R) (k + 1) (kr x - (k + 1))
        rw [show k + 1 + (kr x - (k + 1)) = kr x from by omega] at this
        omega
      · have := jr_lk_m (kr := kr) (R := R) (kr x + 1) (k - (kr x + 1))
        rw [show kr x + 1 + (k - (kr x + 1)) = k from by omega] at this
        omega
  · have lx := len (kr x)
    have s2 := jr_lk_s (kr := kr) (R := R) (kr x)
    have := jr_lk_le (kr := kr) (R := R) (kr x + 1)
    omega
end
theorem jn_m1 (x : Int32) : x + (-1) = x - 1 := (Int32.sub_eq_add_neg x 1).symm
theorem jn_gt109 : (109 : Int32) < nI 110 := by decide
theorem jn_b0 : vp_nar .boolean 0 = 0 := rfl
theorem jn_b1 : vp_nar .boolean 1 = 1 := rfl
section
variable {f_nullKey f_maxRows f_n f_rowLimit f_rowTotal f_entryCount f_usedRels f_opCount f_optimised f_initialCost f_resultRows : Int32} {a_rowCount a_values a_entryRels a_entryVisible a_estimates a_opKind a_opLeftAttrs a_opRightAttrs a_opDivisor a_opLeftRels a_opRightRels a_sideSet a_eligible a_opsIn a_bestCost a_planCount a_rootOf a_leftPart a_nodeAt a_slotRows a_slotCount a_keys a_grouped a_groupStart a_groupHit a_result : Nat → Int32}
theorem jx_gr142 {post : SX → Prop} {s : Nat} {R : List Nat} {kr : Nat → Nat} (hs : s < 11) (hR : jr_HS a_slotRows a_slotCount s R) (hkr : ∀ r, kr r < 110) (hk : jr_sl a_keys 0 (R.map kr))
    (k : ∀ gr gs, jr_GR kr R gs gr → post (f_nullKey, f_maxRows, f_n, f_rowLimit, f_rowTotal, f_entryCount, f_usedRels, f_opCount, f_optimised, f_initialCost, f_resultRows, a_rowCount, a_values, a_entryRels, a_entryVisible, a_estimates, a_opKind, a_opLeftAttrs, a_opRightAttrs, a_opDivisor, a_opLeftRels, a_opRightRels, a_sideSet, a_eligible, a_opsIn, a_bestCost, a_planCount, a_rootOf, a_leftPart, a_nodeAt, a_slotRows, a_slotCount, a_keys, gr, gs, a_groupHit, a_result)) :
    ∀ i gr gs, i ≤ R.length → (∀ c, c ≤ 110 → gs c = nI (jr_lk kr R c + (jr_fk kr c (R.take i)).length)) → (∀ c, c < 110 → jr_sl gr (jr_lk kr R c + (jr_fk kr c (R.take i)).length) (jr_fk kr c (R.drop i))) →
      wX_groupRows_142 post (nI s) f_nullKey f_maxRows f_n f_rowLimit f_rowTotal f_entryCount f_usedRels f_opCount f_optimised f_initialCost f_resultRows (i + 1) (nI i - 1) a_rowCount a_values a_entryRels a_entryVisible a_estimates a_opKind a_opLeftAttrs a_opRightAttrs a_opDivisor a_opLeftRels a_opRightRels a_sideSet a_eligible a_opsIn a_bestCost a_planCount a_rootOf a_leftPart a_nodeAt a_slotRows a_slotCount a_keys (gr) (gs) a_groupHit a_result := by
  intro i
  induction i with
  | zero =>
    intro gr gs _ h1 h2
    refine br_t (by decide) (k gr gs ⟨fun c hc => ?_, fun c hc => ?_⟩)
    · exact h1 c hc
    · exact h2 c hc
  | succ i ih =>
    intro gr gs hi h1 h2
    have hi' : i < R.length := by omega
    have h81 := hR.2.1
    have e : R = R.take i ++ R[i] :: R.drop (i + 1) := by rw [← List.drop_eq_getElem_cons hi', List.take_append_drop]
    rw [List.take_succ_eq_append_getElem hi'] at h1 h2
    obtain ⟨g1, g2, g3⟩ := jr_gstep (kr := kr) e (hkr _) h1 h2
    have hx := hkr R[i]
    generalize hxx : R[i] = x at e h1 h2 g1 g2 g3 hx
    have ek : a_keys i = nI (kr x) := by
      have := jr_sl_get (R.map kr) 0 i (by rw [List.length_map]; exact hi') hk
      rw [Nat.zero_add, List.getElem_map, hxx] at this
      exact this
    have er : a_slotRows (s * 81 + i) = nI x := by
      have := jr_sl_get R (s * 81) i hi' hR.2.2
      rw [hxx] at this
      exact this
    have ei : nI (i + 1) - 1 = nI i := pk_sub (b := 1) (by omega)
    have ev : gs (kr x) - 1 = nI (jr_lk kr R (kr x) + (jr_fk kr (kr x) (R.take i)).length) := by
      rw [h1 _ (by omega), jr_fk_app, jr_fk_y (Q := []) rfl, List.length_append]
      exact pk_sub (b := 1) (by show 1 ≤ _ + (_ + 1); omega)
    rw [ei]
    unfold wX_groupRows_142
    refine br_f (nI_pos (by omega)) ?_
    rw [nI_clamp (by omega), ek, nI_clamp (by omega), jn_81, nI_clamp (by omega), er]
    refine ⟨vp_in_nI (by omega) (by decide), vp_in_nI (by omega) (by decide), vp_in_nI (by omega) (by decide), nm_r (congrArg _ ev) ?_⟩
    rw [pk_us, nI_clamp (by omega)]
    refine ⟨vp_in_nI (by omega) (by decide), vp_in_nI (by omega) (by decide), vp_in_nI (by omega) (by decide), vp_in_nI (by omega) (by decide), nm_e (nm_r (e' := nI i - 1) (jn_m1 _) ?_)⟩
    refine ih _ _ (by omega) g1 ?_
    rw [List.drop_eq_getElem_cons hi', hxx]
    exact g2
theorem jx_gr105 {post : SX → Prop} {s : Nat} {kr : Nat → Nat} {R : List Nat}
    (k : ∀ gs, (∀ j, j ≤ 110 → gs j = nI (jr_lk kr R j + (jr_fk kr j R).length)) → ∃ n, wX_groupRows_142 post (nI s) f_nullKey f_maxRows f_n f_rowLimit f_rowTotal f_entryCount f_usedRels f_opCount f_optimised f_initialCost f_resultRows n (nI R.length - 1) a_rowCount a_values a_entryRels a_entryVisible a_estimates a_opKind a_opLeftAttrs a_opRightAttrs a_opDivisor a_opLeftRels a_opRightRels a_sideSet a_eligible a_opsIn a_bestCost a_planCount a_rootOf a_leftPart a_nodeAt a_slotRows a_slotCount a_keys a_grouped (gs) a_groupHit a_result)
    (h : ∀ j, j ≤ 110 → a_groupStart j = nI (jr_fk kr j R).length) : ∃ n, wX_groupRows_105 post (nI s) (nI R.length) f_nullKey f_maxRows f_n f_rowLimit f_rowTotal f_entryCount f_usedRels f_opCount f_optimised f_initialCost f_resultRows n 1 a_rowCount a_values a_entryRels a_entryVisible a_estimates a_opKind a_opLeftAttrs a_opRightAttrs a_opDivisor a_opLeftRels a_opRightRels a_sideSet a_eligible a_opsIn a_bestCost a_planCount a_rootOf a_leftPart a_nodeAt a_slotRows a_slotCount a_keys a_grouped a_groupStart a_groupHit a_result := by
  refine pk_loop (fun n i gs => wX_groupRows_105 post (nI s) (nI R.length) f_nullKey f_maxRows f_n f_rowLimit f_rowTotal f_entryCount f_usedRels f_opCount f_optimised f_initialCost f_resultRows n (nI i) a_rowCount a_values a_entryRels a_entryVisible a_estimates a_opKind a_opLeftAttrs a_opRightAttrs a_opDivisor a_opLeftRels a_opRightRels a_sideSet a_eligible a_opsIn a_bestCost a_planCount a_rootOf a_leftPart a_nodeAt a_slotRows a_slotCount a_keys a_grouped (gs) a_groupHit a_result)
    (fun i gs => 1 ≤ i ∧ (∀ j, j < i → gs j = nI (jr_lk kr R (j + 1))) ∧ ∀ j, i ≤ j → j ≤ 110 → gs j = nI (jr_fk kr j R).length) 111 1 a_groupStart (by decide) ⟨Nat.le_refl _, ?_, fun j h1 h2 => h j h2⟩ ?_ ?_
  · intro j hj
    have : j = 0 := by omega
    subst this
    rw [h 0 (by omega), jr_lk_s, jr_lk_0, Nat.zero_add]
  · rintro n gs ⟨_, h1, _⟩
    refine br_t (by decide) (nm_e (k gs fun j hj => ?_))
    rw [h1 j (by omega), jr_lk_s]
  · rintro n i gs hi ⟨h0, h1, h2⟩ ih
    have em : nI i - 1 = nI (i - 1) := pk_sub (b := 1) (by omega)
    refine br_f (nI_nlt (a := 110) (by omega) (by decide)) ?_
    have ev : gs i + gs (i - 1) = nI (jr_lk kr R (i + 1)) := by
      rw [h2 i (Nat.le_refl _) (by omega), h1 (i - 1) (by omega), nI_add, show i - 1 + 1 = i from by omega, jr_lk_s i, Nat.add_comm]
    refine ⟨vp_in_nI (by omega) (by decide), by rw [em]; exact vp_in_nI (by omega) (by decide), vp_in_nI (by omega) (by decide), nm_r (e' := upd gs i (nI (jr_lk kr R (i + 1)))) ?_ (nm_r (nI_1 i) (ih _ ⟨by omega, ?_, ?_⟩))⟩
    · rw [em, nI_clamp (by omega), nI_clamp (by omega), ev]
    · intro j hj
      by_cases e : j = i
      · subst e
        rw [pk_us]
      · rw [pk_un e]
        exact h1 j (by omega)
    · intro j hj hj2
      rw [pk_un (by omega)]
      exact h2 j (by omega) hj2
theorem jx_gr50 {post : SX → Prop} {s bm : Nat} {rc : Nat → Nat} {cells : Nat → Int32} {R : List Nat} (hs : s < 11) (hR : jr_HS a_slotRows a_slotCount s R) (hV : jr_VV rc a_values cells) (h4 : ∀ r, rc r ≤ 4)
    (hok : ∀ x, x ∈ R → (∀ r, r < 6 → jr_dg x r ≤ rc r) ∧ x < 2 ^ 31) (hbm : bm < 2 ^ 31) (h0 : ∀ j, j ≤ 110 → a_groupStart j = 0)
    (k : ∀ ks gr gs, jr_GR (jr_kv a_values bm) R gs gr → post (f_nullKey, f_maxRows, f_n, f_rowLimit, f_rowTotal, f_entryCount, f_usedRels, f_opCount, f_optimised, f_initialCost, f_resultRows, a_rowCount, a_values, a_entryRels, a_entryVisible, a_estimates, a_opKind, a_opLeftAttrs, a_opRightAttrs, a_opDivisor, a_opLeftRels, a_opRightRels, a_sideSet, a_eligible, a_opsIn, a_bestCost, a_planCount, a_rootOf, a_leftPart, a_nodeAt, a_slotRows, a_slotCount, ks, gr, gs, a_groupHit, a_result)) :
    ∃ n, wX_groupRows_50 post (nI s) (nI bm) (nI R.length) f_nullKey f_maxRows f_n f_rowLimit f_rowTotal f_entryCount f_usedRels f_opCount f_optimised f_initialCost f_resultRows n 0 a_rowCount a_values a_entryRels a_entryVisible a_estimates a_opKind a_opLeftAttrs a_opRightAttrs a_opDivisor a_opLeftRels a_opRightRels a_sideSet a_eligible a_opsIn a_bestCost a_planCount a_rootOf a_leftPart a_nodeAt a_slotRows a_slotCount a_keys a_grouped a_groupStart a_groupHit a_result := by
  refine jr_lw0 (fun n i (st : (Nat → Int32) × (Nat → Int32)) => wX_groupRows_50 post (nI s) (nI bm) (nI R.length) f_nullKey f_maxRows f_n f_rowLimit f_rowTotal f_entryCount f_usedRels f_opCount f_optimised f_initialCost f_resultRows n (nI i) a_rowCount a_values a_entryRels a_entryVisible a_estimates a_opKind a_opLeftAttrs a_opRightAttrs a_opDivisor a_opLeftRels a_opRightRels a_sideSet a_eligible a_opsIn a_bestCost a_planCount a_rootOf a_leftPart a_nodeAt a_slotRows a_slotCount (st.1) a_grouped (st.2) a_groupHit a_result) R
    (fun P st => jr_sl st.1 0 (P.map (jr_kv a_values bm)) ∧ ∀ j, j ≤ 110 → st.2 j = nI (jr_fk (jr_kv a_values bm) j P).length) (a_keys, a_groupStart) ⟨trivial, fun j hj => h0 j hj⟩ ?_ ?_
  · rintro n ⟨ks, gs⟩ ⟨h1, h2⟩
    refine br_t (nI_le (Nat.le_refl _) (by have := hR.2.1; omega)) (jx_gr105 (fun gs' hg => ?_) h2)
    refine ⟨R.length + 1, jx_gr142 hs hR (jr_kv_lt a_values bm) h1 (fun gr gs'' hG => k ks gr gs'' hG) R.length a_grouped gs' (Nat.le_refl _) ?_ ?_⟩
    · intro c hc
      rw [List.take_length]
      exact hg c hc
    · intro c hc
      rw [List.drop_length]
      trivial
  · rintro n P x Q ⟨ks, gs⟩ e ⟨h1, h2⟩ ih
    have h2 : ∀ j, j ≤ 110 → gs j = nI (jr_fk (jr_kv a_values bm) j P).length := h2
    have h81 := hR.2.1
    have hl : P.length + (Q.length + 1) = R.length := by rw [e, List.length_append]; rfl
    have er : a_slotRows (s * 81 + P.length) = nI x := by
      have := hR.2.2
      rw [e] at this
      exact jr_sl_1 this
    obtain ⟨hx1, hx2⟩ := hok x (by rw [e]; exact List.mem_append.mpr (Or.inr List.mem_cons_self))
    have hkv := jr_kv_lt a_values bm x
    refine br_f (nI_ge (by omega) (by omega)) ?_
    rw [jn_81, nI_clamp (n := s * 81 + P.length) (by omega), er]
    refine ⟨vp_in_nI (by omega) (by decide), jx_key hV h4 hx1 hx2 hbm ?_⟩
    refine ⟨vp_in_nI (by omega) (by decide), nm_r (jn_up rfl (by omega)) ?_⟩
    rw [nI_clamp (by omega), pk_us, nI_clamp (by omega)]
    refine ⟨vp_in_nI (by omega) (by decide), vp_in_nI (by omega) (by decide), vp_in_nI (by omega) (by decide), nm_e (nm_r (nI_1 _) (ih (upd ks P.length (nI (jr_kv a_values bm x)), _) ⟨?_, ?_⟩))⟩
    · rw [List.map_append]
      refine jr_sl_snoc (jr_sl_fr _ _ (fun i a b => pk_un ?_) h1) ?_
      · rw [List.length_map] at b
        omega
      · rw [List.length_map, Nat.zero_add]
        exact pk_us
    · intro j hj
      show upd gs (jr_kv a_values bm x) (gs (jr_kv a_values bm x) + 1) j = _
      rw [jr_fk_app, List.length_append]
      by_cases ej : j = jr_kv a_values bm x
      · subst ej
        rw [pk_us, h2 _ (by omega), nI_1, jr_fk_y (Q := []) rfl]
        rfl
      · rw [pk_un ej, jr_fk_n (Q := []) (fun z => ej z.symm), h2 j hj]
        rfl
theorem jx_group {post : SX → Prop} {s bm : Nat} {rc : Nat → Nat} {cells : Nat → Int32} {R : List Nat} (hs : s < 11) (hR : jr_HS a_slotRows a_slotCount s R) (hV : jr_VV rc a_values cells) (h4 : ∀ r, rc r ≤ 4)
    (hok : ∀ x, x ∈ R → (∀ r, r < 6 → jr_dg x r ≤ rc r) ∧ x < 2 ^ 31) (hbm : bm < 2 ^ 31)
    (k : ∀ ks gr gs gh, jr_GR (jr_kv a_values bm) R gs gr → (∀ c, c < 110 → gh c = 0) → post (f_nullKey, f_maxRows, f_n, f_rowLimit, f_rowTotal, f_entryCount, f_usedRels, f_opCount, f_optimised, f_initialCost, f_resultRows, a_rowCount, a_values, a_entryRels, a_entryVisible, a_estimates, a_opKind, a_opLeftAttrs, a_opRightAttrs, a_opDivisor, a_opLeftRels, a_opRightRels, a_sideSet, a_eligible, a_opsIn, a_bestCost, a_planCount, a_rootOf, a_leftPart, a_nodeAt, a_slotRows, a_slotCount, ks, gr, gs, gh, a_result)) :
    wpX_groupRows post (f_nullKey, f_maxRows, f_n, f_rowLimit, f_rowTotal, f_entryCount, f_usedRels, f_opCount, f_optimised, f_initialCost, f_resultRows, a_rowCount, a_values, a_entryRels, a_entryVisible, a_estimates, a_opKind, a_opLeftAttrs, a_opRightAttrs, a_opDivisor, a_opLeftRels, a_opRightRels, a_sideSet, a_eligible, a_opsIn, a_bestCost, a_planCount, a_rootOf, a_leftPart, a_nodeAt, a_slotRows, a_slotCount, a_keys, a_grouped, a_groupStart, a_groupHit, a_result) (nI s) (nI bm) := by
  refine ⟨vp_in_nI hs (by decide), nm_r (e' := nI R.length) ((jn_at rfl (by omega)).trans hR.1) ?_⟩
  refine loop_0 (fun n i (st : (Nat → Int32) × (Nat → Int32)) => wX_groupRows_10 post (nI s) (nI bm) (nI R.length) f_nullKey f_maxRows f_n f_rowLimit f_rowTotal f_entryCount f_usedRels f_opCount f_optimised f_initialCost f_resultRows n (nI i) a_rowCount a_values a_entryRels a_entryVisible a_estimates a_opKind a_opLeftAttrs a_opRightAttrs a_opDivisor a_opLeftRels a_opRightRels a_sideSet a_eligible a_opsIn a_bestCost a_planCount a_rootOf a_leftPart a_nodeAt a_slotRows a_slotCount a_keys a_grouped (st.1) (st.2) a_result)
    (fun i st => ∀ j, j < i → st.1 j = 0 ∧ st.2 j = 0) 110 (a_groupStart, a_groupHit) (fun j hj => absurd hj (by omega)) ?_ ?_
  · rintro n ⟨gs, gh⟩ h
    refine br_t jn_gt109 (nm_e (jx_gr50 hs hR hV h4 hok hbm ?_ (fun ks gr gs' hG => k ks gr gs' gh hG fun c hc => (h c hc).2)))
    intro j hj
    by_cases e : j = 110
    · subst e
      exact pk_us
    · rw [pk_un e]
      exact (h j (by omega)).1
  · rintro n i ⟨gs, gh⟩ hi h ih
    refine br_f (nI_nlt (a := 109) (by omega) (by decide)) ⟨vp_in_nI (by omega) (by decide), nm_r (jn_up rfl (by omega)) ⟨vp_in_nI (by omega) (by decide), nm_r (jn_up rfl (by omega)) (nm_r (nI_1 i) (ih (upd gs i 0, upd gh i (vp_nar .boolean 0)) ?_))⟩⟩
    intro j hj
    by_cases e : j = i
    · subst e
      exact ⟨pk_us, pk_us.trans jn_b0⟩
    · exact ⟨(pk_un e).trans (h j (by omega)).1, (pk_un e).trans (h j (by omega)).2⟩
end
end
section
/-! ===== probing the groups ===== -/
section
variable {kl kr : Nat → Nat} {ns : Bool} {R : List Nat} {x : Nat}
theorem jr_mt_y (h : kl x ≠ 109 ∨ ns = true) : R.filter (jr_mt kl kr ns x) = jr_fk kr (kl x) R := by
  refine List.filter_congr fun r _ => ?_
  unfold jr_mt
  rw [show (!decide (kl x = 109) || ns) = true from by
    rcases h with z | z
    · rw [decide_eq_false z]; rfl
    · rw [z, Bool.or_true], Bool.and_true]
  by_cases e : kl x = kr r
  · rw [decide_eq_true e, decide_eq_true e.symm]
  · rw [decide_eq_false e, decide_eq_false (fun z => e z.symm)]
theorem jr_any_n (h : kl x = 109) (hn : ns = false) : R.any (jr_mt kl kr ns x) = false := by
  rw [Bool.eq_false_iff]
  intro z
  obtain ⟨r, _, hr⟩ := List.any_eq_true.mp z
  unfold jr_mt at hr
  rw [h, hn, Bool.and_eq_true] at hr
  exact absurd hr.2 (by decide)
theorem jr_any_y (h : kl x ≠ 109 ∨ ns = true) : R.any (jr_mt kl kr ns x) = true ↔ 0 < (jr_fk kr (kl x) R).length := by
  rw [← jr_mt_y (kl := kl) (kr := kr) (ns := ns) (R := R) h, List.any_eq_true, List.length_pos_iff_exists_mem]
  exact ⟨fun ⟨a, b, c⟩ => ⟨a, List.mem_filter.mpr ⟨b, c⟩⟩, fun ⟨a, b⟩ => ⟨a, (List.mem_filter.mp b).1, (List.mem_filter.mp b).2⟩⟩
end
section
variable {f_nullKey f_maxRows f_n f_rowLimit f_rowTotal f_entryCount f_usedRels f_opCount f_optimised f_initialCost f_resultRows : Int32} {a_rowCount a_values a_entryRels a_entryVisible a_estimates a_opKind a_opLeftAttrs a_opRightAttrs a_opDivisor a_opLeftRels a_opRightRels a_sideSet a_eligible a_opsIn a_bestCost a_planCount a_rootOf a_leftPart a_nodeAt a_slotRows a_slotCount a_keys a_grouped a_groupStart a_groupHit a_result : Nat → Int32}
theorem jx_p137 {post : SX → Prop} {op x to fr : Nat} {G P : List Nat} (hop : op < 5) (hP : jr_HS a_slotRows a_slotCount (6 + op) P) (hG : jr_sl a_grouped fr G) (hto : to = fr + G.length) (h81 : to ≤ 81) (hlen : P.length + G.length ≤ 81)
    (k : ∀ rows cnt, jr_fr (6 + op) a_slotRows a_slotCount rows cnt → jr_HS rows cnt (6 + op) (P ++ G.map (fun r => x ||| r)) → post (f_nullKey, f_maxRows, f_n, f_rowLimit, f_rowTotal, f_entryCount, f_usedRels, f_opCount, f_optimised, f_initialCost, f_resultRows, a_rowCount, a_values, a_entryRels, a_entryVisible, a_estimates, a_opKind, a_opLeftAttrs, a_opRightAttrs, a_opDivisor, a_opLeftRels, a_opRightRels, a_sideSet, a_eligible, a_opsIn, a_bestCost, a_planCount, a_rootOf, a_leftPart, a_nodeAt, rows, cnt, a_keys, a_grouped, a_groupStart, a_groupHit, a_result)) :
    ∃ n, wX_probe_137 post (nI op) (nI x) (nI to) n (nI fr) f_nullKey f_maxRows f_n f_rowLimit f_rowTotal f_entryCount f_usedRels f_opCount f_optimised f_initialCost f_resultRows a_rowCount a_values a_entryRels a_entryVisible a_estimates a_opKind a_opLeftAttrs a_opRightAttrs a_opDivisor a_opLeftRels a_opRightRels a_sideSet a_eligible a_opsIn a_bestCost a_planCount a_rootOf a_leftPart a_nodeAt a_slotRows a_slotCount a_keys a_grouped a_groupStart a_groupHit a_result := by
  refine jr_lw0 (fun n i (st : (Nat → Int32) × (Nat → Int32)) => wX_probe_137 post (nI op) (nI x) (nI to) n (nI (fr + i)) f_nullKey f_maxRows f_n f_rowLimit f_rowTotal f_entryCount f_usedRels f_opCount f_optimised f_initialCost f_resultRows a_rowCount a_values a_entryRels a_entryVisible a_estimates a_opKind a_opLeftAttrs a_opRightAttrs a_opDivisor a_opLeftRels a_opRightRels a_sideSet a_eligible a_opsIn a_bestCost a_planCount a_rootOf a_leftPart a_nodeAt (st.1) (st.2) a_keys a_grouped a_groupStart a_groupHit a_result) G
    (fun P' st => jr_HS st.1 st.2 (6 + op) (P ++ P'.map (fun r => x ||| r)) ∧ jr_fr (6 + op) a_slotRows a_slotCount st.1 st.2) (a_slotRows, a_slotCount) ⟨by rw [List.map_nil, List.append_nil]; exact hP, jr_fr_rfl⟩ ?_ ?_
  · rintro n ⟨rows, cnt⟩ ⟨h1, h2⟩
    refine br_t (nI_le (by omega) (by omega)) (k rows cnt h2 h1)
  · rintro n P' y Q ⟨rows, cnt⟩ e ⟨h1, h2⟩ ih
    have hl : P'.length + (Q.length + 1) = G.length := by rw [e, List.length_append]; rfl
    have ey : a_grouped (fr + P'.length) = nI y := by
      rw [e] at hG
      exact jr_sl_1 hG
    have e6 : (6 : Int32) + nI op = nI (6 + op) := nI_add 6 op
    refine br_f (nI_ge (by omega) (by omega)) ⟨vp_in_nI (by omega) (by decide), ?_⟩
    rw [nI_clamp (by omega), ey, ja_or, e6]
    have hll : (P ++ P'.map (fun r => x ||| r)).length < 81 := by rw [List.length_append, List.length_map]; omega
    refine jx_app (by omega) h1 hll ?_
    refine nm_r (e' := nI (fr + (P'.length + 1))) (nI_1 _) (ih (_, _) ⟨?_, jr_fr_tr h2 (jr_app_fr hll)⟩)
    rw [List.map_append, ← List.append_assoc]
    exact jr_app_HS h1 hll
theorem jx_probe {post : SX → Prop} {op x kd am bm : Nat} {rc : Nat → Nat} {cells : Nat → Int32} {R P : List Nat} (hop : op < 5) (ekd : a_opKind op = nI kd) (hkd : kd < 10) (eam : a_opLeftAttrs op = nI am) (ham : am < 2 ^ 31)
    (hV : jr_VV rc a_values cells) (h4 : ∀ r, rc r ≤ 4) (hx : ∀ r, r < 6 → jr_dg x r ≤ rc r) (hx31 : x < 2 ^ 31) (hG : jr_GR (jr_kv a_values bm) R a_groupStart a_grouped) (hR81 : R.length ≤ 81)
    (hP : jr_HS a_slotRows a_slotCount (6 + op) P) (hlen : (P ++ jr_J (kd % 5) (jr_mt (jr_kv a_values am) (jr_kv a_values bm) (decide (5 ≤ kd))) R x).length ≤ 81)
    (k : ∀ rows cnt gh, jr_fr (6 + op) a_slotRows a_slotCount rows cnt → jr_HS rows cnt (6 + op) (P ++ jr_J (kd % 5) (jr_mt (jr_kv a_values am) (jr_kv a_values bm) (decide (5 ≤ kd))) R x) →
      (∀ c, gh c = if c = jr_kv a_values am x ∧ R.any (jr_mt (jr_kv a_values am) (jr_kv a_values bm) (decide (5 ≤ kd)) x) = true then 1 else a_groupHit c) → post (f_nullKey, f_maxRows, f_n, f_rowLimit, f_rowTotal, f_entryCount, f_usedRels, f_opCount, f_optimised, f_initialCost, f_resultRows, a_rowCount, a_values, a_entryRels, a_entryVisible, a_estimates, a_opKind, a_opLeftAttrs, a_opRightAttrs, a_opDivisor, a_opLeftRels, a_opRightRels, a_sideSet, a_eligible, a_opsIn, a_bestCost, a_planCount, a_rootOf, a_leftPart, a_nodeAt, rows, cnt, a_keys, a_grouped, a_groupStart, gh, a_result)) :
    wpX_probe post (f_nullKey, f_maxRows, f_n, f_rowLimit, f_rowTotal, f_entryCount, f_usedRels, f_opCount, f_optimised, f_initialCost, f_resultRows, a_rowCount, a_values, a_entryRels, a_entryVisible, a_estimates, a_opKind, a_opLeftAttrs, a_opRightAttrs, a_opDivisor, a_opLeftRels, a_opRightRels, a_sideSet, a_eligible, a_opsIn, a_bestCost, a_planCount, a_rootOf, a_leftPart, a_nodeAt, a_slotRows, a_slotCount, a_keys, a_grouped, a_groupStart, a_groupHit, a_result) (nI op) (nI x) := by
  have hk1 := jr_kv_lt a_values am x
  have e6 : (6 : Int32) + nI op = nI (6 + op) := nI_add 6 op
  have e5 : nI kd - nI kd / 5 * 5 = nI (kd % 5) := pk_rem (d := 5) (by omega) (by decide) (by decide)
  have k5 : kd % 5 < 5 := Nat.mod_lt _ (by decide)
  have hlk := jr_lk_s (kr := jr_kv a_values bm) (R := R) (jr_kv a_values am x)
  have hl1 := jr_lk_le (kr := jr_kv a_values bm) (R := R) (jr_kv a_values am x)
  have hl2 := jr_lk_le (kr := jr_kv a_values bm) (R := R) (jr_kv a_values am x + 1)
  have hsl := hG.2 _ hk1
  have g1 := hG.1 (jr_kv a_values am x) (by omega)
  have g2 := hG.1 (jr_kv a_values am x + 1) (by omega)
  -- not found
  have c0 : R.any (jr_mt (jr_kv a_values am) (jr_kv a_values bm) (decide (5 ≤ kd)) x) = false → ∀ y1 y2 : Int32, wX_probe_70 post (nI op) (nI x) (nI (kd % 5)) (nI (jr_kv a_values am x)) y1 y2 f_nullKey f_maxRows f_n f_rowLimit f_rowTotal f_entryCount f_usedRels f_opCount f_optimised f_initialCost f_resultRows a_rowCount a_values a_entryRels a_entryVisible a_estimates a_opKind a_opLeftAttrs a_opRightAttrs a_opDivisor a_opLeftRels a_opRightRels a_sideSet a_eligible a_opsIn a_bestCost a_planCount a_rootOf a_leftPart a_nodeAt a_slotRows a_slotCount a_keys a_grouped a_groupStart a_groupHit a_result := by
    intro hf y1 y2
    unfold jr_J at hlen k
    rw [hf] at k hlen
    have hgh : ∀ c, a_groupHit c = if c = jr_kv a_values am x ∧ false = true then 1 else a_groupHit c := fun c => (if_neg (fun z => absurd z.2 (by decide))).symm
    have ap : (kd % 5 = 1 ∨ kd % 5 = 2 ∨ kd % 5 = 4) → wX_probe_93 post (nI op) (nI x) f_nullKey f_maxRows f_n f_rowLimit f_rowTotal f_entryCount f_usedRels f_opCount f_optimised f_initialCost f_resultRows a_rowCount a_values a_entryRels a_entryVisible a_estimates a_opKind a_opLeftAttrs a_opRightAttrs a_opDivisor a_opLeftRels a_opRightRels a_sideSet a_eligible a_opsIn a_bestCost a_planCount a_rootOf a_leftPart a_nodeAt a_slotRows a_slotCount a_keys a_grouped a_groupStart a_groupHit a_result := by
      intro h
      rw [if_neg (by decide), if_pos h] at k hlen
      have hll : P.length < 81 := by rw [List.length_append] at hlen; exact hlen
      unfold wX_probe_93
      rw [e6]
      exact jx_app (by omega) hP hll (k _ _ _ (jr_app_fr hll) (jr_app_HS hP hll) hgh)
    refine br_t rfl ?_
    refine pk_eq (kd % 5) 1 (fun h => ap (Or.inl h)) (fun h1 => ?_)
    refine pk_eq (kd % 5) 2 (fun h => ap (Or.inr (Or.inl h))) (fun h2 => ?_)
    refine pk_eq (kd % 5) 4 (fun h => ap (Or.inr (Or.inr h))) (fun h4 => ?_)
    rw [if_neg (by decide), if_neg (by omega), List.append_nil] at k
    exact k _ _ _ jr_fr_rfl hP hgh
  -- found
  have c1 : (jr_kv a_values am x ≠ 109 ∨ decide (5 ≤ kd) = true) → 0 < (jr_fk (jr_kv a_values bm) (jr_kv a_values am x) R).length →
      wX_probe_66 post (nI op) (nI x) (nI (kd % 5)) (nI (jr_kv a_values am x)) (nI (jr_lk (jr_kv a_values bm) R (jr_kv a_values am x))) (nI (jr_lk (jr_kv a_values bm) R (jr_kv a_values am x + 1))) f_nullKey f_maxRows f_n f_rowLimit f_rowTotal f_entryCount f_usedRels f_opCount f_optimised f_initialCost f_resultRows a_rowCount a_values a_entryRels a_entryVisible a_estimates a_opKind a_opLeftAttrs a_opRightAttrs a_opDivisor a_opLeftRels a_opRightRels a_sideSet a_eligible a_opsIn a_bestCost a_planCount a_rootOf a_leftPart a_nodeAt a_slotRows a_slotCount a_keys a_grouped a_groupStart a_groupHit a_result := by
    intro hn h0
    have hf := (jr_any_y (kl := jr_kv a_values am) (kr := jr_kv a_values bm) (R := R) hn).mpr h0
    unfold jr_J at hlen k
    rw [hf, if_pos rfl, jr_mt_y hn] at k hlen
    have hgh : ∀ c, upd a_groupHit (jr_kv a_values am x) 1 c = if c = jr_kv a_values am x ∧ true = true then 1 else a_groupHit c := by
      intro c
      by_cases e : c = jr_kv a_values am x
      · rw [e, pk_us, if_pos ⟨rfl, rfl⟩]
      · rw [pk_un e, if_neg (fun z => e z.1)]
    refine br_f (by decide) ⟨vp_in_nI (by omega) (by decide), nm_r (e' := upd a_groupHit (jr_kv a_values am x) 1) (jn_up rfl (by omega)) ?_⟩
    refine pk_eq (kd % 5) 3 (fun h => ?_) (fun h3 => ?_)
    · rw [if_pos h] at k hlen
      have hll : P.length < 81 := by rw [List.length_append] at hlen; exact hlen
      rw [e6]
      exact jx_app (by omega) hP hll (k _ _ _ (jr_app_fr hll) (jr_app_HS hP hll) hgh)
    · refine pk_eq (kd % 5) 4 (fun h => ?_) (fun h4' => ?_)
      · rw [if_neg h3, if_pos h, List.append_nil] at k
        exact k _ _ _ jr_fr_rfl hP hgh
      · rw [if_neg h3, if_neg h4'] at k hlen
        rw [List.length_append, List.length_map] at hlen
        exact jx_p137 hop hP hsl hlk (by omega) hlen (fun rows cnt a b => k rows cnt _ a b hgh)
  unfold wpX_probe
  dsimp only
  rw [nI_clamp (by omega), ekd, eam, e5]
  refine ⟨vp_in_nI hop (by decide), by decide, nm_e ⟨vp_in_nI hop (by decide), ?_⟩⟩
  refine jx_key hV h4 hx hx31 ham ?_
  rw [show nI (jr_kv a_values am x) + 1 = nI (jr_kv a_values am x + 1) from nI_1 _, nI_clamp (by omega), nI_clamp (by omega), g1, g2]
  refine ⟨vp_in_nI (by omega) (by decide), nm_e ⟨vp_in_nI (by omega) (by decide), nm_e ?_⟩⟩
  refine pk_le _ _ (fun h => ?_) (fun h => ?_) rfl rfl (by omega) (by omega)
  · apply c0
    by_cases hn : jr_kv a_values am x ≠ 109 ∨ decide (5 ≤ kd) = true
    · rw [Bool.eq_false_iff]
      intro z
      have := (jr_any_y (kl := jr_kv a_values am) (kr := jr_kv a_values bm) (R := R) hn).mp z
      omega
    · refine jr_any_n (Classical.byContradiction fun z => hn (Or.inl z)) ?_
      cases z : decide (5 ≤ kd)
      · rfl
      · exact absurd (Or.inr z) hn
  · refine pk_eq (jr_kv a_values am x) 109 (fun h9 => ⟨vp_in_nI hop (by decide), ?_⟩) (fun h9 => c1 (Or.inl h9) (by omega))
    refine pk_lt kd 5 (fun h5 => ?_) (fun h5 => c1 (Or.inr (decide_eq_true h5)) (by omega))
    exact c0 (jr_any_n h9 (decide_eq_false (by omega))) _ _
end
end
section
/-! ===== one operator, component's side ===== -/
theorem jr_hit_app {kl kr : Nat → Nat} {ns : Bool} {R P : List Nat} {x c : Nat} :
    (jr_hit kl kr ns (P ++ [x]) R c = true) ↔ (jr_hit kl kr ns P R c = true ∨ (c = kl x ∧ R.any (jr_mt kl kr ns x) = true)) := by
  unfold jr_hit
  rw [List.any_append, Bool.or_eq_true, List.any_cons, List.any_nil, Bool.or_false, Bool.and_eq_true, decide_eq_true_eq]
  constructor
  · rintro (h | h)
    · exact Or.inl h
    · exact Or.inr ⟨h.1.symm, h.2⟩
  · rintro (h | h)
    · exact Or.inl h
    · exact Or.inr ⟨h.1.symm, h.2⟩
theorem jr_UX_len {kl kr : Nat → Nat} {ns : Bool} {L R : List Nat} (c : Nat) : ∀ d, (jr_UX kl kr ns L R c).length ≤ (jr_UX kl kr ns L R (c + d)).length := by
  intro d
  induction d with
  | zero => exact Nat.le_refl _
  | succ d ih =>
    show _ ≤ (jr_UX kl kr ns L R (c + d) ++ _).length
    rw [List.length_append]
    omega
section
variable {f_nullKey f_maxRows f_n f_rowLimit f_rowTotal f_entryCount f_usedRels f_opCount f_optimised f_initialCost f_resultRows : Int32} {a_rowCount a_values a_entryRels a_entryVisible a_estimates a_opKind a_opLeftAttrs a_opRightAttrs a_opDivisor a_opLeftRels a_opRightRels a_sideSet a_eligible a_opsIn a_bestCost a_planCount a_rootOf a_leftPart a_nodeAt a_slotRows a_slotCount a_keys a_grouped a_groupStart a_groupHit a_result : Nat → Int32}
theorem jx_um24 {post : SX → Prop} {J : Int32 → Int32 → Int32 → Int32 → Int32 → Int32 → Int32 → Int32 → Int32 → Int32 → Int32 → Int32 → (Nat → Int32) → (Nat → Int32) → (Nat → Int32) → (Nat → Int32) → (Nat → Int32) → (Nat → Int32) → (Nat → Int32) → (Nat → Int32) → (Nat → Int32) → (Nat → Int32) → (Nat → Int32) → (Nat → Int32) → (Nat → Int32) → (Nat → Int32) → (Nat → Int32) → (Nat → Int32) → (Nat → Int32) → (Nat → Int32) → (Nat → Int32) → (Nat → Int32) → (Nat → Int32) → (Nat → Int32) → (Nat → Int32) → (Nat → Int32) → (Nat → Int32) → (Nat → Int32) → Prop} {op c : Nat} {R P : List Nat} {kr : Nat → Nat} (hop : op < 5) (hc : c < 110) (hG : jr_GR kr R a_groupStart a_grouped) (hR81 : R.length ≤ 81)
    (hP : jr_HS a_slotRows a_slotCount (6 + op) P) (hlen : P.length + (jr_fk kr c R).length ≤ 81)
    (k : ∀ rows cnt, jr_fr (6 + op) a_slotRows a_slotCount rows cnt → jr_HS rows cnt (6 + op) (P ++ jr_fk kr c R) → J (nI (c + 1)) f_nullKey f_maxRows f_n f_rowLimit f_rowTotal f_entryCount f_usedRels f_opCount f_optimised f_initialCost f_resultRows a_rowCount a_values a_entryRels a_entryVisible a_estimates a_opKind a_opLeftAttrs a_opRightAttrs a_opDivisor a_opLeftRels a_opRightRels a_sideSet a_eligible a_opsIn a_bestCost a_planCount a_rootOf a_leftPart a_nodeAt (rows) (cnt) a_keys a_grouped a_groupStart a_groupHit a_result) :
    ∃ n, wX_appendUnmatched_24 post J (nI (6 + op)) (nI c) n (nI (jr_lk kr R c)) f_nullKey f_maxRows f_n f_rowLimit f_rowTotal f_entryCount f_usedRels f_opCount f_optimised f_initialCost f_resultRows a_rowCount a_values a_entryRels a_entryVisible a_estimates a_opKind a_opLeftAttrs a_opRightAttrs a_opDivisor a_opLeftRels a_opRightRels a_sideSet a_eligible a_opsIn a_bestCost a_planCount a_rootOf a_leftPart a_nodeAt a_slotRows a_slotCount a_keys a_grouped a_groupStart a_groupHit a_result := by
  have hlk := jr_lk_s (kr := kr) (R := R) c
  have hl2 := jr_lk_le (kr := kr) (R := R) (c + 1)
  have g2 := hG.1 (c + 1) (by omega)
  have hsl := hG.2 c hc
  have ec : nI c + 1 = nI (c + 1) := nI_1 c
  generalize hF : jr_fk kr c R = F at hlk hsl hlen k
  refine jr_lw0 (fun n i (st : (Nat → Int32) × (Nat → Int32)) => wX_appendUnmatched_24 post J (nI (6 + op)) (nI c) n (nI (jr_lk kr R c + i)) f_nullKey f_maxRows f_n f_rowLimit f_rowTotal f_entryCount f_usedRels f_opCount f_optimised f_initialCost f_resultRows a_rowCount a_values a_entryRels a_entryVisible a_estimates a_opKind a_opLeftAttrs a_opRightAttrs a_opDivisor a_opLeftRels a_opRightRels a_sideSet a_eligible a_opsIn a_bestCost a_planCount a_rootOf a_leftPart a_nodeAt (st.1) (st.2) a_keys a_grouped a_groupStart a_groupHit a_result) F
    (fun P' st => jr_HS st.1 st.2 (6 + op) (P ++ P') ∧ jr_fr (6 + op) a_slotRows a_slotCount st.1 st.2) (a_slotRows, a_slotCount) ⟨by rw [List.append_nil]; exact hP, jr_fr_rfl⟩ ?_ ?_
  · rintro n ⟨rows, cnt⟩ ⟨h1, h2⟩
    show vp_in _ _ ∧ _
    rw [ec, nI_clamp (by omega), g2]
    exact ⟨vp_in_nI (by omega) (by decide), br_t (nI_le (by omega) (by omega)) (nm_e (k rows cnt h2 h1))⟩
  · rintro n P' y Q ⟨rows, cnt⟩ e ⟨h1, h2⟩ ih
    have hl : P'.length + (Q.length + 1) = F.length := by rw [e, List.length_append]; rfl
    have ey : a_grouped (jr_lk kr R c + P'.length) = nI y := by
      rw [e] at hsl
      exact jr_sl_1 hsl
    have hll : (P ++ P').length < 81 := by rw [List.length_append]; omega
    show vp_in _ _ ∧ _
    rw [ec, nI_clamp (by omega), g2, nI_clamp (by omega), ey]
    refine ⟨vp_in_nI (by omega) (by decide), br_f (nI_ge (by omega) (by omega)) ⟨vp_in_nI (by omega) (by decide), ?_⟩⟩
    refine jx_app (by omega) h1 hll ?_
    refine nm_r (e' := nI (jr_lk kr R c + (P'.length + 1))) (nI_1 _) (ih (_, _) ⟨?_, jr_fr_tr h2 (jr_app_fr hll)⟩)
    rw [← List.append_assoc]
    exact jr_app_HS h1 hll
theorem jx_um {post : SX → Prop} {op : Nat} {L R P : List Nat} {kl kr : Nat → Nat} {ns : Bool} (hop : op < 5) (hG : jr_GR kr R a_groupStart a_grouped) (hR81 : R.length ≤ 81)
    (hgh : ∀ c, c < 110 → a_groupHit c = if jr_hit kl kr ns L R c = true then 1 else 0)
    (hP : jr_HS a_slotRows a_slotCount (6 + op) P) (hlen : P.length + (jr_UX kl kr ns L R 110).length ≤ 81)
    (k : ∀ rows cnt, jr_fr (6 + op) a_slotRows a_slotCount rows cnt → jr_HS rows cnt (6 + op) (P ++ jr_UX kl kr ns L R 110) → post (f_nullKey, f_maxRows, f_n, f_rowLimit, f_rowTotal, f_entryCount, f_usedRels, f_opCount, f_optimised, f_initialCost, f_resultRows, a_rowCount, a_values, a_entryRels, a_entryVisible, a_estimates, a_opKind, a_opLeftAttrs, a_opRightAttrs, a_opDivisor, a_opLeftRels, a_opRightRels, a_sideSet, a_eligible, a_opsIn, a_bestCost, a_planCount, a_rootOf, a_leftPart, a_nodeAt, rows, cnt, a_keys, a_grouped, a_groupStart, a_groupHit, a_result)) :
    wpX_appendUnmatched post (f_nullKey, f_maxRows, f_n, f_rowLimit, f_rowTotal, f_entryCount, f_usedRels, f_opCount, f_optimised, f_initialCost, f_resultRows, a_rowCount, a_values, a_entryRels, a_entryVisible, a_estimates, a_opKind, a_opLeftAttrs, a_opRightAttrs, a_opDivisor, a_opLeftRels, a_opRightRels, a_sideSet, a_eligible, a_opsIn, a_bestCost, a_planCount, a_rootOf, a_leftPart, a_nodeAt, a_slotRows, a_slotCount, a_keys, a_grouped, a_groupStart, a_groupHit, a_result) (nI (6 + op)) := by
  refine loop_0 (fun n i (st : (Nat → Int32) × (Nat → Int32)) => wX_appendUnmatched_2 post (nI (6 + op)) n (nI i) f_nullKey f_maxRows f_n f_rowLimit f_rowTotal f_entryCount f_usedRels f_opCount f_optimised f_initialCost f_resultRows a_rowCount a_values a_entryRels a_entryVisible a_estimates a_opKind a_opLeftAttrs a_opRightAttrs a_opDivisor a_opLeftRels a_opRightRels a_sideSet a_eligible a_opsIn a_bestCost a_planCount a_rootOf a_leftPart a_nodeAt (st.1) (st.2) a_keys a_grouped a_groupStart a_groupHit a_result)
    (fun i st => jr_HS st.1 st.2 (6 + op) (P ++ jr_UX kl kr ns L R i) ∧ jr_fr (6 + op) a_slotRows a_slotCount st.1 st.2) 110 (a_slotRows, a_slotCount) ⟨by show jr_HS _ _ _ (P ++ []); rw [List.append_nil]; exact hP, jr_fr_rfl⟩ ?_ ?_
  · rintro n ⟨rows, cnt⟩ ⟨h1, h2⟩
    exact br_t jn_gt109 (k rows cnt h2 h1)
  · rintro n i ⟨rows, cnt⟩ hi ⟨h1, h2⟩ ih
    have hm := jr_UX_len (kl := kl) (kr := kr) (ns := ns) (L := L) (R := R) (i + 1) (110 - (i + 1))
    rw [show i + 1 + (110 - (i + 1)) = 110 from by omega] at hm
    have hs : jr_UX kl kr ns L R (i + 1) = jr_UX kl kr ns L R i ++ (if jr_hit kl kr ns L R i = true then [] else jr_fk kr i R) := rfl
    have g1 := hG.1 i (by omega)
    refine br_f (nI_nlt (a := 109) (by omega) (by decide)) ⟨vp_in_nI (by omega) (by decide), ?_⟩
    rw [nI_clamp (by omega), hgh i hi, g1]
    by_cases h : jr_hit kl kr ns L R i = true
    · rw [if_pos h]
      rw [if_pos h, List.append_nil] at hs
      refine br_f (by decide) (nm_r (nI_1 i) (ih (rows, cnt) ⟨?_, h2⟩))
      rw [hs]
      exact h1
    · rw [if_neg h]
      rw [if_neg h] at hs
      refine br_t rfl ⟨vp_in_nI (by omega) (by decide), nm_e ?_⟩
      rw [hs, List.length_append] at hm
      refine jx_um24 hop hi hG hR81 h1 (by rw [List.length_append]; omega) ?_
      intro rows' cnt' a b
      refine ih (rows', cnt') ⟨?_, jr_fr_tr h2 a⟩
      rw [hs, ← List.append_assoc]
      exact b
theorem jx_ex61 {post : SX → Prop} {op sl kd am bm : Nat} {rc : Nat → Nat} {cells : Nat → Int32} {L R : List Nat} (hop : op < 5) (hsl : sl < 11) (hne : sl ≠ 6 + op) (ekd : a_opKind op = nI kd) (hkd : kd < 10) (eam : a_opLeftAttrs op = nI am) (ham : am < 2 ^ 31)
    (hV : jr_VV rc a_values cells) (h4 : ∀ r, rc r ≤ 4) (hok : ∀ x, x ∈ L → (∀ r, r < 6 → jr_dg x r ≤ rc r) ∧ x < 2 ^ 31) (hG : jr_GR (jr_kv a_values bm) R a_groupStart a_grouped) (hR81 : R.length ≤ 81)
    (hL : jr_HS a_slotRows a_slotCount sl L) (h0 : jr_HS a_slotRows a_slotCount (6 + op) []) (hgh : ∀ c, c < 110 → a_groupHit c = 0)
    (hlen : (jr_OX (kd % 5) (jr_kv a_values am) (jr_kv a_values bm) (decide (5 ≤ kd)) L R).length ≤ 81)
    (k : ∀ rows cnt gh, jr_fr (6 + op) a_slotRows a_slotCount rows cnt → jr_HS rows cnt (6 + op) (jr_OX (kd % 5) (jr_kv a_values am) (jr_kv a_values bm) (decide (5 ≤ kd)) L R) → post (f_nullKey, f_maxRows, f_n, f_rowLimit, f_rowTotal, f_entryCount, f_usedRels, f_opCount, f_optimised, f_initialCost, f_resultRows, a_rowCount, a_values, a_entryRels, a_entryVisible, a_estimates, a_opKind, a_opLeftAttrs, a_opRightAttrs, a_opDivisor, a_opLeftRels, a_opRightRels, a_sideSet, a_eligible, a_opsIn, a_bestCost, a_planCount, a_rootOf, a_leftPart, a_nodeAt, rows, cnt, a_keys, a_grouped, a_groupStart, gh, a_result)) :
    ∃ n, wX_execute_61 post (nI op) (nI sl) n 0 f_nullKey f_maxRows f_n f_rowLimit f_rowTotal f_entryCount f_usedRels f_opCount f_optimised f_initialCost f_resultRows a_rowCount a_values a_entryRels a_entryVisible a_estimates a_opKind a_opLeftAttrs a_opRightAttrs a_opDivisor a_opLeftRels a_opRightRels a_sideSet a_eligible a_opsIn a_bestCost a_planCount a_rootOf a_leftPart a_nodeAt a_slotRows a_slotCount a_keys a_grouped a_groupStart a_groupHit a_result := by
  have e6 : (6 : Int32) + nI op = nI (6 + op) := nI_add 6 op
  have e5 : nI kd - nI kd / 5 * 5 = nI (kd % 5) := pk_rem (d := 5) (by omega) (by decide) (by decide)
  have k5 : kd % 5 < 5 := Nat.mod_lt _ (by decide)
  have hL81 := hL.2.1
  generalize hkl : jr_kv a_values am = kl at hlen k
  generalize hkr : jr_kv a_values bm = kr at hlen k hG
  generalize hns : decide (5 ≤ kd) = ns at hlen k
  unfold jr_OX at hlen k
  rw [List.length_append] at hlen
  refine jr_lw0 (fun n i (st : (Nat → Int32) × (Nat → Int32) × (Nat → Int32)) => wX_execute_61 post (nI op) (nI sl) n (nI i) f_nullKey f_maxRows f_n f_rowLimit f_rowTotal f_entryCount f_usedRels f_opCount f_optimised f_initialCost f_resultRows a_rowCount a_values a_entryRels a_entryVisible a_estimates a_opKind a_opLeftAttrs a_opRightAttrs a_opDivisor a_opLeftRels a_opRightRels a_sideSet a_eligible a_opsIn a_bestCost a_planCount a_rootOf a_leftPart a_nodeAt (st.1) (st.2.1) a_keys a_grouped a_groupStart (st.2.2) a_result) L
    (fun P st => jr_HS st.1 st.2.1 (6 + op) (P.flatMap (jr_J (kd % 5) (jr_mt kl kr ns) R)) ∧ jr_fr (6 + op) a_slotRows a_slotCount st.1 st.2.1 ∧ ∀ c, c < 110 → st.2.2 c = if jr_hit kl kr ns P R c = true then 1 else 0)
    (a_slotRows, a_slotCount, a_groupHit) ⟨h0, jr_fr_rfl, fun c hc => by show a_groupHit c = _; rw [hgh c hc]; rfl⟩ ?_ ?_
  · rintro n ⟨rows, cnt, gh⟩ ⟨h1, h2, h3⟩
    have hLs : jr_HS rows cnt sl L := jr_HS_fr h2 hne hL
    show vp_in _ _ ∧ _
    dsimp only
    rw [nI_clamp (n := sl) (by omega), nI_clamp (n := op) (by omega), hLs.1, ekd, e5, e6]
    refine ⟨vp_in_nI hsl (by decide), br_t (nI_le (Nat.le_refl _) (by omega)) ⟨vp_in_nI hop (by decide), by decide, ?_⟩⟩
    refine pk_eq (kd % 5) 2 (fun h => ?_) (fun h => ?_)
    · rw [if_pos h] at k hlen
      exact jx_um hop hG hR81 h3 h1 hlen (fun rows' cnt' a b => k rows' cnt' gh (jr_fr_tr h2 a) b)
    · rw [if_neg h, List.append_nil] at k
      exact k rows cnt gh h2 h1
  · rintro n P x Q ⟨rows, cnt, gh⟩ e ⟨h1, h2, h3⟩ ih
    have hLs : jr_HS rows cnt sl L := jr_HS_fr h2 hne hL
    have hl : P.length + (Q.length + 1) = L.length := by rw [e, List.length_append]; rfl
    obtain ⟨hx1, hx2⟩ := hok x (by rw [e]; exact List.mem_append.mpr (Or.inr List.mem_cons_self))
    have ex : rows (sl * 81 + P.length) = nI x := by
      have := hLs.2.2
      rw [e] at this
      exact jr_sl_1 this
    have ef : (P ++ [x]).flatMap (jr_J (kd % 5) (jr_mt kl kr ns) R) = P.flatMap (jr_J (kd % 5) (jr_mt kl kr ns) R) ++ jr_J (kd % 5) (jr_mt kl kr ns) R x := by
      rw [List.flatMap_append, List.flatMap_cons, List.flatMap_nil, List.append_nil]
    have hlx : (P.flatMap (jr_J (kd % 5) (jr_mt kl kr ns) R) ++ jr_J (kd % 5) (jr_mt kl kr ns) R x).length ≤ 81 := by
      rw [← ef]
      rw [e, show P ++ x :: Q = (P ++ [x]) ++ Q from by rw [List.append_assoc]; rfl, List.flatMap_append (xs := P ++ [x]), List.length_append] at hlen
      omega
    show vp_in _ _ ∧ _
    dsimp only
    rw [nI_clamp (n := sl) (by omega), hLs.1, jn_81, nI_clamp (n := sl * 81 + P.length) (by omega), ex]
    refine ⟨vp_in_nI hsl (by decide), br_f (nI_ge (by omega) (by omega)) ⟨vp_in_nI (by omega) (by decide), ?_⟩⟩
    subst hkl hkr hns
    refine jx_probe (bm := bm) (R := R) (rc := rc) (cells := cells) hop ekd hkd eam ham hV h4 hx1 hx2 hG hR81 h1 hlx ?_
    intro rows' cnt' gh' a b c
    refine nm_r (nI_1 _) (ih (rows', cnt', gh') ⟨?_, jr_fr_tr h2 a, ?_⟩)
    · rw [ef]
      exact b
    · intro j hj
      show gh' j = _
      rw [c j, show gh j = _ from h3 j hj]
      by_cases q1 : j = jr_kv a_values am x ∧ R.any (jr_mt (jr_kv a_values am) (jr_kv a_values bm) (decide (5 ≤ kd)) x) = true
      · rw [if_pos q1, if_pos (jr_hit_app.mpr (Or.inr q1))]
      · rw [if_neg q1]
        by_cases q2 : jr_hit (jr_kv a_values am) (jr_kv a_values bm) (decide (5 ≤ kd)) P R j = true
        · rw [if_pos q2, if_pos (jr_hit_app.mpr (Or.inl q2))]
        · rw [if_neg q2, if_neg (fun z => (jr_hit_app.mp z).elim q2 q1)]
end
end
section
/-! ===== rows of a whole tree; slots; leaves ===== -/
def jr_SX (m : Nat) (s kd la ra rc : Nat → Nat) (v : Nat → Int32) (t : Nat) (LX : Nat → List Nat) : Prop :=
  (∀ r, r < 6 → LX (2 ^ r) = jr_lf r (rc r)) ∧ ∀ i, i < m → jf_set s i < t → LX (jf_set s i) = jr_OX (kd i % 5) (jr_kv v (la i)) (jr_kv v (ra i)) (decide (5 ≤ kd i)) (LX (s (2 * i))) (LX (s (2 * i + 1)))
def jr_SY (n m : Nat) (s kd la ra rc : Nat → Nat) (v : Nat → Int32) (t : Nat) (LY : Nat → List Nat) : Prop :=
  (∀ r, r < n → LY (2 ^ r) = jr_lf r (rc r)) ∧ ∀ i, i < m → jf_set s i < t → LY (jf_set s i) = jr_OY (kd i % 5) (jr_mt (jr_kv v (la i)) (jr_kv v (ra i)) (decide (5 ≤ kd i))) (LY (s (2 * i))) (LY (s (2 * i + 1)))
theorem jr_OK_perm {T : Nat} {rc : Nat → Nat} {L L' : List Nat} (p : L.Perm L') (h : jr_OK T rc L) : jr_OK T rc L' :=
  ⟨p.nodup h.1, fun x hx => h.2.1 x (p.mem_iff.mpr hx), by rw [← p.length_eq]; exact h.2.2⟩
section
variable {n m U t : Nat} {s kd la ra rc : Nat → Nat} {v : Nat → Int32} {LX LY : Nat → List Nat}
theorem jr_TWs (h : jr_TW m U s) (hU : U < 64) {i : Nat} (hi : i < m) : ¬ ja_sg (jf_set s i) ∧ s (2 * i) < jf_set s i ∧ s (2 * i + 1) < jf_set s i ∧ jf_set s i < 64 ∧ jf_set s i ≠ 0 := by
  obtain ⟨n1, n2, d, c6, _⟩ := h.2.1 i hi
  obtain ⟨x, hx⟩ := ja_nz.mp n1
  obtain ⟨y, hy⟩ := ja_nz.mp n2
  have n3 : jf_set s i ≠ 0 := ja_nz.mpr ⟨x, ja_mo.mpr (Or.inl hx)⟩
  have hlt : jf_set s i < 64 := Nat.lt_of_le_of_lt (ja_sub_le c6) hU
  have l1 : s (2 * i) ≤ jf_set s i := ja_sub_le ja_or_l
  have l2 : s (2 * i + 1) ≤ jf_set s i := ja_sub_le ja_or_r
  refine ⟨?_, ?_, ?_, hlt, n3⟩
  · intro hg
    have h1 := (ja_sg_pc _ hlt n3).mp hg
    have h2 : ja_pc (jf_set s i) = ja_pc (s (2 * i)) + ja_pc (s (2 * i + 1)) := ja_pc_or d
    have := ja_pc_pos n1 (by omega)
    have := ja_pc_pos n2 (by omega)
    omega
  · rcases Nat.lt_or_ge (s (2 * i)) (jf_set s i) with z | z
    · exact z
    · have e : s (2 * i) = jf_set s i := by omega
      exact absurd (d y (by rw [e]; exact ja_mo.mpr (Or.inr hy)) hy) id
  · rcases Nat.lt_or_ge (s (2 * i + 1)) (jf_set s i) with z | z
    · exact z
    · have e : s (2 * i + 1) = jf_set s i := by omega
      exact absurd (d x hx (by rw [e]; exact ja_mo.mpr (Or.inl hx))) id
theorem jr_SX_OK (h : jr_TW m U s) (hU : U < 64) (h4 : ∀ r, rc r ≤ 4) (h12 : ja_sm rc 6 ≤ 12) (hS : jr_SX m s kd la ra rc v t LX) : ∀ T, jf_nd m s T → (T < t ∨ ja_sg T) → jr_OK T rc (LX T) := by
  intro T
  induction T using Nat.strongRecOn with
  | ind T ih =>
    rintro (⟨r, hr, e⟩ | ⟨i, hi, e⟩) ht
    · rw [e, hS.1 r hr]
      exact jr_lf_OK hr (h4 r)
    · obtain ⟨ng, l1, l2, _, _⟩ := jr_TWs h hU hi
      rw [e] at ht
      have ht' : jf_set s i < t := ht.elim id (fun z => absurd z ng)
      obtain ⟨n1, n2, d, c6, d1, d2⟩ := h.2.1 i hi
      rw [e, hS.2 i hi ht']
      have o1 := ih _ (by rw [e]; exact l1) d1 (Or.inl (by omega))
      have o2 := ih _ (by rw [e]; exact l2) d2 (Or.inl (by omega))
      exact jr_OK_perm (jr_XYp (jr_kv_lt v (ra i)) (List.Perm.refl _) (List.Perm.refl _)).symm (jr_OY_OK d h12 o1 o2)
theorem jr_SY_OK (h : jr_TW m U s) (hU : U < 64) (hn : n ≤ 6) (hUn : U < 2 ^ n) (h4 : ∀ r, rc r ≤ 4) (h12 : ja_sm rc 6 ≤ 12) (hS : jr_SY n m s kd la ra rc v t LY) : ∀ T, jf_nd m s T → ja_sub T U → (T < t ∨ ja_sg T) → jr_OK T rc (LY T) := by
  intro T
  induction T using Nat.strongRecOn with
  | ind T ih =>
    rintro (⟨r, hr, e⟩ | ⟨i, hi, e⟩) hT ht
    · rw [e] at hT ⊢
      rw [hS.1 r (ja_bd hUn (hT r (ja_m2.mpr rfl)))]
      exact jr_lf_OK hr (h4 r)
    · obtain ⟨ng, l1, l2, _, _⟩ := jr_TWs h hU hi
      rw [e] at ht
      have ht' : jf_set s i < t := ht.elim id (fun z => absurd z ng)
      obtain ⟨n1, n2, d, c6, d1, d2⟩ := h.2.1 i hi
      rw [e, hS.2 i hi ht']
      have o1 := ih _ (by rw [e]; exact l1) d1 (ja_sub_tr ja_or_l c6) (Or.inl (by omega))
      have o2 := ih _ (by rw [e]; exact l2) d2 (ja_sub_tr ja_or_r c6) (Or.inl (by omega))
      exact jr_OY_OK d h12 o1 o2
theorem jr_SXY (h : jr_TW m U s) (hU : U < 64) (hUn : U < 2 ^ n) (hX : jr_SX m s kd la ra rc v t LX) (hY : jr_SY n m s kd la ra rc v t LY) : ∀ T, jf_nd m s T → ja_sub T U → (T < t ∨ ja_sg T) → (LX T).Perm (LY T) := by
  intro T
  induction T using Nat.strongRecOn with
  | ind T ih =>
    rintro (⟨r, hr, e⟩ | ⟨i, hi, e⟩) hT ht
    · rw [e] at hT ⊢
      rw [hX.1 r hr, hY.1 r (ja_bd hUn (hT r (ja_m2.mpr rfl)))]
    · obtain ⟨ng, l1, l2, _, _⟩ := jr_TWs h hU hi
      rw [e] at ht
      have ht' : jf_set s i < t := ht.elim id (fun z => absurd z ng)
      obtain ⟨n1, n2, d, c6, d1, d2⟩ := h.2.1 i hi
      rw [e, hX.2 i hi ht', hY.2 i hi ht']
      exact jr_XYp (jr_kv_lt v (ra i)) (ih _ (by rw [e]; exact l1) d1 (ja_sub_tr ja_or_l c6) (Or.inl (by omega))) (ih _ (by rw [e]; exact l2) d2 (ja_sub_tr ja_or_r c6) (Or.inl (by omega)))
end
/-! slots -/
def jr_NA (m : Nat) (s : Nat → Nat) (w : Nat) (na : Nat → Int32) : Prop :=
  ∀ T, T ≠ 0 → T < 64 → (∀ i, i < m → jf_set s i = T → na (w * 64 + T) = nI i) ∧ ((∀ i, i < m → jf_set s i ≠ T) → na (w * 64 + T) = -1)
def jr_so (m : Nat) (s : Nat → Nat) (T sl : Nat) : Prop := (∃ r, r < 6 ∧ T = 2 ^ r ∧ sl = r) ∨ (∃ i, i < m ∧ T = jf_set s i ∧ sl = 6 + i)
theorem jr_so_of {m T : Nat} {s : Nat → Nat} (h : jf_nd m s T) : ∃ sl, jr_so m s T sl := by
  rcases h with ⟨r, hr, e⟩ | ⟨i, hi, e⟩
  · exact ⟨r, Or.inl ⟨r, hr, e, rfl⟩⟩
  · exact ⟨6 + i, Or.inr ⟨i, hi, e, rfl⟩⟩
theorem jn_64 (w i : Nat) : nI w * 64 + nI i = nI (w * 64 + i) := jn_ma w 64 i
section
variable {f_nullKey f_maxRows f_n f_rowLimit f_rowTotal f_entryCount f_usedRels f_opCount f_optimised f_initialCost f_resultRows : Int32} {a_rowCount a_values a_entryRels a_entryVisible a_estimates a_opKind a_opLeftAttrs a_opRightAttrs a_opDivisor a_opLeftRels a_opRightRels a_sideSet a_eligible a_opsIn a_bestCost a_planCount a_rootOf a_leftPart a_nodeAt a_slotRows a_slotCount a_keys a_grouped a_groupStart a_groupHit a_result : Nat → Int32}
theorem jx_slot {post : Int32 → Prop} {m U w T sl : Nat} {s : Nat → Nat} (h : jr_TW m U s) (hU : U < 64) (hw : w < 2) (hT : T < 64) (hT0 : T ≠ 0) (hN : jr_NA m s w a_nodeAt) (hs : jr_so m s T sl) (k : post (nI sl)) :
    wpX_slotOf post (f_nullKey, f_maxRows, f_n, f_rowLimit, f_rowTotal, f_entryCount, f_usedRels, f_opCount, f_optimised, f_initialCost, f_resultRows, a_rowCount, a_values, a_entryRels, a_entryVisible, a_estimates, a_opKind, a_opLeftAttrs, a_opRightAttrs, a_opDivisor, a_opLeftRels, a_opRightRels, a_sideSet, a_eligible, a_opsIn, a_bestCost, a_planCount, a_rootOf, a_leftPart, a_nodeAt, a_slotRows, a_slotCount, a_keys, a_grouped, a_groupStart, a_groupHit, a_result) (nI w) (nI T) := by
  refine loop_0 (fun n i (_ : Unit) => wX_slotOf_2 post (nI w) (nI T) f_nullKey f_maxRows f_n f_rowLimit f_rowTotal f_entryCount f_usedRels f_opCount f_optimised f_initialCost f_resultRows a_rowCount a_values a_entryRels a_entryVisible a_estimates a_opKind a_opLeftAttrs a_opRightAttrs a_opDivisor a_opLeftRels a_opRightRels a_sideSet a_eligible a_opsIn a_bestCost a_planCount a_rootOf a_leftPart a_nodeAt a_slotRows a_slotCount a_keys a_grouped a_groupStart a_groupHit a_result n (nI i)) (fun i _ => ∀ j, j < i → T ≠ 2 ^ j) 6 () (fun j hj => absurd hj (by omega)) ?_ ?_
  · rintro n _ hj
    refine br_t (by decide) ?_
    rcases hs with ⟨r, hr, e, _⟩ | ⟨i, hi, e, e2⟩
    · exact absurd e (hj r hr)
    · rw [jn_64, nI_clamp (by omega), (hN T hT0 hT).1 i hi e.symm, show (6 : Int32) + nI i = nI (6 + i) from nI_add 6 i, ← e2]
      exact ⟨vp_in_nI (by omega) (by decide), k⟩
  · rintro n i _ hi hj ih
    have p6 := ja_p64 i hi
    refine br_f (nI_ge (b := 6) hi (by decide)) ?_
    rw [ja_sh i (by omega)]
    refine pk_eq T (2 ^ i) (fun e => ?_) (fun e => nm_r (nI_1 i) (ih () fun j hj' => ?_))
    · rcases hs with ⟨r, hr, e1, e2⟩ | ⟨q, hq, e1, _⟩
      · have : r = i := by
          have h1 : (2 ^ r).testBit i = true := by rw [← e1, e]; exact ja_m2.mpr rfl
          exact ja_m2.mp h1
        rw [e2, this] at k
        exact k
      · exfalso
        have hg := ja_sg_two i hi
        rw [← e, e1] at hg
        exact (jr_TWs h hU hq).1 hg
    · by_cases z : j = i
      · rw [z]; exact e
      · exact hj j (by omega)
theorem jx_fl17 {post : SX → Prop} {J : Int32 → Int32 → Int32 → Int32 → Int32 → Int32 → Int32 → Int32 → Int32 → Int32 → Int32 → Int32 → (Nat → Int32) → (Nat → Int32) → (Nat → Int32) → (Nat → Int32) → (Nat → Int32) → (Nat → Int32) → (Nat → Int32) → (Nat → Int32) → (Nat → Int32) → (Nat → Int32) → (Nat → Int32) → (Nat → Int32) → (Nat → Int32) → (Nat → Int32) → (Nat → Int32) → (Nat → Int32) → (Nat → Int32) → (Nat → Int32) → (Nat → Int32) → (Nat → Int32) → (Nat → Int32) → (Nat → Int32) → (Nat → Int32) → (Nat → Int32) → (Nat → Int32) → (Nat → Int32) → Prop} {r c : Nat} (hr : r < 6) (hc : c ≤ 4) (erc : a_rowCount r = nI c) (h0 : jr_HS a_slotRows a_slotCount r [])
    (k : ∀ rows cnt, jr_fr r a_slotRows a_slotCount rows cnt → jr_HS rows cnt r (jr_lf r c) → J (nI (r + 1)) f_nullKey f_maxRows f_n f_rowLimit f_rowTotal f_entryCount f_usedRels f_opCount f_optimised f_initialCost f_resultRows a_rowCount a_values a_entryRels a_entryVisible a_estimates a_opKind a_opLeftAttrs a_opRightAttrs a_opDivisor a_opLeftRels a_opRightRels a_sideSet a_eligible a_opsIn a_bestCost a_planCount a_rootOf a_leftPart a_nodeAt (rows) (cnt) a_keys a_grouped a_groupStart a_groupHit a_result) :
    ∃ n, wX_fillLeaves_17 post J (nI r) n 1 f_nullKey f_maxRows f_n f_rowLimit f_rowTotal f_entryCount f_usedRels f_opCount f_optimised f_initialCost f_resultRows a_rowCount a_values a_entryRels a_entryVisible a_estimates a_opKind a_opLeftAttrs a_opRightAttrs a_opDivisor a_opLeftRels a_opRightRels a_sideSet a_eligible a_opsIn a_bestCost a_planCount a_rootOf a_leftPart a_nodeAt a_slotRows a_slotCount a_keys a_grouped a_groupStart a_groupHit a_result := by
  refine loop_0 (fun n i (st : (Nat → Int32) × (Nat → Int32)) => wX_fillLeaves_17 post J (nI r) n (nI (i + 1)) f_nullKey f_maxRows f_n f_rowLimit f_rowTotal f_entryCount f_usedRels f_opCount f_optimised f_initialCost f_resultRows a_rowCount a_values a_entryRels a_entryVisible a_estimates a_opKind a_opLeftAttrs a_opRightAttrs a_opDivisor a_opLeftRels a_opRightRels a_sideSet a_eligible a_opsIn a_bestCost a_planCount a_rootOf a_leftPart a_nodeAt (st.1) (st.2) a_keys a_grouped a_groupStart a_groupHit a_result)
    (fun i st => jr_HS st.1 st.2 r (jr_lf r i) ∧ jr_fr r a_slotRows a_slotCount st.1 st.2) c (a_slotRows, a_slotCount) ⟨h0, jr_fr_rfl⟩ ?_ ?_
  · rintro n ⟨rows, cnt⟩ ⟨h1, h2⟩
    show vp_in _ _ ∧ _
    rw [nI_clamp (n := r) (by omega), erc]
    exact ⟨vp_in_nI hr (by decide), br_t (nI_lt (by omega) (by omega)) (nm_r (nI_1 r) (k rows cnt h2 h1))⟩
  · rintro n i ⟨rows, cnt⟩ hi ⟨h1, h2⟩ ih
    have es : nI (i + 1) <<< ((15 - (3 * nI r)) &&& 31) = nI ((i + 1) * 2 ^ (15 - 3 * r)) := by
      rw [show (3 : Int32) * nI r = nI (3 * r) from pk_mul 3 r, show (15 : Int32) - nI (3 * r) = nI (15 - 3 * r) from pk_sub (a := 15) (by omega)]
      refine pk_shlN _ (15 - 3 * r) (s_l _ (by omega)) ?_
      have := (jr_lf_a r hr i (by omega)).2.1
      omega
    have hll : (jr_lf r i).length < 81 := by unfold jr_lf; rw [List.length_map, List.length_range]; omega
    show vp_in _ _ ∧ _
    rw [nI_clamp (n := r) (by omega), erc, es]
    refine ⟨vp_in_nI hr (by decide), br_f (nI_nlt (by omega) (by omega)) (jx_app (by omega) h1 hll ?_)⟩
    refine nm_r (nI_1 _) (ih (_, _) ⟨?_, jr_fr_tr h2 (jr_app_fr hll)⟩)
    have el : jr_lf r (i + 1) = jr_lf r i ++ [(i + 1) * 2 ^ (15 - 3 * r)] := by
      unfold jr_lf
      rw [List.range_succ, List.map_append]
      rfl
    rw [el]
    exact jr_app_HS h1 hll
theorem jx_fill {post : SX → Prop} {rc : Nat → Nat} (hrc : ∀ r, r < 6 → a_rowCount r = nI (rc r)) (h4 : ∀ r, rc r ≤ 4)
    (k : ∀ rows cnt, (∀ r, r < 6 → jr_HS rows cnt r (jr_lf r (rc r))) → post (f_nullKey, f_maxRows, f_n, f_rowLimit, f_rowTotal, f_entryCount, f_usedRels, f_opCount, f_optimised, f_initialCost, f_resultRows, a_rowCount, a_values, a_entryRels, a_entryVisible, a_estimates, a_opKind, a_opLeftAttrs, a_opRightAttrs, a_opDivisor, a_opLeftRels, a_opRightRels, a_sideSet, a_eligible, a_opsIn, a_bestCost, a_planCount, a_rootOf, a_leftPart, a_nodeAt, rows, cnt, a_keys, a_grouped, a_groupStart, a_groupHit, a_result)) : wpX_fillLeaves post (f_nullKey, f_maxRows, f_n, f_rowLimit, f_rowTotal, f_entryCount, f_usedRels, f_opCount, f_optimised, f_initialCost, f_resultRows, a_rowCount, a_values, a_entryRels, a_entryVisible, a_estimates, a_opKind, a_opLeftAttrs, a_opRightAttrs, a_opDivisor, a_opLeftRels, a_opRightRels, a_sideSet, a_eligible, a_opsIn, a_bestCost, a_planCount, a_rootOf, a_leftPart, a_nodeAt, a_slotRows, a_slotCount, a_keys, a_grouped, a_groupStart, a_groupHit, a_result) := by
  refine loop_0 (fun n i (st : (Nat → Int32) × (Nat → Int32)) => wX_fillLeaves_2 post n (nI i) f_nullKey f_maxRows f_n f_rowLimit f_rowTotal f_entryCount f_usedRels f_opCount f_optimised f_initialCost f_resultRows a_rowCount a_values a_entryRels a_entryVisible a_estimates a_opKind a_opLeftAttrs a_opRightAttrs a_opDivisor a_opLeftRels a_opRightRels a_sideSet a_eligible a_opsIn a_bestCost a_planCount a_rootOf a_leftPart a_nodeAt (st.1) (st.2) a_keys a_grouped a_groupStart a_groupHit a_result)
    (fun i st => ∀ r, r < i → jr_HS st.1 st.2 r (jr_lf r (rc r))) 6 (a_slotRows, a_slotCount) (fun r hr => absurd hr (by omega)) ?_ ?_
  · rintro n ⟨rows, cnt⟩ h
    exact br_t (by decide) (k rows cnt h)
  · rintro n i ⟨rows, cnt⟩ hi h ih
    refine br_f (nI_ge (b := 6) hi (by decide)) ⟨vp_in_nI (by omega) (by decide), nm_r (e' := upd cnt i 0) (jn_up rfl (by omega)) ?_⟩
    refine jx_fl17 hi (h4 i) (hrc i hi) jr_clr_HS ?_
    intro rows' cnt' a b
    refine ih (rows', cnt') ?_
    intro r hr
    by_cases e : r = i
    · subst e; exact b
    · exact jr_HS_fr a e (jr_HS_fr jr_clr_fr e (h r (by omega)))
theorem jx_exec {post : SX → Prop} {m U w op A B sA sB kd am bm : Nat} {s rc : Nat → Nat} {cells : Nat → Int32} {L R : List Nat} (h : jr_TW m U s) (hU : U < 64) (hw : w < 2) (hm : m ≤ 5) (hop : op < m) (hN : jr_NA m s w a_nodeAt)
    (eA : a_sideSet (10 * w + 2 * op) = nI A) (eB : a_sideSet (10 * w + (2 * op + 1)) = nI B) (hA : A < 64) (hA0 : A ≠ 0) (hB : B < 64) (hB0 : B ≠ 0) (hsA : jr_so m s A sA) (hsB : jr_so m s B sB) (nA : sA ≠ 6 + op) (nB : sB ≠ 6 + op)
    (ekd : a_opKind op = nI kd) (hkd : kd < 10) (eam : a_opLeftAttrs op = nI am) (ham : am < 2 ^ 31) (ebm : a_opRightAttrs op = nI bm) (hbm : bm < 2 ^ 31)
    (hV : jr_VV rc a_values cells) (h4 : ∀ r, rc r ≤ 4) (hokL : ∀ x, x ∈ L → (∀ r, r < 6 → jr_dg x r ≤ rc r) ∧ x < 2 ^ 31) (hokR : ∀ x, x ∈ R → (∀ r, r < 6 → jr_dg x r ≤ rc r) ∧ x < 2 ^ 31)
    (hL : jr_HS a_slotRows a_slotCount sA L) (hR : jr_HS a_slotRows a_slotCount sB R)
    (hlen : (jr_OX (kd % 5) (jr_kv a_values am) (jr_kv a_values bm) (decide (5 ≤ kd)) L R).length ≤ 81)
    (k : ∀ rows cnt ks gr gs gh, jr_fr (6 + op) a_slotRows a_slotCount rows cnt → jr_HS rows cnt (6 + op) (jr_OX (kd % 5) (jr_kv a_values am) (jr_kv a_values bm) (decide (5 ≤ kd)) L R) → post (f_nullKey, f_maxRows, f_n, f_rowLimit, f_rowTotal, f_entryCount, f_usedRels, f_opCount, f_optimised, f_initialCost, f_resultRows, a_rowCount, a_values, a_entryRels, a_entryVisible, a_estimates, a_opKind, a_opLeftAttrs, a_opRightAttrs, a_opDivisor, a_opLeftRels, a_opRightRels, a_sideSet, a_eligible, a_opsIn, a_bestCost, a_planCount, a_rootOf, a_leftPart, a_nodeAt, rows, cnt, ks, gr, gs, gh, a_result)) :
    wpX_execute post (f_nullKey, f_maxRows, f_n, f_rowLimit, f_rowTotal, f_entryCount, f_usedRels, f_opCount, f_optimised, f_initialCost, f_resultRows, a_rowCount, a_values, a_entryRels, a_entryVisible, a_estimates, a_opKind, a_opLeftAttrs, a_opRightAttrs, a_opDivisor, a_opLeftRels, a_opRightRels, a_sideSet, a_eligible, a_opsIn, a_bestCost, a_planCount, a_rootOf, a_leftPart, a_nodeAt, a_slotRows, a_slotCount, a_keys, a_grouped, a_groupStart, a_groupHit, a_result) (nI w) (nI op) := by
  have e1 : (nI w * 5 + nI op) * 2 = nI (10 * w + 2 * op) := by
    rw [show nI w * 5 + nI op = nI (w * 5 + op) from jn_ma w 5 op, show nI (w * 5 + op) * 2 = nI ((w * 5 + op) * 2) from pk_mul _ 2]
    congr 1
    omega
  have e2 : nI (10 * w + 2 * op) + 1 = nI (10 * w + (2 * op + 1)) := nI_1 _
  have e6 : (6 : Int32) + nI op = nI (6 + op) := nI_add 6 op
  have slt : ∀ {T sl : Nat}, jr_so m s T sl → sl < 11 := by
    rintro T sl (⟨r, hr, _, e⟩ | ⟨i, hi, _, e⟩) <;> omega
  unfold wpX_execute
  dsimp only
  refine nm_r e1 ?_
  rw [e2, e6, nI_clamp (n := 10 * w + 2 * op) (by omega), nI_clamp (n := 10 * w + (2 * op + 1)) (by omega), nI_clamp (n := 6 + op) (by omega), nI_clamp (n := op) (by omega), eA, eB, ebm]
  refine ⟨vp_in_nI (by omega) (by decide), jx_slot h hU hw hA hA0 hN hsA ?_⟩
  refine ⟨vp_in_nI (by omega) (by decide), jx_slot h hU hw hB hB0 hN hsB ?_⟩
  refine ⟨vp_in_nI (by omega) (by decide), nm_e ⟨vp_in_nI (by omega) (by decide), ?_⟩⟩
  have hL' := jr_HS_fr (jr_clr_fr (s := 6 + op) (y := 0)) nA hL
  have hR' := jr_HS_fr (jr_clr_fr (s := 6 + op) (y := 0)) nB hR
  refine jx_group (rc := rc) (cells := cells) (slt hsB) hR' hV h4 hokR hbm ?_
  intro ks gr gs gh hG hgh
  refine jx_ex61 (bm := bm) (R := R) (rc := rc) (cells := cells) (by omega) (slt hsA) nA ekd hkd eam ham hV h4 hokL hG hR.2.1 hL' jr_clr_HS hgh hlen ?_
  intro rows cnt gh' a b
  exact k rows cnt ks gr gs gh' (jr_fr_tr jr_clr_fr a) b
end
end
section
/-! ===== insertion sort; the component's run ===== -/
theorem jr_ins {P : List Nat} {x j : Nat} (hs : P.Pairwise (· ≤ ·)) (h1 : ∀ y, y ∈ P.drop j → x ≤ y) (h2 : ∀ y, y ∈ P.take j → y ≤ x) :
    (P.take j ++ x :: P.drop j).Perm (x :: P) ∧ (P.take j ++ x :: P.drop j).Pairwise (· ≤ ·) := by
  have hs' := hs
  rw [← List.take_append_drop j P, List.pairwise_append] at hs'
  constructor
  · refine List.perm_middle.trans ?_
    rw [List.take_append_drop]
  · rw [List.pairwise_append]
    refine ⟨hs'.1, List.pairwise_cons.mpr ⟨h1, hs'.2.1⟩, ?_⟩
    intro a ha b hb
    rcases List.mem_cons.mp hb with z | z
    · rw [z]; exact h2 a ha
    · exact hs'.2.2 a ha b z
section
variable {f_nullKey f_maxRows f_n f_rowLimit f_rowTotal f_entryCount f_usedRels f_opCount f_optimised f_initialCost f_resultRows : Int32} {a_rowCount a_values a_entryRels a_entryVisible a_estimates a_opKind a_opLeftAttrs a_opRightAttrs a_opDivisor a_opLeftRels a_opRightRels a_sideSet a_eligible a_opsIn a_bestCost a_planCount a_rootOf a_leftPart a_nodeAt a_slotRows a_slotCount a_keys a_grouped a_groupStart a_groupHit a_result : Nat → Int32}
theorem jx_s19 {post : SX → Prop} {J : Int32 → (Nat → Int32) → (Nat → Int32) → (Nat → Int32) → (Nat → Int32) → (Nat → Int32) → (Nat → Int32) → (Nat → Int32) → (Nat → Int32) → (Nat → Int32) → (Nat → Int32) → (Nat → Int32) → (Nat → Int32) → (Nat → Int32) → (Nat → Int32) → (Nat → Int32) → (Nat → Int32) → (Nat → Int32) → (Nat → Int32) → (Nat → Int32) → (Nat → Int32) → (Nat → Int32) → (Nat → Int32) → (Nat → Int32) → (Nat → Int32) → (Nat → Int32) → (Nat → Int32) → Prop} {x : Nat} {P Q : List Nat} (hs : P.Pairwise (· ≤ ·)) (hb : ∀ y, y ∈ P → y < 2 ^ 31) (hx : x < 2 ^ 31) (h81 : P.length < 81)
    (k : ∀ res P', P'.Perm (x :: P) → P'.Pairwise (· ≤ ·) → jr_sl res 0 (P' ++ Q) → J (nI (P.length + 1)) a_rowCount a_values a_entryRels a_entryVisible a_estimates a_opKind a_opLeftAttrs a_opRightAttrs a_opDivisor a_opLeftRels a_opRightRels a_sideSet a_eligible a_opsIn a_bestCost a_planCount a_rootOf a_leftPart a_nodeAt a_slotRows a_slotCount a_keys a_grouped a_groupStart a_groupHit (res)) :
    ∀ j res, j ≤ P.length → jr_sl res 0 (P.take j) → jr_sl res (j + 1) (P.drop j) → (∀ y, y ∈ P.drop j → x ≤ y) → jr_sl res (P.length + 1) Q →
      wX_sortResult_19 post J (nI P.length) (nI x) f_nullKey f_maxRows f_n f_rowLimit f_rowTotal f_entryCount f_usedRels f_opCount f_optimised f_initialCost f_resultRows (j + 1) (nI j) a_rowCount a_values a_entryRels a_entryVisible a_estimates a_opKind a_opLeftAttrs a_opRightAttrs a_opDivisor a_opLeftRels a_opRightRels a_sideSet a_eligible a_opsIn a_bestCost a_planCount a_rootOf a_leftPart a_nodeAt a_slotRows a_slotCount a_keys a_grouped a_groupStart a_groupHit (res) := by
  intro j
  have fin : ∀ (j : Nat) (res : Nat → Int32), j ≤ P.length → jr_sl res 0 (P.take j) → jr_sl res (j + 1) (P.drop j) → (∀ y, y ∈ P.drop j → x ≤ y) → (∀ y, y ∈ P.take j → y ≤ x) → jr_sl res (P.length + 1) Q →
      J (nI (P.length + 1)) a_rowCount a_values a_entryRels a_entryVisible a_estimates a_opKind a_opLeftAttrs a_opRightAttrs a_opDivisor a_opLeftRels a_opRightRels a_sideSet a_eligible a_opsIn a_bestCost a_planCount a_rootOf a_leftPart a_nodeAt a_slotRows a_slotCount a_keys a_grouped a_groupStart a_groupHit (upd res j (nI x)) := by
    intro j res hj h1 h2 h3 h4 h5
    obtain ⟨p1, p2⟩ := jr_ins hs h3 h4
    refine k _ _ p1 p2 ?_
    have l1 : (P.take j).length = j := by rw [List.length_take]; omega
    have l2 : (P.drop j).length = P.length - j := List.length_drop
    refine (jr_sl_app _ _).mpr ⟨(jr_sl_app _ _).mpr ⟨jr_sl_fr _ _ (fun i a b => pk_un (by omega)) h1, ?_⟩, ?_⟩
    · rw [l1, Nat.zero_add]
      exact ⟨pk_us, jr_sl_fr _ _ (fun i a b => pk_un (by omega)) h2⟩
    · rw [List.length_append, List.length_cons, l1, l2, show 0 + (j + (P.length - j + 1)) = P.length + 1 from by omega]
      exact jr_sl_fr _ _ (fun i a b => pk_un (by omega)) h5
  induction j with
  | zero =>
    intro res hj h1 h2 h3 h5
    refine br_t (by decide) ⟨vp_in_nI (by omega) (by decide), nm_r (jn_up (n := 0) rfl (by decide)) (nm_r (nI_1 _) ?_)⟩
    exact fin 0 res hj h1 h2 h3 (fun y hy => absurd hy List.not_mem_nil) h5
  | succ j ih =>
    intro res hj h1 h2 h3 h5
    have hj' : j < P.length := by omega
    have hpj := hb _ (List.getElem_mem hj')
    have hs' := hs
    rw [← List.take_append_drop (j + 1) P, List.pairwise_append, List.take_succ_eq_append_getElem hj'] at hs'
    have h1' := h1
    rw [List.take_succ_eq_append_getElem hj', jr_sl_app] at h1'
    have hd : P.drop j = P[j] :: P.drop (j + 1) := List.drop_eq_getElem_cons hj'
    generalize hpp : P[j] = p at hpj hs' h1' hd
    have l1 : (P.take j).length = j := by rw [List.length_take]; omega
    have er : res j = nI p := by
      have := h1'.2.1
      rw [l1, Nat.zero_add] at this
      exact this
    have em : nI (j + 1) - 1 = nI j := pk_sub (b := 1) (by omega)
    refine br_f (nI_nle (by omega) (by omega)) ?_
    rw [em, nI_clamp (n := j) (by omega), er]
    refine ⟨vp_in_nI (by omega) (by decide), ?_⟩
    refine pk_le p x (fun hle => ?_) (fun hgt => ?_)
    · refine ⟨vp_in_nI (by omega) (by decide), nm_r (jn_up (n := j + 1) rfl (by omega)) (nm_r (nI_1 _) ?_)⟩
      refine fin (j + 1) res hj h1 h2 h3 ?_ h5
      intro y hy
      rw [List.take_succ_eq_append_getElem hj', hpp] at hy
      rcases List.mem_append.mp hy with z | z
      · exact Nat.le_trans ((List.pairwise_append.mp hs'.1).2.2 y z p (List.mem_singleton.mpr rfl)) hle
      · rw [List.mem_singleton.mp z]; exact hle
    · refine ⟨vp_in_nI (by omega) (by decide), vp_in_nI (by omega) (by decide), nm_r (jn_up (n := j + 1) rfl (by omega)) (nm_r (pk_m1 j) ?_)⟩
      refine ih _ (by omega) (jr_sl_fr _ _ (fun i a b => pk_un (by omega)) h1'.1) ?_ ?_ ?_
      · rw [hd]
        exact ⟨pk_us, jr_sl_fr _ _ (fun i a b => pk_un (by omega)) h2⟩
      · rw [hd]
        intro y hy
        rcases List.mem_cons.mp hy with z | z
        · omega
        · exact h3 y z
      · exact jr_sl_fr _ _ (fun i a b => pk_un (by omega)) h5
theorem jx_sort {post : SX → Prop} {L : List Nat} (h81 : L.length ≤ 81) (hc : f_resultRows = nI L.length) (hb : ∀ y, y ∈ L → y < 2 ^ 31) (h0 : jr_sl a_result 0 L)
    (k : ∀ res P, P.Perm L → P.Pairwise (· ≤ ·) → jr_sl res 0 P → post (f_nullKey, f_maxRows, f_n, f_rowLimit, f_rowTotal, f_entryCount, f_usedRels, f_opCount, f_optimised, f_initialCost, f_resultRows, a_rowCount, a_values, a_entryRels, a_entryVisible, a_estimates, a_opKind, a_opLeftAttrs, a_opRightAttrs, a_opDivisor, a_opLeftRels, a_opRightRels, a_sideSet, a_eligible, a_opsIn, a_bestCost, a_planCount, a_rootOf, a_leftPart, a_nodeAt, a_slotRows, a_slotCount, a_keys, a_grouped, a_groupStart, a_groupHit, res)) : wpX_sortResult post (f_nullKey, f_maxRows, f_n, f_rowLimit, f_rowTotal, f_entryCount, f_usedRels, f_opCount, f_optimised, f_initialCost, f_resultRows, a_rowCount, a_values, a_entryRels, a_entryVisible, a_estimates, a_opKind, a_opLeftAttrs, a_opRightAttrs, a_opDivisor, a_opLeftRels, a_opRightRels, a_sideSet, a_eligible, a_opsIn, a_bestCost, a_planCount, a_rootOf, a_leftPart, a_nodeAt, a_slotRows, a_slotCount, a_keys, a_grouped, a_groupStart, a_groupHit, a_result) := by
  subst hc
  refine pk_loop (fun n i res => wX_sortResult_2 post f_nullKey f_maxRows f_n f_rowLimit f_rowTotal f_entryCount f_usedRels f_opCount f_optimised f_initialCost (nI L.length) n (nI i) a_rowCount a_values a_entryRels a_entryVisible a_estimates a_opKind a_opLeftAttrs a_opRightAttrs a_opDivisor a_opLeftRels a_opRightRels a_sideSet a_eligible a_opsIn a_bestCost a_planCount a_rootOf a_leftPart a_nodeAt a_slotRows a_slotCount a_keys a_grouped a_groupStart a_groupHit (res))
    (fun i res => 1 ≤ i ∧ ∃ P, P.Perm (L.take i) ∧ P.Pairwise (· ≤ ·) ∧ jr_sl res 0 (P ++ L.drop i)) (if L.length ≤ 1 then 1 else L.length) 1 a_result (by split <;> omega) ⟨Nat.le_refl _, L.take 1, List.Perm.refl _, ?_, by rw [List.take_append_drop]; exact h0⟩ ?_ ?_
  · cases L with
    | nil => exact List.Pairwise.nil
    | cons a L => exact List.pairwise_singleton _ _
  · rintro n res ⟨_, P, p1, p2, p3⟩
    have he : L.length ≤ (if L.length ≤ 1 then 1 else L.length) := by split <;> omega
    have he2 : (if L.length ≤ 1 then 1 else L.length) < 2 ^ 31 := by split <;> omega
    rw [List.take_of_length_le he] at p1
    rw [List.drop_of_length_le he, List.append_nil] at p3
    exact br_t (nI_le he he2) (k res P p1 p2 p3)
  · rintro n i res hi ⟨hi1, P, p1, p2, p3⟩ ih
    have hil : i < L.length := by
      by_cases z : L.length ≤ 1
      · rw [if_pos z] at hi; omega
      · rw [if_neg z] at hi; exact hi
    have hd : L.drop i = L[i] :: L.drop (i + 1) := List.drop_eq_getElem_cons hil
    have ht := List.take_succ_eq_append_getElem hil
    have hxb := hb _ (List.getElem_mem hil)
    generalize hxx : L[i] = x at hd ht hxb
    have lP : P.length = i := by rw [p1.length_eq, List.length_take]; omega
    rw [hd] at p3
    have ex : res i = nI x := by
      have := jr_sl_1 p3
      rw [lP, Nat.zero_add] at this
      exact this
    have p3' := (jr_sl_app _ _).mp p3
    refine br_f (nI_ge hil (by omega)) ⟨vp_in_nI (by omega) (by decide), nm_r ((jn_at rfl (by omega)).trans ex) ?_⟩
    refine ⟨i + 1, ?_⟩
    have hbP : ∀ y, y ∈ P → y < 2 ^ 31 := fun y hy => hb y (List.mem_of_mem_take (p1.mem_iff.mp hy))
    have key := jx_s19 (post := post) (J := wX_sortResult_2 post f_nullKey f_maxRows f_n f_rowLimit f_rowTotal f_entryCount f_usedRels f_opCount f_optimised f_initialCost (nI L.length) n) (Q := L.drop (i + 1)) (f_nullKey := f_nullKey) (f_maxRows := f_maxRows) (f_n := f_n) (f_rowLimit := f_rowLimit) (f_rowTotal := f_rowTotal) (f_entryCount := f_entryCount) (f_usedRels := f_usedRels) (f_opCount := f_opCount) (f_optimised := f_optimised) (f_initialCost := f_initialCost) (f_resultRows := nI L.length) (a_rowCount := a_rowCount) (a_values := a_values) (a_entryRels := a_entryRels) (a_entryVisible := a_entryVisible) (a_estimates := a_estimates) (a_opKind := a_opKind) (a_opLeftAttrs := a_opLeftAttrs) (a_opRightAttrs := a_opRightAttrs) (a_opDivisor := a_opDivisor) (a_opLeftRels := a_opLeftRels) (a_opRightRels := a_opRightRels) (a_sideSet := a_sideSet) (a_eligible := a_eligible) (a_opsIn := a_opsIn) (a_bestCost := a_bestCost) (a_planCount := a_planCount) (a_rootOf := a_rootOf) (a_leftPart := a_leftPart) (a_nodeAt := a_nodeAt) (a_slotRows := a_slotRows) (a_slotCount := a_slotCount) (a_keys := a_keys) (a_grouped := a_grouped) (a_groupStart := a_groupStart) (a_groupHit := a_groupHit) p2 hbP hxb (by omega) (fun res' P' q1 q2 q3 => by
      rw [lP]
      refine ih res' ⟨by omega, P', ?_, q2, q3⟩
      rw [ht]
      exact q1.trans ((List.Perm.cons x p1).trans (List.perm_append_comm (l₁ := [x]))) ) P.length res (Nat.le_refl _)
    rw [List.take_length, List.drop_length, lP] at key
    refine key p3'.1 trivial (fun y hy => absurd hy List.not_mem_nil) ?_
    have := p3'.2.2
    rw [lP, Nat.zero_add] at this
    exact this
end
end
section
/-! ===== the component's run ===== -/
/-- what a run reads: operators' data -/
def jr_OD (m : Nat) (kd la ra : Nat → Nat) : Prop := ∀ i, i < m → kd i < 10 ∧ la i < 2 ^ 31 ∧ ra i < 2 ^ 31
theorem jr_ok31 {T x : Nat} {rc : Nat → Nat} (h : jr_ok T rc x) : (∀ r, r < 6 → jr_dg x r ≤ rc r) ∧ x < 2 ^ 31 := ⟨h.2.2, Nat.lt_of_lt_of_le (jr_lt h.2.1) (by decide)⟩
theorem jr_so_HS {m t T sl : Nat} {s : Nat → Nat} {rows cnt : Nat → Int32} {LX : Nat → List Nat} (h1 : ∀ r, r < 6 → jr_HS rows cnt r (LX (2 ^ r))) (h2 : ∀ j, j < m → jf_set s j < t → jr_HS rows cnt (6 + j) (LX (jf_set s j)))
    (hs : jr_so m s T sl) (ht : T < t) : jr_HS rows cnt sl (LX T) := by
  rcases hs with ⟨r, hr, e, e2⟩ | ⟨i, hi, e, e2⟩
  · rw [e, e2]; exact h1 r hr
  · rw [e2, e]; exact h2 i hi (by rw [← e]; exact ht)
theorem jr_so_ne {m T sl j : Nat} {s : Nat → Nat} (hs : jr_so m s T sl) (ht : T < jf_set s j) : sl ≠ 6 + j := by
  rcases hs with ⟨r, hr, e, e2⟩ | ⟨i, hi, e, e2⟩
  · omega
  · intro z
    have : i = j := by omega
    rw [e, this] at ht
    omega
theorem jr_SX_up {m U t j : Nat} {s kd la ra rc : Nat → Nat} {v : Nat → Int32} {LX : Nat → List Nat} (h : jr_TW m U s) (hU : U < 64) (hj : j < m) (ht : jf_set s j = t) (hS : jr_SX m s kd la ra rc v t LX) :
    jr_SX m s kd la ra rc v (t + 1) (fun T => if T = t then jr_OX (kd j % 5) (jr_kv v (la j)) (jr_kv v (ra j)) (decide (5 ≤ kd j)) (LX (s (2 * j))) (LX (s (2 * j + 1))) else LX T) := by
  have tw := fun i hi => jr_TWs h hU (i := i) hi
  constructor
  · intro r hr
    show (if 2 ^ r = t then _ else LX (2 ^ r)) = _
    rw [if_neg (fun z => (tw j hj).1 (by rw [ht, ← z]; exact ja_sg_two r hr))]
    exact hS.1 r hr
  · intro i hi hlt
    obtain ⟨_, l1, l2, _, _⟩ := tw i hi
    show (if jf_set s i = t then _ else LX (jf_set s i)) = jr_OX _ _ _ _ (if s (2 * i) = t then _ else LX (s (2 * i))) (if s (2 * i + 1) = t then _ else LX (s (2 * i + 1)))
    rw [if_neg (show ¬ s (2 * i) = t by omega), if_neg (show ¬ s (2 * i + 1) = t by omega)]
    by_cases e : jf_set s i = t
    · have : i = j := h.2.2 i j hi hj (by rw [e, ht])
      subst this
      rw [if_pos e]
    · rw [if_neg e]
      exact hS.2 i hi (by omega)
theorem jr_SX_sk {m t : Nat} {s kd la ra rc : Nat → Nat} {v : Nat → Int32} {LX : Nat → List Nat} (hn : ∀ j, j < m → jf_set s j ≠ t) (hS : jr_SX m s kd la ra rc v t LX) : jr_SX m s kd la ra rc v (t + 1) LX :=
  ⟨hS.1, fun i hi hlt => hS.2 i hi (by have := hn i hi; omega)⟩
section
variable {f_nullKey f_maxRows f_n f_rowLimit f_rowTotal f_entryCount f_usedRels f_opCount f_optimised f_initialCost f_resultRows : Int32} {a_rowCount a_values a_entryRels a_entryVisible a_estimates a_opKind a_opLeftAttrs a_opRightAttrs a_opDivisor a_opLeftRels a_opRightRels a_sideSet a_eligible a_opsIn a_bestCost a_planCount a_rootOf a_leftPart a_nodeAt a_slotRows a_slotCount a_keys a_grouped a_groupStart a_groupHit a_result : Nat → Int32}
theorem jx_copy {post : Int32 → SX → Prop} {top : Nat} {L : List Nat} (ht : top < 11) (hL : jr_HS a_slotRows a_slotCount top L) (hb : ∀ y, y ∈ L → y < 2 ^ 31) (hc : f_resultRows = nI L.length)
    (k : ∀ res P, P.Perm L → P.Pairwise (· ≤ ·) → jr_sl res 0 P → post (nI P.length) (f_nullKey, f_maxRows, f_n, f_rowLimit, f_rowTotal, f_entryCount, f_usedRels, f_opCount, f_optimised, f_initialCost, f_resultRows, a_rowCount, a_values, a_entryRels, a_entryVisible, a_estimates, a_opKind, a_opLeftAttrs, a_opRightAttrs, a_opDivisor, a_opLeftRels, a_opRightRels, a_sideSet, a_eligible, a_opsIn, a_bestCost, a_planCount, a_rootOf, a_leftPart, a_nodeAt, a_slotRows, a_slotCount, a_keys, a_grouped, a_groupStart, a_groupHit, res)) : ∃ n, wX_run_83 post (nI top) f_nullKey f_maxRows f_n f_rowLimit f_rowTotal f_entryCount f_usedRels f_opCount f_optimised f_initialCost f_resultRows n 0 a_rowCount a_values a_entryRels a_entryVisible a_estimates a_opKind a_opLeftAttrs a_opRightAttrs a_opDivisor a_opLeftRels a_opRightRels a_sideSet a_eligible a_opsIn a_bestCost a_planCount a_rootOf a_leftPart a_nodeAt a_slotRows a_slotCount a_keys a_grouped a_groupStart a_groupHit a_result := by
  have h81 := hL.2.1
  subst hc
  refine jr_lw0 (fun n i res => wX_run_83 post (nI top) f_nullKey f_maxRows f_n f_rowLimit f_rowTotal f_entryCount f_usedRels f_opCount f_optimised f_initialCost (nI L.length) n (nI i) a_rowCount a_values a_entryRels a_entryVisible a_estimates a_opKind a_opLeftAttrs a_opRightAttrs a_opDivisor a_opLeftRels a_opRightRels a_sideSet a_eligible a_opsIn a_bestCost a_planCount a_rootOf a_leftPart a_nodeAt a_slotRows a_slotCount a_keys a_grouped a_groupStart a_groupHit (res)) L (fun P res => jr_sl res 0 P) a_result trivial ?_ ?_
  · intro n res h
    refine br_t (nI_le (Nat.le_refl _) (by omega)) (jx_sort h81 rfl hb h ?_)
    intro res' P p1 p2 p3
    have := k res' P p1 p2 p3
    rw [p1.length_eq] at this
    exact this
  · intro n P x Q res e h ih
    have hl : P.length + (Q.length + 1) = L.length := by rw [e, List.length_append]; rfl
    have ex : a_slotRows (top * 81 + P.length) = nI x := by
      have := hL.2.2
      rw [e] at this
      exact jr_sl_1 this
    refine br_f (nI_ge (by omega) (by omega)) ?_
    rw [jn_81, nI_clamp (n := top * 81 + P.length) (by omega), ex]
    refine ⟨vp_in_nI (by omega) (by decide), vp_in_nI (by omega) (by decide), nm_r (jn_up rfl (by omega)) (nm_r (nI_1 _) (ih _ ?_))⟩
    refine jr_sl_snoc (jr_sl_fr _ _ (fun i a b => pk_un (by omega)) h) ?_
    rw [Nat.zero_add]
    exact pk_us
theorem jx_run {post : Int32 → SX → Prop} {m U w : Nat} {s ss kd la ra rc : Nat → Nat} {cells : Nat → Int32} (h : jr_TW m U s) (hU : U < 64) (hU0 : U ≠ 0) (hw : w < 2) (hm : m ≤ 5) (hN : jr_NA m s w a_nodeAt) (hopt : f_optimised = 1) (eU : f_usedRels = nI U)
    (es : ∀ i, a_sideSet i = nI (ss i)) (ess : ∀ j, s j = ss (10 * w + j)) (hOD : jr_OD m kd la ra) (ekd : ∀ i, a_opKind i = nI (kd i)) (ela : ∀ i, a_opLeftAttrs i = nI (la i)) (era : ∀ i, a_opRightAttrs i = nI (ra i))
    (hV : jr_VV rc a_values cells) (hrc : ∀ r, r < 6 → a_rowCount r = nI (rc r)) (h4 : ∀ r, rc r ≤ 4) (h12 : ja_sm rc 6 ≤ 12)
    (k : ∀ rows cnt ks gr gs gh res LX P, jr_SX m s kd la ra rc a_values (U + 1) LX → P.Perm (LX U) → P.Pairwise (· ≤ ·) → jr_sl res 0 P →
      post (nI P.length) (f_nullKey, f_maxRows, f_n, f_rowLimit, f_rowTotal, f_entryCount, f_usedRels, f_opCount, f_optimised, f_initialCost, nI P.length, a_rowCount, a_values, a_entryRels, a_entryVisible, a_estimates, a_opKind, a_opLeftAttrs, a_opRightAttrs, a_opDivisor, a_opLeftRels, a_opRightRels, a_sideSet, a_eligible, a_opsIn, a_bestCost, a_planCount, a_rootOf, a_leftPart, a_nodeAt, rows, cnt, ks, gr, gs, gh, res)) : wpX_run post (f_nullKey, f_maxRows, f_n, f_rowLimit, f_rowTotal, f_entryCount, f_usedRels, f_opCount, f_optimised, f_initialCost, f_resultRows, a_rowCount, a_values, a_entryRels, a_entryVisible, a_estimates, a_opKind, a_opLeftAttrs, a_opRightAttrs, a_opDivisor, a_opLeftRels, a_opRightRels, a_sideSet, a_eligible, a_opsIn, a_bestCost, a_planCount, a_rootOf, a_leftPart, a_nodeAt, a_slotRows, a_slotCount, a_keys, a_grouped, a_groupStart, a_groupHit, a_result) (nI w) := by
  subst hopt eU
  refine br_f (by decide) (br_f (nI_pos (by omega)) (br_t (nI_le (b := 1) (by omega) (by decide)) ?_))
  refine jx_fill hrc h4 ?_
  intro rows0 cnt0 h0
  have H2 : ∀ i, i < m → s (2 * i) < 64 ∧ s (2 * i + 1) < 64 := fun i hi => by
    obtain ⟨_, l1, l2, l3, _⟩ := jr_TWs h hU hi
    exact ⟨by omega, by omega⟩
  refine pk_loop (fun n i (st : (Nat → Int32) × (Nat → Int32) × (Nat → Int32) × (Nat → Int32) × (Nat → Int32) × (Nat → Int32)) => wX_run_25 post (nI w) n (nI i) f_nullKey f_maxRows f_n f_rowLimit f_rowTotal f_entryCount (nI U) f_opCount (1) f_initialCost f_resultRows a_rowCount a_values a_entryRels a_entryVisible a_estimates a_opKind a_opLeftAttrs a_opRightAttrs a_opDivisor a_opLeftRels a_opRightRels a_sideSet a_eligible a_opsIn a_bestCost a_planCount a_rootOf a_leftPart a_nodeAt (st.1) (st.2.1) (st.2.2.1) (st.2.2.2.1) (st.2.2.2.2.1) (st.2.2.2.2.2) a_result)
    (fun i st => 1 ≤ i ∧ ∃ LX, jr_SX m s kd la ra rc a_values i LX ∧ (∀ r, r < 6 → jr_HS st.1 st.2.1 r (LX (2 ^ r))) ∧ (∀ j, j < m → jf_set s j < i → jr_HS st.1 st.2.1 (6 + j) (LX (jf_set s j))))
    (U + 1) 1 (rows0, cnt0, a_keys, a_grouped, a_groupStart, a_groupHit) (by omega) ⟨Nat.le_refl _, ?_⟩ ?_ ?_
  · have d : ∀ r, r < 6 → ∀ r', r' < 6 → 2 ^ r' = 2 ^ r → r' = r := by
      intro r _ r' _ e
      have h1 : (2 ^ r').testBit r = true := by rw [e]; exact ja_m2.mpr rfl
      exact ja_m2.mp h1
    refine ⟨fun T => if T = 2 ^ 0 then jr_lf 0 (rc 0) else if T = 2 ^ 1 then jr_lf 1 (rc 1) else if T = 2 ^ 2 then jr_lf 2 (rc 2) else if T = 2 ^ 3 then jr_lf 3 (rc 3) else if T = 2 ^ 4 then jr_lf 4 (rc 4) else jr_lf 5 (rc 5), ⟨?_, ?_⟩, ?_, ?_⟩
    · intro r hr
      have : r = 0 ∨ r = 1 ∨ r = 2 ∨ r = 3 ∨ r = 4 ∨ r = 5 := by omega
      rcases this with z | z | z | z | z | z <;> subst z <;> rfl
    · intro i hi hlt
      have := (jr_TWs h hU hi).2.2.2.2
      omega
    · intro r hr
      have e : ∀ q, q < 6 → r = q → jr_HS rows0 cnt0 r (jr_lf r (rc r)) := fun q hq _ => h0 r hr
      have : r = 0 ∨ r = 1 ∨ r = 2 ∨ r = 3 ∨ r = 4 ∨ r = 5 := by omega
      rcases this with z | z | z | z | z | z <;> subst z <;> exact h0 _ (by decide)
    · intro j hj hlt
      have := (jr_TWs h hU hj).2.2.2.2
      omega
  · rintro n ⟨rows, cnt, ks, gr, gs, gh⟩ ⟨_, LX, S1, S2, S3⟩
    dsimp only at S2 S3
    obtain ⟨sU, hsU⟩ := jr_so_of h.1
    have hHU := jr_so_HS S2 S3 hsU (by omega)
    have hokU := jr_SX_OK h hU h4 h12 S1 U h.1 (Or.inl (by omega))
    have s11 : sU < 11 := by
      rcases hsU with ⟨r, hr, _, e⟩ | ⟨i, hi, _, e⟩ <;> omega
    refine br_t (nI_lt (by omega) (by omega)) (jx_slot h hU hw hU hU0 hN hsU ⟨vp_in_nI s11 (by decide), nm_r (e' := nI (LX U).length) ((jn_at rfl (by omega)).trans hHU.1) ?_⟩)
    refine jx_copy s11 hHU (fun y hy => (jr_ok31 (hokU.2.1 y hy)).2) rfl ?_
    intro res P p1 p2 p3
    have := k rows cnt ks gr gs gh res LX P S1 p1 p2 p3
    rw [p1.length_eq] at this ⊢
    exact this
  · rintro n i ⟨rows, cnt, ks, gr, gs, gh⟩ hi ⟨hi1, LX, S1, S2, S3⟩ ih
    dsimp only at S2 S3
    refine br_f (nI_nlt (by omega) (by omega)) ?_
    rw [jn_64, nI_clamp (n := w * 64 + i) (by omega)]
    refine ⟨vp_in_nI (by omega) (by decide), ?_⟩
    by_cases hex : ∃ j, j < m ∧ jf_set s j = i
    · obtain ⟨j, hj, ej⟩ := hex
      obtain ⟨ng, l1, l2, l3, l4⟩ := jr_TWs h hU hj
      obtain ⟨a1, a2, ad, ac, ad1, ad2⟩ := h.2.1 j hj
      refine nm_r ((hN i (by omega) (by omega)).1 j hj ej) (br_f (nI_pos (by omega)) ?_)
      obtain ⟨sA, hsA⟩ := jr_so_of ad1
      obtain ⟨sB, hsB⟩ := jr_so_of ad2
      have oA := jr_SX_OK h hU h4 h12 S1 _ ad1 (Or.inl (by omega))
      have oB := jr_SX_OK h hU h4 h12 S1 _ ad2 (Or.inl (by omega))
      have oJ : jr_OK (jf_set s j) rc (jr_OX (kd j % 5) (jr_kv a_values (la j)) (jr_kv a_values (ra j)) (decide (5 ≤ kd j)) (LX (s (2 * j))) (LX (s (2 * j + 1)))) :=
        jr_OK_perm (jr_XYp (jr_kv_lt a_values (ra j)) (List.Perm.refl _) (List.Perm.refl _)).symm (jr_OY_OK ad h12 oA oB)
      have hlen := Nat.le_trans oJ.2.2 (jr_G81 _ (by have := jr_tt_le (rc := rc) (T := jf_set s j); omega))
      refine jx_exec (s := s) (rc := rc) (cells := cells) h hU hw hm hj hN (by rw [es, ← ess]) (by rw [es, ← ess]) (H2 j hj).1 a1 (H2 j hj).2 a2 hsA hsB (jr_so_ne hsA l1) (jr_so_ne hsB l2) (ekd j) (hOD j hj).1 (ela j) (hOD j hj).2.1 (era j) (hOD j hj).2.2
        hV h4 (fun x hx => jr_ok31 (oA.2.1 x hx)) (fun x hx => jr_ok31 (oB.2.1 x hx)) (jr_so_HS S2 S3 hsA (by omega)) (jr_so_HS S2 S3 hsB (by omega)) hlen ?_
      intro rows' cnt' ks' gr' gs' gh' f1 f2
      refine nm_r (nI_1 i) (ih (rows', cnt', ks', gr', gs', gh') ⟨by omega, _, jr_SX_up h hU hj ej S1, ?_, ?_⟩)
      · intro r hr
        show jr_HS rows' cnt' r (if 2 ^ r = i then _ else LX (2 ^ r))
        rw [if_neg (fun z => ng (by rw [ej, ← z]; exact ja_sg_two r hr))]
        exact jr_HS_fr f1 (by omega) (S2 r hr)
      · intro q hq hlt
        show jr_HS rows' cnt' (6 + q) (if jf_set s q = i then _ else LX (jf_set s q))
        by_cases e : jf_set s q = i
        · have : q = j := h.2.2 q j hq hj (by rw [e, ej])
          subst this
          rw [if_pos e]
          exact f2
        · rw [if_neg e]
          refine jr_HS_fr f1 ?_ (S3 q hq (by omega))
          intro z
          have : q = j := by omega
          subst this
          exact e ej
    · have hn : ∀ j, j < m → jf_set s j ≠ i := fun j hj e => hex ⟨j, hj, e⟩
      refine nm_r ((hN i (by omega) (by omega)).2 hn) (br_t (by decide) (nm_r (nI_1 i) (ih (rows, cnt, ks, gr, gs, gh) ⟨by omega, LX, jr_SX_sk hn S1, S2, fun j hj hlt => S3 j hj (by have := hn j hj; omega)⟩)))
end
end
section
/-! ===== one operator, reference's side ===== -/
def jr_F (k : Nat) (mt : Nat → Nat → Bool) (R : List Nat) (l : Nat) : List Nat := if k ≤ 2 then (R.filter (mt l)).map (fun r => l ||| r) else []
def jr_tl (k : Nat) (hit : Bool) (l : Nat) : List Nat := if hit = true then (if k = 3 then [l] else []) else (if k = 1 ∨ k = 2 ∨ k = 4 then [l] else [])
theorem jr_J_eq {k : Nat} {mt : Nat → Nat → Bool} {R : List Nat} {l : Nat} (hk : k < 5) : jr_J k mt R l = jr_F k mt R l ++ jr_tl k (R.any (mt l)) l := by
  unfold jr_J jr_F jr_tl
  by_cases h : R.any (mt l) = true
  · rw [if_pos h, if_pos h]
    by_cases h3 : k = 3
    · rw [if_pos h3, if_pos h3, if_neg (by omega)]; rfl
    · rw [if_neg h3, if_neg h3, List.append_nil]
      by_cases h4 : k = 4
      · rw [if_pos h4, if_neg (by omega)]
      · rw [if_neg h4, if_pos (by omega)]
  · rw [if_neg h, if_neg h]
    have : R.filter (mt l) = [] := by
      apply List.filter_eq_nil_iff.mpr
      intro a ha z
      exact h (List.any_eq_true.mpr ⟨a, ha, z⟩)
    rw [this, List.map_nil, ite_self, List.nil_append]
theorem jr_F_app {k : Nat} {mt : Nat → Nat → Bool} {P : List Nat} {l y : Nat} : jr_F k mt (P ++ [y]) l = jr_F k mt P l ++ (if k ≤ 2 ∧ mt l y = true then [l ||| y] else []) := by
  unfold jr_F
  by_cases h : k ≤ 2
  · rw [if_pos h, if_pos h, List.filter_append, List.map_append]
    by_cases hm : mt l y = true
    · rw [List.filter_cons_of_pos hm, if_pos ⟨h, hm⟩]; rfl
    · rw [List.filter_cons_of_neg hm, if_neg (fun z => hm z.2)]; rfl
  · rw [if_neg h, if_neg h, if_neg (fun z => h z.1)]; rfl
theorem jr_F_le {k : Nat} {mt : Nat → Nat → Bool} {P Q : List Nat} {l : Nat} : (jr_F k mt P l).length ≤ (jr_F k mt (P ++ Q) l).length := by
  unfold jr_F
  split
  · rw [List.filter_append, List.map_append, List.length_append]
    omega
  · exact Nat.le_refl _
/-- what the reference reads of an operator and of the rows -/
def jy_E (n i kd am bm : Nat) (rc : Nat → Nat) (v : Nat → Int32) (gn : Int32) (cells rowCount operators : Nat → Int32) : Prop :=
  jr_VV rc v cells ∧ n ≤ 6 ∧ gn = nI n ∧ (∀ r, rowCount r = nI (rc r)) ∧ (∀ r, rc r ≤ 4) ∧ i < 5 ∧ operators (i * 4 + 1) = nI am ∧ am < 2 ^ 31 ∧ (∀ a, am.testBit a = true → a < 2 * n) ∧
  operators (i * 4 + 2) = nI bm ∧ bm < 2 ^ 31 ∧ (∀ a, bm.testBit a = true → a < 2 * n) ∧ operators (i * 4) = nI kd ∧ kd < 10
section
variable {g_n g_rowLimit g_entries g_ops g_optimised g_hasResult : Int32} {b_cells b_rowCount b_entrySet b_entryVisible b_estimates b_operators b_sides b_inPlan b_least b_ways b_root b_rootLeft b_found b_foundCount : Nat → Int32}
variable {n i kd am bm : Nat} {rc : Nat → Nat} {v : Nat → Int32}
theorem jy_mat {post : Int32 → Prop} {x y : Nat} (hE : jy_E n i kd am bm rc v g_n b_cells b_rowCount b_operators) (hx : (∀ r, r < 6 → jr_dg x r ≤ rc r) ∧ x < 2 ^ 31) (hy : (∀ r, r < 6 → jr_dg y r ≤ rc r) ∧ y < 2 ^ 31)
    (k : post (if jr_mt (jr_kv v am) (jr_kv v bm) (decide (5 ≤ kd)) x y = true then 1 else 0)) : wpY_matches post (g_n, g_rowLimit, g_entries, g_ops, g_optimised, g_hasResult, b_cells, b_rowCount, b_entrySet, b_entryVisible, b_estimates, b_operators, b_sides, b_inPlan, b_least, b_ways, b_root, b_rootLeft, b_found, b_foundCount) (nI i) (nI x) (nI y) := by
  obtain ⟨e1, e2, e3, e4, e5, e6, e7, e8, e9, e10, e11, e12, e13, e14⟩ := hE
  exact jy_matches e1 e2 e3 e4 e5 hx.1 hx.2 hy.1 hy.2 e6 e7 e8 e9 e10 e11 e12 e13 e14 k
theorem jy_207 {post : SY → Prop} {J : Int32 → Int32 → Int32 → Int32 → Int32 → Int32 → Int32 → (Nat → Int32) → (Nat → Int32) → (Nat → Int32) → (Nat → Int32) → (Nat → Int32) → (Nat → Int32) → (Nat → Int32) → (Nat → Int32) → (Nat → Int32) → (Nat → Int32) → (Nat → Int32) → (Nat → Int32) → (Nat → Int32) → (Nat → Int32) → Prop} {A B i8 l kk : Nat} {base : List Nat} {y5 y6 : Int32} (hA : A < 64) (hB : B < 64) (h8 : i8 < 81) (el : b_found (A * 81 + i8) = nI l) (hT : jr_HS b_found b_foundCount (A ||| B) base) (hlen : base.length < 81)
    (k : ∀ f c, jr_fr (A ||| B) b_found b_foundCount f c → jr_HS f c (A ||| B) (base ++ [l]) → J (nI (i8 + 1)) g_n g_rowLimit g_entries g_ops g_optimised g_hasResult b_cells b_rowCount b_entrySet b_entryVisible b_estimates b_operators b_sides b_inPlan b_least b_ways b_root b_rootLeft (f) (c)) :
    wY_combine_207 post J (nI i) (nI A) (nI B) y5 y6 (nI kk) (nI i8) g_n g_rowLimit g_entries g_ops g_optimised g_hasResult b_cells b_rowCount b_entrySet b_entryVisible b_estimates b_operators b_sides b_inPlan b_least b_ways b_root b_rootLeft b_found b_foundCount := by
  have h64 : A ||| B < 64 := Nat.or_lt_two_pow (n := 6) hA hB
  unfold wY_combine_207
  rw [jn_81, nI_clamp (by omega), el, ja_or]
  refine ⟨vp_in_nI (by omega) (by decide), jy_add h64 hT hlen ?_⟩
  exact nm_r (nI_1 _) (k _ _ (jr_app_fr hlen) (jr_app_HS hT hlen))
theorem jy_86 {post : SY → Prop} {J : Int32 → Int32 → Int32 → Int32 → Int32 → Int32 → Int32 → (Nat → Int32) → (Nat → Int32) → (Nat → Int32) → (Nat → Int32) → (Nat → Int32) → (Nat → Int32) → (Nat → Int32) → (Nat → Int32) → (Nat → Int32) → (Nat → Int32) → (Nat → Int32) → (Nat → Int32) → (Nat → Int32) → (Nat → Int32) → Prop} {A B i8 l kk : Nat} {base R : List Nat} {y5 : Int32} (hE : jy_E n i kd am bm rc v g_n b_cells b_rowCount b_operators) (hk : kk < 5)
    (hA : A < 64) (hB : B < 64) (nA : A ≠ A ||| B) (nB : B ≠ A ||| B) (hd : ja_dj A B) (h8 : i8 < 81) (el : b_found (A * 81 + i8) = nI l) (hl : jr_ok A rc l) (hR : jr_HS b_found b_foundCount B R) (hRo : ∀ y, y ∈ R → jr_ok B rc y)
    (hT : jr_HS b_found b_foundCount (A ||| B) base) (hlen : (base ++ jr_J kk (jr_mt (jr_kv v am) (jr_kv v bm) (decide (5 ≤ kd))) R l).length ≤ 81)
    (k : ∀ f c, jr_fr (A ||| B) b_found b_foundCount f c → jr_HS f c (A ||| B) (base ++ jr_J kk (jr_mt (jr_kv v am) (jr_kv v bm) (decide (5 ≤ kd))) R l) → J (nI (i8 + 1)) g_n g_rowLimit g_entries g_ops g_optimised g_hasResult b_cells b_rowCount b_entrySet b_entryVisible b_estimates b_operators b_sides b_inPlan b_least b_ways b_root b_rootLeft (f) (c)) :
    ∃ m, wY_combine_86 post J (nI i) (nI A) (nI B) y5 (nI R.length) (nI kk) (nI i8) m 0 0 g_n g_rowLimit g_entries g_ops g_optimised g_hasResult b_cells b_rowCount b_entrySet b_entryVisible b_estimates b_operators b_sides b_inPlan b_least b_ways b_root b_rootLeft b_found b_foundCount := by
  have h64 : A ||| B < 64 := Nat.or_lt_two_pow (n := 6) hA hB
  have hR81 := hR.2.1
  generalize hmt : jr_mt (jr_kv v am) (jr_kv v bm) (decide (5 ≤ kd)) = mt at hlen k
  rw [jr_J_eq hk] at hlen k
  rw [List.length_append, List.length_append] at hlen
  refine jr_lw0 (fun m j (st : Int32 × (Nat → Int32) × (Nat → Int32)) => wY_combine_86 post J (nI i) (nI A) (nI B) y5 (nI R.length) (nI kk) (nI i8) m st.1 (nI j) g_n g_rowLimit g_entries g_ops g_optimised g_hasResult b_cells b_rowCount b_entrySet b_entryVisible b_estimates b_operators b_sides b_inPlan b_least b_ways b_root b_rootLeft (st.2.1) (st.2.2)) R
    (fun P st => st.1 = (if P.any (mt l) = true then 1 else 0) ∧ jr_HS st.2.1 st.2.2 (A ||| B) (base ++ jr_F kk mt P l) ∧ jr_fr (A ||| B) b_found b_foundCount st.2.1 st.2.2) (0, b_found, b_foundCount) ⟨rfl, ?_, jr_fr_rfl⟩ ?_ ?_
  · show jr_HS b_found b_foundCount (A ||| B) (base ++ jr_F kk mt [] l)
    have : jr_F kk mt [] l = [] := by unfold jr_F; split <;> rfl
    rw [this, List.append_nil]
    exact hT
  · rintro m ⟨hit, f, c⟩ ⟨h1, h2, h3⟩
    dsimp only at h1 h2 h3
    have el' : f (A * 81 + i8) = nI l := by rw [h3.2 A i8 nA h8]; exact el
    have hap : jr_tl kk (R.any (mt l)) l = [l] → wY_combine_207 post J (nI i) (nI A) (nI B) y5 (nI R.length) (nI kk) (nI i8) g_n g_rowLimit g_entries g_ops g_optimised g_hasResult b_cells b_rowCount b_entrySet b_entryVisible b_estimates b_operators b_sides b_inPlan b_least b_ways b_root b_rootLeft (f) (c) := by
      intro ht
      rw [ht] at hlen k
      have hll : (base ++ jr_F kk mt R l).length < 81 := by
        rw [List.length_append]
        have : [l].length = 1 := rfl
        omega
      refine jy_207 hA hB h8 el' h2 hll ?_
      intro f' c' a b
      rw [List.append_assoc] at b
      exact k f' c' (jr_fr_tr h3 a) b
    have hno : jr_tl kk (R.any (mt l)) l = [] → J (nI (i8 + 1)) g_n g_rowLimit g_entries g_ops g_optimised g_hasResult b_cells b_rowCount b_entrySet b_entryVisible b_estimates b_operators b_sides b_inPlan b_least b_ways b_root b_rootLeft (f) (c) := by
      intro ht
      rw [ht, List.append_nil] at k
      exact k f c h3 h2
    unfold jr_tl at hap hno
    refine br_t (nI_le (Nat.le_refl _) (by omega)) ?_
    by_cases hh : R.any (mt l) = true
    · rw [if_pos hh] at h1 hap hno
      rw [h1]
      refine br_f (show ¬ (1 : Int32) = 0 by decide) (pk_eq kk 3 (fun z => hap (if_pos z)) (fun z => nm_r (nI_1 _) (hno (if_neg z))))
    · rw [if_neg hh] at h1 hap hno
      rw [h1]
      refine br_t rfl (pk_eq kk 1 (fun z => hap (if_pos (Or.inl z))) (fun z1 => pk_eq kk 2 (fun z => hap (if_pos (Or.inr (Or.inl z)))) (fun z2 => pk_eq kk 4 (fun z => hap (if_pos (Or.inr (Or.inr z)))) (fun z3 => nm_r (nI_1 _) (hno (if_neg (by omega)))))))
  · rintro m P y Q ⟨hit, f, c⟩ e ⟨h1, h2, h3⟩ ih
    dsimp only at h1 h2 h3
    have hll : P.length + (Q.length + 1) = R.length := by rw [e, List.length_append]; rfl
    have el' : f (A * 81 + i8) = nI l := by rw [h3.2 A i8 nA h8]; exact el
    have ey : f (B * 81 + P.length) = nI y := by
      rw [h3.2 B P.length nB (by omega)]
      have := hR.2.2
      rw [e] at this
      exact jr_sl_1 this
    have hyo := hRo y (by rw [e]; exact List.mem_append.mpr (Or.inr List.mem_cons_self))
    refine br_f (nI_ge (by omega) (by omega)) ?_
    dsimp only
    rw [jn_81, jn_81, nI_clamp (n := A * 81 + i8) (by omega), nI_clamp (n := B * 81 + P.length) (by omega), el', ey, jr_add hd hl.2.1 hyo.2.1, ja_or]
    refine ⟨vp_in_nI (by omega) (by decide), vp_in_nI (by omega) (by decide), ?_⟩
    refine jy_mat hE (jr_ok31 hl) (jr_ok31 hyo) ?_
    rw [hmt]
    have hany : (P ++ [y]).any (mt l) = (P.any (mt l) || mt l y) := by rw [List.any_append, List.any_cons, List.any_nil, Bool.or_false]
    by_cases hm : mt l y = true
    · rw [if_pos hm]
      have h1' : (1 : Int32) = (if (P ++ [y]).any (mt l) = true then 1 else 0) := by rw [hany, hm, Bool.or_true, if_pos rfl]
      refine br_f (by decide) (pk_lt 2 kk (fun z => nm_r (nI_1 _) (ih (1, f, c) ⟨h1', ?_, h3⟩)) (fun z => ⟨vp_in_nI (by omega) (by decide), vp_in_nI (by omega) (by decide), ?_⟩))
      · show jr_HS f c (A ||| B) (base ++ jr_F kk mt (P ++ [y]) l)
        rw [jr_F_app, if_neg (by omega), List.append_nil]
        exact h2
      · have hl1 : (base ++ jr_F kk mt P l).length < 81 := by
          have a1 := jr_F_le (k := kk) (mt := mt) (P := P ++ [y]) (Q := Q) (l := l)
          rw [List.append_assoc, show [y] ++ Q = y :: Q from rfl, ← e, jr_F_app, if_pos ⟨z, hm⟩, List.length_append] at a1
          have : [l ||| y].length = 1 := rfl
          rw [List.length_append]
          omega
        refine jy_add h64 h2 hl1 ?_
        refine nm_r (nI_1 _) (ih (1, _, _) ⟨h1', ?_, jr_fr_tr h3 (jr_app_fr hl1)⟩)
        show jr_HS _ _ (A ||| B) (base ++ jr_F kk mt (P ++ [y]) l)
        rw [jr_F_app, if_pos ⟨z, hm⟩, ← List.append_assoc]
        exact jr_app_HS h2 hl1
    · rw [if_neg hm]
      refine br_t rfl (nm_r (nI_1 _) (ih (hit, f, c) ⟨?_, ?_, h3⟩))
      · rw [hany, show mt l y = false from by cases z : mt l y; rfl; exact absurd z hm, Bool.or_false]
        exact h1
      · show jr_HS f c (A ||| B) (base ++ jr_F kk mt (P ++ [y]) l)
        rw [jr_F_app, if_neg (fun z => hm z.2), List.append_nil]
        exact h2
theorem jy_255 {post : SY → Prop} {J : Int32 → Int32 → Int32 → Int32 → Int32 → Int32 → Int32 → (Nat → Int32) → (Nat → Int32) → (Nat → Int32) → (Nat → Int32) → (Nat → Int32) → (Nat → Int32) → (Nat → Int32) → (Nat → Int32) → (Nat → Int32) → (Nat → Int32) → (Nat → Int32) → (Nat → Int32) → (Nat → Int32) → (Nat → Int32) → Prop} {A B i8 r kk : Nat} {base L : List Nat} {y6 : Int32} (hE : jy_E n i kd am bm rc v g_n b_cells b_rowCount b_operators)
    (hA : A < 64) (hB : B < 64) (h8 : i8 < 81) (er : b_found (B * 81 + i8) = nI r) (hr : jr_ok B rc r) (hL : jr_HS b_found b_foundCount A L) (hLo : ∀ y, y ∈ L → jr_ok A rc y)
    (hT : jr_HS b_found b_foundCount (A ||| B) base) (hlen : (base ++ (if L.any (fun l => jr_mt (jr_kv v am) (jr_kv v bm) (decide (5 ≤ kd)) l r) = true then [] else [r])).length ≤ 81)
    (k : ∀ f c, jr_fr (A ||| B) b_found b_foundCount f c → jr_HS f c (A ||| B) (base ++ (if L.any (fun l => jr_mt (jr_kv v am) (jr_kv v bm) (decide (5 ≤ kd)) l r) = true then [] else [r])) → J (nI (i8 + 1)) g_n g_rowLimit g_entries g_ops g_optimised g_hasResult b_cells b_rowCount b_entrySet b_entryVisible b_estimates b_operators b_sides b_inPlan b_least b_ways b_root b_rootLeft (f) (c)) :
    ∃ m, wY_combine_255 post J (nI i) (nI A) (nI B) (nI L.length) y6 (nI kk) (nI i8) g_n g_rowLimit g_entries g_ops g_optimised g_hasResult b_cells b_rowCount b_entrySet b_entryVisible b_estimates b_operators b_sides b_inPlan b_least b_ways b_root b_rootLeft b_found b_foundCount m 0 0 := by
  have h64 : A ||| B < 64 := Nat.or_lt_two_pow (n := 6) hA hB
  have hL81 := hL.2.1
  generalize hmt : jr_mt (jr_kv v am) (jr_kv v bm) (decide (5 ≤ kd)) = mt at hlen k
  refine jr_lw0 (fun m j hit => wY_combine_255 post J (nI i) (nI A) (nI B) (nI L.length) y6 (nI kk) (nI i8) g_n g_rowLimit g_entries g_ops g_optimised g_hasResult b_cells b_rowCount b_entrySet b_entryVisible b_estimates b_operators b_sides b_inPlan b_least b_ways b_root b_rootLeft b_found b_foundCount m hit (nI j)) L
    (fun P hit => hit = (if P.any (fun l => mt l r) = true then 1 else 0)) 0 rfl ?_ ?_
  · intro m hit h1
    refine br_t (nI_le (Nat.le_refl _) (by omega)) ?_
    by_cases hh : L.any (fun l => mt l r) = true
    · rw [if_pos hh] at h1 k
      rw [h1]
      rw [List.append_nil] at k
      exact br_f (by decide) (nm_r (nI_1 _) (k _ _ jr_fr_rfl hT))
    · rw [if_neg hh] at h1 k hlen
      rw [h1, jn_81, nI_clamp (by omega), er, ja_or]
      have hll : base.length < 81 := by rw [List.length_append] at hlen; exact hlen
      exact br_t rfl ⟨vp_in_nI (by omega) (by decide), jy_add h64 hT hll (nm_r (nI_1 _) (k _ _ (jr_app_fr hll) (jr_app_HS hT hll)))⟩
  · intro m P y Q hit e h1 ih
    have hll : P.length + (Q.length + 1) = L.length := by rw [e, List.length_append]; rfl
    have ey : b_found (A * 81 + P.length) = nI y := by
      have := hL.2.2
      rw [e] at this
      exact jr_sl_1 this
    have hyo := hLo y (by rw [e]; exact List.mem_append.mpr (Or.inr List.mem_cons_self))
    refine br_f (nI_ge (by omega) (by omega)) ?_
    rw [jn_81, jn_81, nI_clamp (n := A * 81 + P.length) (by omega), nI_clamp (n := B * 81 + i8) (by omega), ey, er]
    refine ⟨vp_in_nI (by omega) (by decide), vp_in_nI (by omega) (by decide), jy_mat hE (jr_ok31 hyo) (jr_ok31 hr) ?_⟩
    rw [hmt]
    have hany : (P ++ [y]).any (fun l => mt l r) = (P.any (fun l => mt l r) || mt y r) := by rw [List.any_append, List.any_cons, List.any_nil, Bool.or_false]
    by_cases hm : mt y r = true
    · rw [if_pos hm]
      refine br_f (by decide) (nm_r (nI_1 _) (ih 1 ?_))
      rw [hany, hm, Bool.or_true, if_pos rfl]
    · rw [if_neg hm]
      refine br_t rfl (nm_r (nI_1 _) (ih hit ?_))
      rw [hany, show mt y r = false from by cases z : mt y r; rfl; exact absurd z hm, Bool.or_false]
      exact h1
end
end
section
/-! ===== the reference's run ===== -/
section
variable {g_n g_rowLimit g_entries g_ops g_optimised g_hasResult : Int32} {b_cells b_rowCount b_entrySet b_entryVisible b_estimates b_operators b_sides b_inPlan b_least b_ways b_root b_rootLeft b_found b_foundCount : Nat → Int32}
variable {n i kd am bm : Nat} {rc : Nat → Nat} {v : Nat → Int32}
theorem jy_236 {post : SY → Prop} {A B kk : Nat} {main L R : List Nat} (hE : jy_E n i kd am bm rc v g_n b_cells b_rowCount b_operators)
    (hA : A < 64) (hB : B < 64) (hk : kk < 5) (nA : A ≠ A ||| B) (nB : B ≠ A ||| B) (hL : jr_HS b_found b_foundCount A L) (hLo : ∀ y, y ∈ L → jr_ok A rc y) (hR : jr_HS b_found b_foundCount B R) (hRo : ∀ y, y ∈ R → jr_ok B rc y)
    (hT : jr_HS b_found b_foundCount (A ||| B) main) (hlen : (main ++ (if kk = 2 then R.filter (fun r => !(L.any (fun l => jr_mt (jr_kv v am) (jr_kv v bm) (decide (5 ≤ kd)) l r))) else [])).length ≤ 81)
    (k : ∀ f c, jr_fr (A ||| B) b_found b_foundCount f c → jr_HS f c (A ||| B) (main ++ (if kk = 2 then R.filter (fun r => !(L.any (fun l => jr_mt (jr_kv v am) (jr_kv v bm) (decide (5 ≤ kd)) l r))) else [])) → post (g_n, g_rowLimit, g_entries, g_ops, g_optimised, g_hasResult, b_cells, b_rowCount, b_entrySet, b_entryVisible, b_estimates, b_operators, b_sides, b_inPlan, b_least, b_ways, b_root, b_rootLeft, f, c)) :
    ∃ m, wY_combine_236 post (nI i) (nI A) (nI B) (nI L.length) (nI R.length) (nI kk) m 0 g_n g_rowLimit g_entries g_ops g_optimised g_hasResult b_cells b_rowCount b_entrySet b_entryVisible b_estimates b_operators b_sides b_inPlan b_least b_ways b_root b_rootLeft b_found b_foundCount := by
  have hR81 := hR.2.1
  by_cases h2 : kk = 2
  · rw [if_pos h2] at hlen k
    have e2 : nI kk = 2 := by rw [h2]; rfl
    generalize hun : (fun r => !(L.any (fun l => jr_mt (jr_kv v am) (jr_kv v bm) (decide (5 ≤ kd)) l r))) = un at hlen k
    refine jr_lw0 (fun m j (st : (Nat → Int32) × (Nat → Int32)) => wY_combine_236 post (nI i) (nI A) (nI B) (nI L.length) (nI R.length) (nI kk) m (nI j) g_n g_rowLimit g_entries g_ops g_optimised g_hasResult b_cells b_rowCount b_entrySet b_entryVisible b_estimates b_operators b_sides b_inPlan b_least b_ways b_root b_rootLeft (st.1) (st.2)) R
      (fun P st => jr_HS st.1 st.2 (A ||| B) (main ++ P.filter un) ∧ jr_fr (A ||| B) b_found b_foundCount st.1 st.2) (b_found, b_foundCount) ⟨by show jr_HS _ _ _ (main ++ []); rw [List.append_nil]; exact hT, jr_fr_rfl⟩ ?_ ?_
    · rintro m ⟨f, c⟩ ⟨h1, h3⟩
      exact br_t e2 (br_t (nI_le (Nat.le_refl _) (by omega)) (k f c h3 h1))
    · rintro m P y Q ⟨f, c⟩ e ⟨h1, h3⟩ ih
      dsimp only at h1 h3
      have hll : P.length + (Q.length + 1) = R.length := by rw [e, List.length_append]; rfl
      have ey : f (B * 81 + P.length) = nI y := by
        rw [h3.2 B P.length nB (by omega)]
        have := hR.2.2
        rw [e] at this
        exact jr_sl_1 this
      have hyo := hRo y (by rw [e]; exact List.mem_append.mpr (Or.inr List.mem_cons_self))
      have hf : (P ++ [y]).filter un = P.filter un ++ (if L.any (fun l => jr_mt (jr_kv v am) (jr_kv v bm) (decide (5 ≤ kd)) l y) = true then [] else [y]) := by
        rw [List.filter_append]
        congr 1
        have eu : un y = !(L.any (fun l => jr_mt (jr_kv v am) (jr_kv v bm) (decide (5 ≤ kd)) l y)) := by rw [← hun]
        by_cases z : L.any (fun l => jr_mt (jr_kv v am) (jr_kv v bm) (decide (5 ≤ kd)) l y) = true
        · rw [if_pos z, List.filter_cons_of_neg (by rw [eu, z]; decide)]
          rfl
        · rw [if_neg z, List.filter_cons_of_pos (by rw [eu, Bool.eq_false_iff.mpr z]; rfl)]
          rfl
      refine br_t e2 (br_f (nI_ge (by omega) (by omega)) ?_)
      refine jy_255 hE hA hB (by omega) ey hyo (jr_HS_fr h3 nA hL) hLo h1 ?_ ?_
      · rw [List.append_assoc, ← hf, List.length_append]
        rw [e, show P ++ y :: Q = (P ++ [y]) ++ Q from by rw [List.append_assoc]; rfl, List.filter_append (l₁ := P ++ [y]), List.length_append, List.length_append] at hlen
        omega
      · intro f' c' a b
        refine ih (f', c') ⟨?_, jr_fr_tr h3 a⟩
        rw [hf, ← List.append_assoc]
        exact b
  · rw [if_neg h2, List.append_nil] at k
    refine ⟨1, br_f (fun z => h2 ?_) (k _ _ jr_fr_rfl hT)⟩
    exact (nI_eq (b := 2) (by omega) (by decide)).mp z
theorem jy_73 {post : SY → Prop} {A B kk : Nat} {L R : List Nat} (hE : jy_E n i kd am bm rc v g_n b_cells b_rowCount b_operators)
    (hA : A < 64) (hB : B < 64) (hk : kk < 5) (nA : A ≠ A ||| B) (nB : B ≠ A ||| B) (hd : ja_dj A B) (hL : jr_HS b_found b_foundCount A L) (hLo : ∀ y, y ∈ L → jr_ok A rc y) (hR : jr_HS b_found b_foundCount B R) (hRo : ∀ y, y ∈ R → jr_ok B rc y)
    (hT : jr_HS b_found b_foundCount (A ||| B) []) (hlen : (jr_OY kk (jr_mt (jr_kv v am) (jr_kv v bm) (decide (5 ≤ kd))) L R).length ≤ 81)
    (k : ∀ f c, jr_fr (A ||| B) b_found b_foundCount f c → jr_HS f c (A ||| B) (jr_OY kk (jr_mt (jr_kv v am) (jr_kv v bm) (decide (5 ≤ kd))) L R) → post (g_n, g_rowLimit, g_entries, g_ops, g_optimised, g_hasResult, b_cells, b_rowCount, b_entrySet, b_entryVisible, b_estimates, b_operators, b_sides, b_inPlan, b_least, b_ways, b_root, b_rootLeft, f, c)) :
    ∃ m, wY_combine_73 post (nI i) (nI A) (nI B) (nI L.length) (nI R.length) (nI kk) m 0 g_n g_rowLimit g_entries g_ops g_optimised g_hasResult b_cells b_rowCount b_entrySet b_entryVisible b_estimates b_operators b_sides b_inPlan b_least b_ways b_root b_rootLeft b_found b_foundCount := by
  have hL81 := hL.2.1
  unfold jr_OY at hlen k
  refine jr_lw0 (fun m j (st : (Nat → Int32) × (Nat → Int32)) => wY_combine_73 post (nI i) (nI A) (nI B) (nI L.length) (nI R.length) (nI kk) m (nI j) g_n g_rowLimit g_entries g_ops g_optimised g_hasResult b_cells b_rowCount b_entrySet b_entryVisible b_estimates b_operators b_sides b_inPlan b_least b_ways b_root b_rootLeft (st.1) (st.2)) L
    (fun P st => jr_HS st.1 st.2 (A ||| B) (P.flatMap (jr_J kk (jr_mt (jr_kv v am) (jr_kv v bm) (decide (5 ≤ kd))) R)) ∧ jr_fr (A ||| B) b_found b_foundCount st.1 st.2) (b_found, b_foundCount) ⟨hT, jr_fr_rfl⟩ ?_ ?_
  · rintro m ⟨f, c⟩ ⟨h1, h3⟩
    dsimp only at h1 h3
    refine br_t (nI_le (Nat.le_refl _) (by omega)) (jy_236 hE hA hB hk nA nB (jr_HS_fr h3 nA hL) hLo (jr_HS_fr h3 nB hR) hRo h1 hlen ?_)
    intro f' c' a b
    exact k f' c' (jr_fr_tr h3 a) b
  · rintro m P x Q ⟨f, c⟩ e ⟨h1, h3⟩ ih
    dsimp only at h1 h3
    have hll : P.length + (Q.length + 1) = L.length := by rw [e, List.length_append]; rfl
    have ex : f (A * 81 + P.length) = nI x := by
      rw [h3.2 A P.length nA (by omega)]
      have := hL.2.2
      rw [e] at this
      exact jr_sl_1 this
    have hxo := hLo x (by rw [e]; exact List.mem_append.mpr (Or.inr List.mem_cons_self))
    have ef : (P ++ [x]).flatMap (jr_J kk (jr_mt (jr_kv v am) (jr_kv v bm) (decide (5 ≤ kd))) R) = P.flatMap (jr_J kk (jr_mt (jr_kv v am) (jr_kv v bm) (decide (5 ≤ kd))) R) ++ jr_J kk (jr_mt (jr_kv v am) (jr_kv v bm) (decide (5 ≤ kd))) R x := by
      rw [List.flatMap_append, List.flatMap_cons, List.flatMap_nil, List.append_nil]
    refine br_f (nI_ge (by omega) (by omega)) (jy_86 hE hk hA hB nA nB hd (by omega) ex hxo (jr_HS_fr h3 nB hR) hRo h1 ?_ ?_)
    · rw [← ef]
      rw [List.length_append] at hlen
      have : (L.flatMap (jr_J kk (jr_mt (jr_kv v am) (jr_kv v bm) (decide (5 ≤ kd))) R)).length = ((P ++ [x]).flatMap (jr_J kk (jr_mt (jr_kv v am) (jr_kv v bm) (decide (5 ≤ kd))) R)).length + (Q.flatMap (jr_J kk (jr_mt (jr_kv v am) (jr_kv v bm) (decide (5 ≤ kd))) R)).length := by
        rw [← List.length_append, ← List.flatMap_append, e, List.append_assoc]
        rfl
      omega
    · intro f' c' a b
      refine ih (f', c') ⟨?_, jr_fr_tr h3 a⟩
      rw [ef]
      exact b
theorem jy_comb {post : SY → Prop} {w A B : Nat} {L R : List Nat} (hE : jy_E n i kd am bm rc v g_n b_cells b_rowCount b_operators) (hw : w < 2) (eA : b_sides (10 * w + 2 * i) = nI A) (eB : b_sides (10 * w + (2 * i + 1)) = nI B)
    (hA : A < 64) (hB : B < 64) (nA : A ≠ A ||| B) (nB : B ≠ A ||| B) (hd : ja_dj A B) (hL : jr_HS b_found b_foundCount A L) (hLo : ∀ y, y ∈ L → jr_ok A rc y) (hR : jr_HS b_found b_foundCount B R) (hRo : ∀ y, y ∈ R → jr_ok B rc y)
    (hlen : (jr_OY (kd % 5) (jr_mt (jr_kv v am) (jr_kv v bm) (decide (5 ≤ kd))) L R).length ≤ 81)
    (k : ∀ f c, jr_fr (A ||| B) b_found b_foundCount f c → jr_HS f c (A ||| B) (jr_OY (kd % 5) (jr_mt (jr_kv v am) (jr_kv v bm) (decide (5 ≤ kd))) L R) → post (g_n, g_rowLimit, g_entries, g_ops, g_optimised, g_hasResult, b_cells, b_rowCount, b_entrySet, b_entryVisible, b_estimates, b_operators, b_sides, b_inPlan, b_least, b_ways, b_root, b_rootLeft, f, c)) :
    wpY_combine post (g_n, g_rowLimit, g_entries, g_ops, g_optimised, g_hasResult, b_cells, b_rowCount, b_entrySet, b_entryVisible, b_estimates, b_operators, b_sides, b_inPlan, b_least, b_ways, b_root, b_rootLeft, b_found, b_foundCount) (nI w) (nI i) := by
  have h64 : A ||| B < 64 := Nat.or_lt_two_pow (n := 6) hA hB
  have hi : i < 5 := hE.2.2.2.2.2.1
  have ekd : b_operators (i * 4) = nI kd := hE.2.2.2.2.2.2.2.2.2.2.2.2.1
  have hkd : kd < 10 := hE.2.2.2.2.2.2.2.2.2.2.2.2.2
  have e1 : nI w * 10 + nI i * 2 = nI (10 * w + 2 * i) := by
    rw [show nI i * 2 = nI (i * 2) from pk_mul i 2, show nI w * 10 + nI (i * 2) = nI (w * 10 + i * 2) from jn_ma w 10 _]
    congr 1
    omega
  have e2 : nI (10 * w + 2 * i) + 1 = nI (10 * w + (2 * i + 1)) := nI_1 _
  have e4 : nI i * 4 = nI (i * 4) := pk_mul i 4
  have e5 : nI kd - nI kd / 5 * 5 = nI (kd % 5) := pk_rem (d := 5) (by omega) (by decide) (by decide)
  unfold wpY_combine
  dsimp only
  rw [e1, e2, e4, nI_clamp (n := 10 * w + 2 * i) (by omega), nI_clamp (n := 10 * w + (2 * i + 1)) (by omega), nI_clamp (n := i * 4) (by omega), eA, eB, ekd, e5]
  refine ⟨vp_in_nI (by omega) (by decide), nm_e ⟨vp_in_nI (by omega) (by decide), nm_e ⟨vp_in_nI hA (by decide), nm_r ((jn_at rfl (by omega)).trans hL.1) ⟨vp_in_nI hB (by decide), nm_r ((jn_at rfl (by omega)).trans hR.1) ⟨vp_in_nI (by omega) (by decide), by decide, nm_e ?_⟩⟩⟩⟩⟩
  rw [ja_or]
  refine ⟨vp_in_nI h64 (by decide), nm_r (jn_up rfl (by omega)) ?_⟩
  refine jy_73 hE hA hB (Nat.mod_lt _ (by decide)) nA nB hd (jr_HS_fr jr_clr_fr nA hL) hLo (jr_HS_fr jr_clr_fr nB hR) hRo jr_clr_HS hlen ?_
  intro f c a b
  exact k f c (jr_fr_tr jr_clr_fr a) b
theorem jy_below {post : Int32 → Prop} {w q A B : Nat} (hw : w < 2) (hq : q < 5) (eA : b_sides (10 * w + 2 * q) = nI A) (eB : b_sides (10 * w + (2 * q + 1)) = nI B) (k : post (nI (A ||| B))) : wpY_below post (g_n, g_rowLimit, g_entries, g_ops, g_optimised, g_hasResult, b_cells, b_rowCount, b_entrySet, b_entryVisible, b_estimates, b_operators, b_sides, b_inPlan, b_least, b_ways, b_root, b_rootLeft, b_found, b_foundCount) (nI w) (nI q) := by
  have e1 : nI w * 10 + nI q * 2 = nI (10 * w + 2 * q) := by
    rw [show nI q * 2 = nI (q * 2) from pk_mul q 2, show nI w * 10 + nI (q * 2) = nI (w * 10 + q * 2) from jn_ma w 10 _]
    congr 1
    omega
  have e2 : nI (10 * w + 2 * q) + 1 = nI (10 * w + (2 * q + 1)) := nI_1 _
  unfold wpY_below
  dsimp only
  rw [e1, e2, nI_clamp (n := 10 * w + 2 * q) (by omega), nI_clamp (n := 10 * w + (2 * q + 1)) (by omega), eA, eB, ja_or]
  exact ⟨vp_in_nI (by omega) (by decide), vp_in_nI (by omega) (by decide), k⟩
theorem jy_40 {post : Int32 → SY → Prop} {J : Int32 → Int32 → Int32 → Int32 → Int32 → Int32 → Int32 → (Nat → Int32) → (Nat → Int32) → (Nat → Int32) → (Nat → Int32) → (Nat → Int32) → (Nat → Int32) → (Nat → Int32) → (Nat → Int32) → (Nat → Int32) → (Nat → Int32) → (Nat → Int32) → (Nat → Int32) → (Nat → Int32) → (Nat → Int32) → Prop} {r c : Nat} {x1 : Int32} (hr : r < 6) (hc : c ≤ 4) (erc : b_rowCount r = nI c) (h0 : jr_HS b_found b_foundCount (2 ^ r) [])
    (k : ∀ f d, jr_fr (2 ^ r) b_found b_foundCount f d → jr_HS f d (2 ^ r) (jr_lf r c) → J (nI (r + 1)) g_n g_rowLimit g_entries g_ops g_optimised g_hasResult b_cells b_rowCount b_entrySet b_entryVisible b_estimates b_operators b_sides b_inPlan b_least b_ways b_root b_rootLeft (f) (d)) :
    ∃ m, wY_run_40 post J x1 (nI r) m 1 g_n g_rowLimit g_entries g_ops g_optimised g_hasResult b_cells b_rowCount b_entrySet b_entryVisible b_estimates b_operators b_sides b_inPlan b_least b_ways b_root b_rootLeft b_found b_foundCount := by
  have p6 := ja_p64 r hr
  refine loop_0 (fun m j (st : (Nat → Int32) × (Nat → Int32)) => wY_run_40 post J x1 (nI r) m (nI (j + 1)) g_n g_rowLimit g_entries g_ops g_optimised g_hasResult b_cells b_rowCount b_entrySet b_entryVisible b_estimates b_operators b_sides b_inPlan b_least b_ways b_root b_rootLeft (st.1) (st.2))
    (fun j st => jr_HS st.1 st.2 (2 ^ r) (jr_lf r j) ∧ jr_fr (2 ^ r) b_found b_foundCount st.1 st.2) c (b_found, b_foundCount) ⟨h0, jr_fr_rfl⟩ ?_ ?_
  · rintro m ⟨f, d⟩ ⟨h1, h2⟩
    show vp_in _ _ ∧ _
    rw [nI_clamp (n := r) (by omega), erc]
    exact ⟨vp_in_nI hr (by decide), br_t (nI_lt (by omega) (by omega)) (nm_r (nI_1 r) (k f d h2 h1))⟩
  · rintro m j ⟨f, d⟩ hj ⟨h1, h2⟩ ih
    have es : nI (j + 1) <<< ((15 - (3 * nI r)) &&& 31) = nI ((j + 1) * 2 ^ (15 - 3 * r)) := by
      rw [show (3 : Int32) * nI r = nI (3 * r) from pk_mul 3 r, show (15 : Int32) - nI (3 * r) = nI (15 - 3 * r) from pk_sub (a := 15) (by omega)]
      refine pk_shlN _ (15 - 3 * r) (s_l _ (by omega)) ?_
      have := (jr_lf_a r hr j (by omega)).2.1
      omega
    have hll : (jr_lf r j).length < 81 := by unfold jr_lf; rw [List.length_map, List.length_range]; omega
    show vp_in _ _ ∧ _
    rw [nI_clamp (n := r) (by omega), erc, es, ja_sh r (by omega)]
    refine ⟨vp_in_nI hr (by decide), br_f (nI_nlt (by omega) (by omega)) (jy_add p6.1 h1 hll ?_)⟩
    refine nm_r (nI_1 _) (ih (_, _) ⟨?_, jr_fr_tr h2 (jr_app_fr hll)⟩)
    have el : jr_lf r (j + 1) = jr_lf r j ++ [(j + 1) * 2 ^ (15 - 3 * r)] := by
      unfold jr_lf
      rw [List.range_succ, List.map_append]
      rfl
    rw [el]
    exact jr_app_HS h1 hll
end
end
section
/-! ===== the reference's run, whole ===== -/
def jr_SYD (n m : Nat) (s kd la ra rc : Nat → Nat) (v : Nat → Int32) (D : Nat → Prop) (LY : Nat → List Nat) : Prop :=
  (∀ r, r < n → LY (2 ^ r) = jr_lf r (rc r)) ∧ ∀ i, i < m → D i → LY (jf_set s i) = jr_OY (kd i % 5) (jr_mt (jr_kv v (la i)) (jr_kv v (ra i)) (decide (5 ≤ kd i))) (LY (s (2 * i))) (LY (s (2 * i + 1)))
theorem jr_SYD_up {n m U t j : Nat} {s kd la ra rc : Nat → Nat} {v : Nat → Int32} {LY : Nat → List Nat} {D D' : Nat → Prop} (h : jr_TW m U s) (hU : U < 64) (hn : n ≤ 6) (hj : j < m) (ht : jf_set s j = t) (hD : ∀ i, i < m → D i → jf_set s i ≤ t)
    (hD' : ∀ i, i < m → D' i → D i ∨ i = j) (hS : jr_SYD n m s kd la ra rc v D LY) :
    jr_SYD n m s kd la ra rc v D' (fun T => if T = t then jr_OY (kd j % 5) (jr_mt (jr_kv v (la j)) (jr_kv v (ra j)) (decide (5 ≤ kd j))) (LY (s (2 * j))) (LY (s (2 * j + 1))) else LY T) := by
  have tw := fun i hi => jr_TWs h hU (i := i) hi
  constructor
  · intro r hr
    show (if 2 ^ r = t then _ else LY (2 ^ r)) = _
    rw [if_neg (fun z => (tw j hj).1 (by rw [ht, ← z]; exact ja_sg_two r (by omega)))]
    exact hS.1 r hr
  · intro i hi hd
    obtain ⟨_, l1, l2, _, _⟩ := tw i hi
    have hle : jf_set s i ≤ t := by
      rcases hD' i hi hd with z | z
      · exact hD i hi z
      · rw [z, ht]; exact Nat.le_refl _
    show (if jf_set s i = t then _ else LY (jf_set s i)) = jr_OY _ _ (if s (2 * i) = t then _ else LY (s (2 * i))) (if s (2 * i + 1) = t then _ else LY (s (2 * i + 1)))
    rw [if_neg (show ¬ s (2 * i) = t by omega), if_neg (show ¬ s (2 * i + 1) = t by omega)]
    by_cases e : jf_set s i = t
    · have : i = j := h.2.2 i j hi hj (by rw [e, ht])
      subst this
      rw [if_pos e]
    · rw [if_neg e]
      refine hS.2 i hi ((hD' i hi hd).elim id fun z => ?_)
      rw [z, ht] at e
      exact absurd rfl e
theorem jr_SYD_mono {n m : Nat} {s kd la ra rc : Nat → Nat} {v : Nat → Int32} {LY : Nat → List Nat} {D D' : Nat → Prop} (hD : ∀ i, i < m → D' i → D i) (hS : jr_SYD n m s kd la ra rc v D LY) : jr_SYD n m s kd la ra rc v D' LY :=
  ⟨hS.1, fun i hi hd => hS.2 i hi (hD i hi hd)⟩
theorem jr_SYD_OK {n m U t : Nat} {s kd la ra rc : Nat → Nat} {v : Nat → Int32} {LY : Nat → List Nat} {D : Nat → Prop} (h : jr_TW m U s) (hU : U < 64) (hn : n ≤ 6) (hUn : U < 2 ^ n) (h4 : ∀ r, rc r ≤ 4) (h12 : ja_sm rc 6 ≤ 12)
    (hS : jr_SYD n m s kd la ra rc v D LY) (hD : ∀ i, i < m → jf_set s i < t → D i) {T : Nat} (hT : jf_nd m s T) (hs : ja_sub T U) (ht : T < t) : jr_OK T rc (LY T) :=
  jr_SY_OK (kd := kd) (la := la) (ra := ra) (v := v) h hU hn hUn h4 h12 (jr_SYD_mono hD hS) T hT hs (Or.inl ht)
/-- where a node's rows lie -/
theorem jr_nd_HS {n m U T t : Nat} {s : Nat → Nat} {f c : Nat → Int32} {LY : Nat → List Nat} (hUn : U < 2 ^ n) (h1 : ∀ r, r < n → jr_HS f c (2 ^ r) (LY (2 ^ r))) (h2 : ∀ j, j < m → jf_set s j < t → jr_HS f c (jf_set s j) (LY (jf_set s j)))
    (hT : jf_nd m s T) (hs : ja_sub T U) (ht : T < t) : jr_HS f c T (LY T) := by
  rcases hT with ⟨r, hr, e⟩ | ⟨i, hi, e⟩
  · subst e
    exact h1 r (ja_bd hUn (hs r (ja_m2.mpr rfl)))
  · subst e
    exact h2 i hi ht
section
variable {g_n g_rowLimit g_entries g_ops g_optimised g_hasResult : Int32} {b_cells b_rowCount b_entrySet b_entryVisible b_estimates b_operators b_sides b_inPlan b_least b_ways b_root b_rootLeft b_found b_foundCount : Nat → Int32}
variable {n m U w : Nat} {s ss kd la ra rc : Nat → Nat} {v : Nat → Int32}
theorem jy_91 {post : Int32 → SY → Prop} {J : Int32 → Int32 → Int32 → Int32 → Int32 → Int32 → Int32 → (Nat → Int32) → (Nat → Int32) → (Nat → Int32) → (Nat → Int32) → (Nat → Int32) → (Nat → Int32) → (Nat → Int32) → (Nat → Int32) → (Nat → Int32) → (Nat → Int32) → (Nat → Int32) → (Nat → Int32) → (Nat → Int32) → (Nat → Int32) → Prop} {t : Nat} (h : jr_TW m U s) (hU : U < 64) (hn : n ≤ 6) (hUn : U < 2 ^ n) (hw : w < 2) (hm : m ≤ 5) (eops : g_ops = nI m)
    (es : ∀ i, b_sides i = nI (ss i)) (ess : ∀ j, s j = ss (10 * w + j)) (hE : ∀ i, i < m → jy_E n i (kd i) (la i) (ra i) rc v g_n b_cells b_rowCount b_operators) (h4 : ∀ r, rc r ≤ 4) (h12 : ja_sm rc 6 ≤ 12) (ht0 : t ≠ 0) (htU : t ≤ U)
    {LY0 : Nat → List Nat} (S0 : jr_SYD n m s kd la ra rc v (fun i => jf_set s i < t) LY0) (L0 : ∀ r, r < n → jr_HS b_found b_foundCount (2 ^ r) (LY0 (2 ^ r))) (H0 : ∀ j, j < m → jf_set s j < t → jr_HS b_found b_foundCount (jf_set s j) (LY0 (jf_set s j)))
    (k : ∀ f c LY, jr_SYD n m s kd la ra rc v (fun i => jf_set s i < t + 1) LY → (∀ r, r < n → jr_HS f c (2 ^ r) (LY (2 ^ r))) → (∀ j, j < m → jf_set s j < t + 1 → jr_HS f c (jf_set s j) (LY (jf_set s j))) → J (nI (t + 1)) g_n g_rowLimit g_entries g_ops g_optimised g_hasResult b_cells b_rowCount b_entrySet b_entryVisible b_estimates b_operators b_sides b_inPlan b_least b_ways b_root b_rootLeft (f) (c)) :
    ∃ d, wY_run_91 post J (nI w) (nI t) d 0 g_n g_rowLimit g_entries g_ops g_optimised g_hasResult b_cells b_rowCount b_entrySet b_entryVisible b_estimates b_operators b_sides b_inPlan b_least b_ways b_root b_rootLeft b_found b_foundCount := by
  refine loop_0 (fun d q (st : (Nat → Int32) × (Nat → Int32)) => wY_run_91 post J (nI w) (nI t) d (nI q) g_n g_rowLimit g_entries g_ops g_optimised g_hasResult b_cells b_rowCount b_entrySet b_entryVisible b_estimates b_operators b_sides b_inPlan b_least b_ways b_root b_rootLeft (st.1) (st.2))
    (fun q st => ∃ LY, jr_SYD n m s kd la ra rc v (fun i => jf_set s i < t ∨ (jf_set s i = t ∧ i < q)) LY ∧ (∀ r, r < n → jr_HS st.1 st.2 (2 ^ r) (LY (2 ^ r))) ∧ (∀ j, j < m → (jf_set s j < t ∨ (jf_set s j = t ∧ j < q)) → jr_HS st.1 st.2 (jf_set s j) (LY (jf_set s j))))
    m (b_found, b_foundCount) ⟨LY0, jr_SYD_mono (fun i _ z => z.elim id fun y => absurd y.2 (by omega)) S0, L0, fun j hj z => H0 j hj (z.elim id fun y => absurd y.2 (by omega))⟩ ?_ ?_
  · rintro d ⟨f, c⟩ ⟨LY, S1, S2, S3⟩
    dsimp only at S2 S3
    refine br_t (by rw [eops]; exact nI_le (Nat.le_refl _) (by omega)) (nm_r (nI_1 t) (k f c LY (jr_SYD_mono (fun i hi z => ?_) S1) S2 fun j hj z => S3 j hj ?_))
    · rcases Nat.lt_or_ge (jf_set s i) t with y | y
      · exact Or.inl y
      · exact Or.inr ⟨by omega, hi⟩
    · rcases Nat.lt_or_ge (jf_set s j) t with y | y
      · exact Or.inl y
      · exact Or.inr ⟨by omega, hj⟩
  · rintro d q ⟨f, c⟩ hq ⟨LY, S1, S2, S3⟩ ih
    dsimp only at S2 S3
    obtain ⟨ng, l1, l2, l3, l4⟩ := jr_TWs h hU hq
    obtain ⟨a1, a2, ad, ac, ad1, ad2⟩ := h.2.1 q hq
    have eA : b_sides (10 * w + 2 * q) = nI (s (2 * q)) := by rw [es, ← ess]
    have eB : b_sides (10 * w + (2 * q + 1)) = nI (s (2 * q + 1)) := by rw [es, ← ess]
    refine br_f (by rw [eops]; exact nI_ge hq (by omega)) (jy_below hw (by omega) eA eB ?_)
    refine pk_eq (jf_set s q) t (fun e => ?_) (fun e => nm_r (nI_1 q) (ih (f, c) ⟨LY, jr_SYD_mono (fun i hi z => ?_) S1, S2, fun j hj z => S3 j hj ?_⟩))
    · have hDt : ∀ i, i < m → jf_set s i < t → (jf_set s i < t ∨ (jf_set s i = t ∧ i < q)) := fun i _ z => Or.inl z
      have oA := jr_SYD_OK h hU hn hUn h4 h12 S1 hDt ad1 (ja_sub_tr ja_or_l ac) (by omega)
      have oB := jr_SYD_OK h hU hn hUn h4 h12 S1 hDt ad2 (ja_sub_tr ja_or_r ac) (by omega)
      have oJ : jr_OK (jf_set s q) rc (jr_OY (kd q % 5) (jr_mt (jr_kv v (la q)) (jr_kv v (ra q)) (decide (5 ≤ kd q))) (LY (s (2 * q))) (LY (s (2 * q + 1)))) := jr_OY_OK ad h12 oA oB
      have hlen := Nat.le_trans oJ.2.2 (jr_G81 _ (by have := jr_tt_le (rc := rc) (T := jf_set s q); omega))
      have nA : s (2 * q) ≠ s (2 * q) ||| s (2 * q + 1) := fun z => absurd l1 (by show ¬ _ < s (2 * q) ||| s (2 * q + 1); omega)
      have nB : s (2 * q + 1) ≠ s (2 * q) ||| s (2 * q + 1) := fun z => absurd l2 (by show ¬ _ < s (2 * q) ||| s (2 * q + 1); omega)
      have hHA : jr_HS f c (s (2 * q)) (LY (s (2 * q))) := jr_nd_HS hUn S2 (fun j hj z => S3 j hj (Or.inl z)) ad1 (ja_sub_tr ja_or_l ac) (by omega)
      have hHB : jr_HS f c (s (2 * q + 1)) (LY (s (2 * q + 1))) := jr_nd_HS hUn S2 (fun j hj z => S3 j hj (Or.inl z)) ad2 (ja_sub_tr ja_or_r ac) (by omega)
      refine jy_comb (hE q hq) hw eA eB (by omega) (by omega) nA nB ad hHA oA.2.1 hHB oB.2.1 hlen ?_
      intro f' c' a b
      refine nm_r (nI_1 q) (ih (f', c') ⟨_, jr_SYD_up h hU hn hq e (fun i hi z => z.elim (fun y => by omega) fun y => by omega) (fun i hi z => ?_) S1, ?_, ?_⟩)
      · rcases z with y | y
        · exact Or.inl (Or.inl y)
        · exact Or.inr (h.2.2 i q hi hq (by rw [y.1, e]))
      · intro r hr
        have nr : 2 ^ r ≠ t := fun z => ng (by rw [e, ← z]; exact ja_sg_two r (by omega))
        show jr_HS f' c' (2 ^ r) (if 2 ^ r = t then _ else LY (2 ^ r))
        rw [if_neg nr]
        exact jr_HS_fr a (by intro z; exact nr (z.trans e)) (S2 r hr)
      · intro j hj z
        show jr_HS f' c' (jf_set s j) (if jf_set s j = t then _ else LY (jf_set s j))
        by_cases ej : jf_set s j = t
        · rw [if_pos ej, ej, ← e]
          exact b
        · rw [if_neg ej]
          refine jr_HS_fr a (fun y => ej (y.trans e)) (S3 j hj ?_)
          rcases z with y | y
          · exact Or.inl y
          · exact absurd y.1 ej
    · rcases z with y | y
      · exact Or.inl y
      · refine Or.inr ⟨y.1, ?_⟩
        have : i ≠ q := fun x => e (by rw [← x]; exact y.1)
        omega
    · rcases z with y | y
      · exact Or.inl y
      · refine Or.inr ⟨y.1, ?_⟩
        have : j ≠ q := fun x => e (by rw [← x]; exact y.1)
        omega
theorem jy_run {post : Int32 → SY → Prop} (h : jr_TW m U s) (hU : U < 64) (hU0 : U ≠ 0) (hn : n ≤ 6) (hUn : U < 2 ^ n) (hw : w < 2) (hm : m ≤ 5) (en : g_n = nI n) (eops : g_ops = nI m) (hopt : g_optimised = 1) (eE : b_entrySet 0 = nI U)
    (es : ∀ i, b_sides i = nI (ss i)) (ess : ∀ j, s j = ss (10 * w + j)) (hE : ∀ i, i < m → jy_E n i (kd i) (la i) (ra i) rc v g_n b_cells b_rowCount b_operators) (hrc : ∀ r, b_rowCount r = nI (rc r)) (h4 : ∀ r, rc r ≤ 4) (h12 : ja_sm rc 6 ≤ 12)
    (k : ∀ f c LY, jr_SY n m s kd la ra rc v (U + 1) LY → jr_HS f c U (LY U) → post (nI (LY U).length) (g_n, g_rowLimit, g_entries, g_ops, g_optimised, 1, b_cells, b_rowCount, b_entrySet, b_entryVisible, b_estimates, b_operators, b_sides, b_inPlan, b_least, b_ways, b_root, b_rootLeft, f, c)) : wpY_run post (g_n, g_rowLimit, g_entries, g_ops, g_optimised, g_hasResult, b_cells, b_rowCount, b_entrySet, b_entryVisible, b_estimates, b_operators, b_sides, b_inPlan, b_least, b_ways, b_root, b_rootLeft, b_found, b_foundCount) (nI w) := by
  refine br_f (by rw [hopt]; decide) (br_f (nI_pos (by omega)) (br_t (nI_le (b := 1) (by omega) (by decide)) ?_))
  refine loop_0 (fun d r (st : (Nat → Int32) × (Nat → Int32)) => wY_run_21 post (nI w) d (nI r) g_n g_rowLimit g_entries g_ops g_optimised g_hasResult b_cells b_rowCount b_entrySet b_entryVisible b_estimates b_operators b_sides b_inPlan b_least b_ways b_root b_rootLeft (st.1) (st.2))
    (fun r st => ∀ q, q < r → jr_HS st.1 st.2 (2 ^ q) (jr_lf q (rc q))) n (b_found, b_foundCount) (fun q hq => absurd hq (by omega)) ?_ ?_
  · rintro d ⟨f0, c0⟩ hF
    dsimp only at hF
    refine br_t (by rw [en]; exact nI_le (Nat.le_refl _) (by omega)) ?_
    refine pk_loop (fun d t (st : (Nat → Int32) × (Nat → Int32)) => wY_run_79 post (nI w) d (nI t) g_n g_rowLimit g_entries g_ops g_optimised g_hasResult b_cells b_rowCount b_entrySet b_entryVisible b_estimates b_operators b_sides b_inPlan b_least b_ways b_root b_rootLeft (st.1) (st.2))
      (fun t st => 1 ≤ t ∧ ∃ LY, jr_SYD n m s kd la ra rc v (fun i => jf_set s i < t) LY ∧ (∀ r, r < n → jr_HS st.1 st.2 (2 ^ r) (LY (2 ^ r))) ∧ (∀ j, j < m → jf_set s j < t → jr_HS st.1 st.2 (jf_set s j) (LY (jf_set s j))))
      (U + 1) 1 (f0, c0) (by omega) ⟨Nat.le_refl _, ?_⟩ ?_ ?_
    · refine ⟨fun T => if T = 2 ^ 0 then jr_lf 0 (rc 0) else if T = 2 ^ 1 then jr_lf 1 (rc 1) else if T = 2 ^ 2 then jr_lf 2 (rc 2) else if T = 2 ^ 3 then jr_lf 3 (rc 3) else if T = 2 ^ 4 then jr_lf 4 (rc 4) else jr_lf 5 (rc 5), ⟨?_, ?_⟩, ?_, ?_⟩
      · intro r hr
        have : r = 0 ∨ r = 1 ∨ r = 2 ∨ r = 3 ∨ r = 4 ∨ r = 5 := by omega
        rcases this with z | z | z | z | z | z <;> subst z <;> rfl
      · intro i hi hlt
        have := (jr_TWs h hU hi).2.2.2.2
        omega
      · intro r hr
        have : r = 0 ∨ r = 1 ∨ r = 2 ∨ r = 3 ∨ r = 4 ∨ r = 5 := by omega
        rcases this with z | z | z | z | z | z <;> subst z <;> exact hF _ hr
      · intro j hj hlt
        have := (jr_TWs h hU hj).2.2.2.2
        omega
    · rintro d ⟨f, c⟩ ⟨_, LY, S1, S2, S3⟩
      dsimp only at S2 S3
      have hHU : jr_HS f c U (LY U) := jr_nd_HS hUn S2 S3 h.1 ja_sub_rfl (by omega)
      have e1 : c (nI U).toNatClampNeg = nI (LY U).length := (jn_at rfl (by omega)).trans hHU.1
      have := k f c LY S1 hHU
      rw [← e1] at this
      unfold wY_run_79
      rw [eE]
      exact br_t (nI_lt (by omega) (by omega)) ⟨vp_in_nI hU (by decide), this⟩
    · rintro d t ⟨f, c⟩ ht ⟨ht1, LY, S1, S2, S3⟩ ih
      dsimp only at S2 S3
      refine br_f (by rw [eE]; exact nI_nlt (by omega) (by omega)) ?_
      refine jy_91 h hU hn hUn hw hm eops es ess hE h4 h12 (by omega) (by omega) S1 S2 S3 ?_
      intro f' c' LY' T1 T2 T3
      exact ih (f', c') ⟨by omega, LY', T1, T2, T3⟩
  · rintro d r ⟨f, c⟩ hr hF ih
    dsimp only at hF
    have p6 := ja_p64 r (by omega)
    refine br_f (by rw [en]; exact nI_ge hr (by omega)) ?_
    rw [ja_sh r (by omega)]
    refine ⟨vp_in_nI p6.1 (by decide), nm_r (e' := upd c (2 ^ r) 0) (jn_up rfl (by omega)) (jy_40 (by omega) (h4 r) (hrc r) jr_clr_HS ?_)⟩
    intro f' c' a b
    refine ih (f', c') fun q hq => ?_
    by_cases e : q = r
    · subst e; exact b
    · have ne : 2 ^ q ≠ 2 ^ r := fun z => e (by
        have h1 : (2 ^ q).testBit r = true := by rw [z]; exact ja_m2.mpr rfl
        exact ja_m2.mp h1)
      exact jr_HS_fr a ne (jr_HS_fr jr_clr_fr ne (hF q (by omega)))
end
end
section
/-! ===== kinds and allowed, both sides ===== -/
theorem jk_ch_i (a b : Nat) : jk_ch a b = true ↔ ((a % 5 = 0 ∧ ¬ b % 5 = 2) ∨ ((a % 5 = 1 ∨ a % 5 = 2) ∧ b = 1) ∨ (a = 2 ∧ b = 2)) := by
  unfold jk_ch
  simp only [Bool.or_eq_true, Bool.and_eq_true, decide_eq_true_eq, Bool.not_eq_true', decide_eq_false_iff_not, or_assoc]
theorem jk_bl_i (a b : Nat) : jk_bl a b = true ↔ ((¬ a % 5 = 2 ∧ ¬ b % 5 = 2) ∨ (a = 2 ∧ b = 2) ∨ (a % 5 = 2 ∧ b = 1) ∨ (a = 1 ∧ b % 5 = 2)) := by
  unfold jk_bl
  simp only [Bool.or_eq_true, Bool.and_eq_true, decide_eq_true_eq, Bool.not_eq_true', decide_eq_false_iff_not, or_assoc]
theorem jk_br_i (a b : Nat) : jk_br a b = true ↔ ((a % 5 = 0 ∧ b % 5 = 0) ∨ (a = 2 ∧ b = 2)) := by
  unfold jk_br
  simp only [Bool.or_eq_true, Bool.and_eq_true, decide_eq_true_eq]
theorem jn_r5 {a : Nat} (h : a < 10) : nI a - nI a / 5 * 5 = nI (a % 5) := pk_rem (d := 5) (by omega) (by decide) (by decide)
section
variable {f_nullKey f_maxRows f_n f_rowLimit f_rowTotal f_entryCount f_usedRels f_opCount f_optimised f_initialCost f_resultRows : Int32} {a_rowCount a_values a_entryRels a_entryVisible a_estimates a_opKind a_opLeftAttrs a_opRightAttrs a_opDivisor a_opLeftRels a_opRightRels a_sideSet a_eligible a_opsIn a_bestCost a_planCount a_rootOf a_leftPart a_nodeAt a_slotRows a_slotCount a_keys a_grouped a_groupStart a_groupHit a_result : Nat → Int32}
variable {post : Int32 → Prop} {a b : Nat}
theorem jx_ch (ha : a < 10) (hb : b < 10) (k1 : jk_ch a b = true → post 1) (k0 : ¬ jk_ch a b = true → post 0) : wpX_chain post (f_nullKey, f_maxRows, f_n, f_rowLimit, f_rowTotal, f_entryCount, f_usedRels, f_opCount, f_optimised, f_initialCost, f_resultRows, a_rowCount, a_values, a_entryRels, a_entryVisible, a_estimates, a_opKind, a_opLeftAttrs, a_opRightAttrs, a_opDivisor, a_opLeftRels, a_opRightRels, a_sideSet, a_eligible, a_opsIn, a_bestCost, a_planCount, a_rootOf, a_leftPart, a_nodeAt, a_slotRows, a_slotCount, a_keys, a_grouped, a_groupStart, a_groupHit, a_result) (nI a) (nI b) := by
  rw [jk_ch_i] at k1 k0
  have ha5 : a % 5 < 5 := Nat.mod_lt _ (by decide)
  have hb5 : b % 5 < 5 := Nat.mod_lt _ (by decide)
  unfold wpX_chain
  dsimp only
  rw [jn_r5 ha, jn_r5 hb]
  refine ⟨by decide, nm_e ?_⟩
  refine pk_eq (a % 5) 0 (fun h1 => ⟨by decide, pk_eq (b % 5) 2 (fun h2 => k0 (by omega)) (fun h2 => k1 (by omega))⟩) (fun h1 => ?_)
  refine pk_eq (a % 5) 1 (fun h2 => pk_eq b 1 (fun h3 => k1 (by omega)) (fun h3 => k0 (by omega))) (fun h2 => ?_)
  refine pk_eq (a % 5) 2 (fun h3 => pk_eq b 1 (fun h4 => k1 (by omega)) (fun h4 => pk_eq a 2 (fun h5 => pk_eq b 2 (fun h6 => k1 (by omega)) (fun h6 => k0 (by omega))) (fun h5 => k0 (by omega)))) (fun h3 => k0 (by omega))
theorem jx_bl (ha : a < 10) (hb : b < 10) (k1 : jk_bl a b = true → post 1) (k0 : ¬ jk_bl a b = true → post 0) : wpX_bothLeft post (f_nullKey, f_maxRows, f_n, f_rowLimit, f_rowTotal, f_entryCount, f_usedRels, f_opCount, f_optimised, f_initialCost, f_resultRows, a_rowCount, a_values, a_entryRels, a_entryVisible, a_estimates, a_opKind, a_opLeftAttrs, a_opRightAttrs, a_opDivisor, a_opLeftRels, a_opRightRels, a_sideSet, a_eligible, a_opsIn, a_bestCost, a_planCount, a_rootOf, a_leftPart, a_nodeAt, a_slotRows, a_slotCount, a_keys, a_grouped, a_groupStart, a_groupHit, a_result) (nI a) (nI b) := by
  rw [jk_bl_i] at k1 k0
  have ha5 : a % 5 < 5 := Nat.mod_lt _ (by decide)
  have hb5 : b % 5 < 5 := Nat.mod_lt _ (by decide)
  unfold wpX_bothLeft
  dsimp only
  rw [jn_r5 ha]
  refine ⟨by decide, pk_eq (a % 5) 2 (fun h1 => ?_) (fun h1 => ?_)⟩
  · unfold wX_bothLeft_12
    rw [jn_r5 hb]
    refine ⟨by decide, pk_eq (b % 5) 2 (fun h2 => ?_) (fun h2 => ?_)⟩
    · exact br_f (by decide) (br_f (by decide) (pk_eq a 2 (fun h3 => pk_eq b 2 (fun h4 => k1 (by omega)) (fun h4 => k0 (by omega))) (fun h3 => k0 (by omega))))
    · exact br_f (by decide) (br_t rfl (br_f (by decide) (pk_eq b 1 (fun h3 => k1 (by omega)) (fun h3 => k0 (by omega)))))
  · unfold wX_bothLeft_12
    rw [jn_r5 hb]
    refine ⟨by decide, pk_eq (b % 5) 2 (fun h2 => ?_) (fun h2 => ?_)⟩
    · exact br_t rfl (br_t rfl (br_f (by decide) (pk_eq a 1 (fun h3 => k1 (by omega)) (fun h3 => k0 (by omega)))))
    · exact br_t rfl (br_t rfl (br_t rfl (k1 (by omega))))
theorem jx_br (ha : a < 10) (hb : b < 10) (k1 : jk_br a b = true → post 1) (k0 : ¬ jk_br a b = true → post 0) : wpX_bothRight post (f_nullKey, f_maxRows, f_n, f_rowLimit, f_rowTotal, f_entryCount, f_usedRels, f_opCount, f_optimised, f_initialCost, f_resultRows, a_rowCount, a_values, a_entryRels, a_entryVisible, a_estimates, a_opKind, a_opLeftAttrs, a_opRightAttrs, a_opDivisor, a_opLeftRels, a_opRightRels, a_sideSet, a_eligible, a_opsIn, a_bestCost, a_planCount, a_rootOf, a_leftPart, a_nodeAt, a_slotRows, a_slotCount, a_keys, a_grouped, a_groupStart, a_groupHit, a_result) (nI a) (nI b) := by
  rw [jk_br_i] at k1 k0
  have ha5 : a % 5 < 5 := Nat.mod_lt _ (by decide)
  have hb5 : b % 5 < 5 := Nat.mod_lt _ (by decide)
  unfold wpX_bothRight
  dsimp only
  rw [jn_r5 ha, jn_r5 hb]
  have c : (¬ (a % 5 = 0 ∧ b % 5 = 0)) → wX_bothRight_12 post (nI a) (nI b) f_nullKey f_maxRows f_n f_rowLimit f_rowTotal f_entryCount f_usedRels f_opCount f_optimised f_initialCost f_resultRows a_rowCount a_values a_entryRels a_entryVisible a_estimates a_opKind a_opLeftAttrs a_opRightAttrs a_opDivisor a_opLeftRels a_opRightRels a_sideSet a_eligible a_opsIn a_bestCost a_planCount a_rootOf a_leftPart a_nodeAt a_slotRows a_slotCount a_keys a_grouped a_groupStart a_groupHit a_result := fun h0 =>
    pk_eq a 2 (fun h3 => pk_eq b 2 (fun h4 => k1 (by omega)) (fun h4 => k0 (by omega))) (fun h3 => k0 (by omega))
  exact ⟨by decide, pk_eq (a % 5) 0 (fun h1 => ⟨by decide, pk_eq (b % 5) 0 (fun h2 => k1 (Or.inl ⟨h1, h2⟩)) (fun h2 => c (by omega))⟩) (fun h1 => c (by omega))⟩
theorem jx_al73 {m o u t : Nat} {s kd : Nat → Nat} {z : Int32} (ho : o < m) (hu : u < m) (hm : m ≤ 5) (ekd : ∀ i, a_opKind i = nI (kd i)) (hkd : ∀ i, i < m → kd i < 10) (ht : t < 2)
    (hz : (z = 1 ∧ ja_sub (jf_set s o) (s (2 * u))) ∨ (z = 0 ∧ ¬ ja_sub (jf_set s o) (s (2 * u)) ∧ ja_sub (jf_set s o) (s (2 * u + 1))))
    (k1 : jp_al s kd o u t → post 1) (k0 : ¬ jp_al s kd o u t → post 0) : wX_allowed_73 post (nI o) (nI u) (nI t) z f_nullKey f_maxRows f_n f_rowLimit f_rowTotal f_entryCount f_usedRels f_opCount f_optimised f_initialCost f_resultRows a_rowCount a_values a_entryRels a_entryVisible a_estimates a_opKind a_opLeftAttrs a_opRightAttrs a_opDivisor a_opLeftRels a_opRightRels a_sideSet a_eligible a_opsIn a_bestCost a_planCount a_rootOf a_leftPart a_nodeAt a_slotRows a_slotCount a_keys a_grouped a_groupStart a_groupHit a_result := by
  have n1 : narrow .boolean (.int 1) = .int 1 := rfl
  have n0 : narrow .boolean (.int 0) = .int 0 := rfl
  unfold wX_allowed_73
  rw [nI_clamp (n := o) (by omega), nI_clamp (n := u) (by omega), ekd, ekd]
  refine ⟨vp_in_nI (by omega) (by decide), nm_e ⟨vp_in_nI (by omega) (by decide), nm_e ?_⟩⟩
  have ho' := hkd o ho
  have hu' := hkd u hu
  refine pk_eq t 0 (fun h0 => ?_) (fun h0 => ?_)
  · subst h0
    rcases hz with ⟨e, hl⟩ | ⟨e, hl, hr⟩
    · subst e
      exact br_f (by decide) (jx_bl ho' hu' (fun h => ⟨n1, k1 ⟨fun _ => h, fun y => absurd hl y⟩⟩) (fun h => ⟨n0, k0 fun y => h (y.1 hl)⟩))
    · subst e
      exact br_t rfl (jx_ch hu' ho' (fun h => ⟨n1, k1 ⟨fun y => absurd y hl, fun _ _ => h⟩⟩) (fun h => ⟨n0, k0 fun y => h (y.2 hl hr)⟩))
  · have e1 : t = 1 := by omega
    subst e1
    rcases hz with ⟨e, hl⟩ | ⟨e, hl, hr⟩
    · subst e
      exact br_f (by decide) (jx_ch ho' hu' (fun h => ⟨n1, k1 ⟨fun _ => h, fun y => absurd hl y⟩⟩) (fun h => ⟨n0, k0 fun y => h (y.1 hl)⟩))
    · subst e
      exact br_t rfl (jx_br ho' hu' (fun h => ⟨n1, k1 ⟨fun y => absurd y hl, fun _ _ => h⟩⟩) (fun h => ⟨n0, k0 fun y => h (y.2 hl hr)⟩))
theorem jx_allowed {m o u t : Nat} {s kd : Nat → Nat} (ho : o < m) (hu : u < m) (hm : m ≤ 5) (hne : o ≠ u) (h5 : jf_F5 m s) (es : ∀ i, a_sideSet i = nI (s i)) (hs : ∀ i, i < 2 * m → s i < 64) (ekd : ∀ i, a_opKind i = nI (kd i)) (hkd : ∀ i, i < m → kd i < 10) (ht : t < 2)
    (k1 : jp_al s kd o u t → post 1) (k0 : ¬ jp_al s kd o u t → post 0) : wpX_allowed post (f_nullKey, f_maxRows, f_n, f_rowLimit, f_rowTotal, f_entryCount, f_usedRels, f_opCount, f_optimised, f_initialCost, f_resultRows, a_rowCount, a_values, a_entryRels, a_entryVisible, a_estimates, a_opKind, a_opLeftAttrs, a_opRightAttrs, a_opDivisor, a_opLeftRels, a_opRightRels, a_sideSet, a_eligible, a_opsIn, a_bestCost, a_planCount, a_rootOf, a_leftPart, a_nodeAt, a_slotRows, a_slotCount, a_keys, a_grouped, a_groupStart, a_groupHit, a_result) (nI o) (nI u) (nI t) := by
  have eo : nI o * 2 = nI (2 * o) := by rw [show nI o * 2 = nI (o * 2) from pk_mul o 2, Nat.mul_comm]
  have eu : nI u * 2 = nI (2 * u) := by rw [show nI u * 2 = nI (u * 2) from pk_mul u 2, Nat.mul_comm]
  have eo1 : nI (2 * o) + 1 = nI (2 * o + 1) := nI_1 _
  have eu1 : nI (2 * u) + 1 = nI (2 * u + 1) := nI_1 _
  have b1 := hs (2 * o) (by omega)
  have b2 := hs (2 * o + 1) (by omega)
  have hso : jf_set s o < 64 := Nat.or_lt_two_pow (n := 6) b1 b2
  unfold wpX_allowed
  dsimp only
  rw [eo, eu, eo1, eu1, nI_clamp (n := 2 * o) (by omega), nI_clamp (n := 2 * o + 1) (by omega), nI_clamp (n := 2 * u) (by omega), nI_clamp (n := 2 * u + 1) (by omega), es, es, es, es, ja_or]
  refine ⟨vp_in_nI (by omega) (by decide), vp_in_nI (by omega) (by decide), nm_r (e' := nI (jf_set s o)) rfl ⟨vp_in_nI (by omega) (by decide), nm_e ⟨vp_in_nI (by omega) (by decide), nm_e ?_⟩⟩⟩
  rw [ja_or]
  refine ek_if (d := ja_sub (jf_set s o) (jf_set s u)) (ja_anz (by omega)) (fun hsub => ?_) (fun hsub => ?_)
  · refine ek_if (d := ja_sub (jf_set s o) (s (2 * u))) (ja_anz (by omega)) (fun hl => ?_) (fun hl => ?_)
    · exact jx_al73 ho hu hm ekd hkd ht (Or.inl ⟨rfl, hl⟩) k1 k0
    · exact jx_al73 ho hu hm ekd hkd ht (Or.inr ⟨rfl, hl, (h5 o u ho hu hne hsub).elim (fun y => absurd y hl) id⟩) k1 k0
  · exact k1 ⟨fun y => absurd (ja_sub_tr y ja_or_l) hsub, fun _ y => absurd (ja_sub_tr y ja_or_r) hsub⟩
end
section
variable {g_n g_rowLimit g_entries g_ops g_optimised g_hasResult : Int32} {b_cells b_rowCount b_entrySet b_entryVisible b_estimates b_operators b_sides b_inPlan b_least b_ways b_root b_rootLeft b_found b_foundCount : Nat → Int32}
variable {post : Int32 → Prop} {a b : Nat}
theorem jy_ch (ha : a < 10) (hb : b < 10) (k1 : jk_ch a b = true → post 1) (k0 : ¬ jk_ch a b = true → post 0) : wpY_chain post (g_n, g_rowLimit, g_entries, g_ops, g_optimised, g_hasResult, b_cells, b_rowCount, b_entrySet, b_entryVisible, b_estimates, b_operators, b_sides, b_inPlan, b_least, b_ways, b_root, b_rootLeft, b_found, b_foundCount) (nI a) (nI b) := by
  rw [jk_ch_i] at k1 k0
  have ha5 : a % 5 < 5 := Nat.mod_lt _ (by decide)
  have hb5 : b % 5 < 5 := Nat.mod_lt _ (by decide)
  have c32 : ¬ ((a % 5 = 0 ∧ ¬ b % 5 = 2) ∨ ((a % 5 = 1 ∨ a % 5 = 2) ∧ b = 1)) → wY_chain_32 post (nI a) (nI b) g_n g_rowLimit g_entries g_ops g_optimised g_hasResult b_cells b_rowCount b_entrySet b_entryVisible b_estimates b_operators b_sides b_inPlan b_least b_ways b_root b_rootLeft b_found b_foundCount := fun h0 =>
    pk_eq a 2 (fun h3 => pk_eq b 2 (fun h4 => k1 (by omega)) (fun h4 => k0 (by omega))) (fun h3 => k0 (by omega))
  have c13 : ¬ (a % 5 = 0 ∧ ¬ b % 5 = 2) → wY_chain_13 post (nI a) (nI b) g_n g_rowLimit g_entries g_ops g_optimised g_hasResult b_cells b_rowCount b_entrySet b_entryVisible b_estimates b_operators b_sides b_inPlan b_least b_ways b_root b_rootLeft b_found b_foundCount := by
    intro h0
    unfold wY_chain_13
    rw [jn_r5 ha]
    refine ⟨by decide, pk_eq (a % 5) 1 (fun h1 => pk_eq b 1 (fun h2 => k1 (by omega)) (fun h2 => c32 (by omega))) (fun h1 => ⟨by decide, ?_⟩)⟩
    exact pk_eq (a % 5) 2 (fun h1 => pk_eq b 1 (fun h2 => k1 (by omega)) (fun h2 => c32 (by omega))) (fun h1 => c32 (by omega))
  unfold wpY_chain
  dsimp only
  rw [jn_r5 ha, jn_r5 hb]
  exact ⟨by decide, pk_eq (a % 5) 0 (fun h1 => ⟨by decide, pk_eq (b % 5) 2 (fun h2 => c13 (by omega)) (fun h2 => k1 (by omega))⟩) (fun h1 => c13 (by omega))⟩
theorem jy_bl (ha : a < 10) (hb : b < 10) (k1 : jk_bl a b = true → post 1) (k0 : ¬ jk_bl a b = true → post 0) : wpY_bothLeft post (g_n, g_rowLimit, g_entries, g_ops, g_optimised, g_hasResult, b_cells, b_rowCount, b_entrySet, b_entryVisible, b_estimates, b_operators, b_sides, b_inPlan, b_least, b_ways, b_root, b_rootLeft, b_found, b_foundCount) (nI a) (nI b) := by
  rw [jk_bl_i] at k1 k0
  have ha5 : a % 5 < 5 := Nat.mod_lt _ (by decide)
  have hb5 : b % 5 < 5 := Nat.mod_lt _ (by decide)
  have c36 : ¬ ((¬ a % 5 = 2 ∧ ¬ b % 5 = 2) ∨ (a = 2 ∧ b = 2) ∨ (a % 5 = 2 ∧ b = 1)) → wY_bothLeft_36 post (nI a) (nI b) g_n g_rowLimit g_entries g_ops g_optimised g_hasResult b_cells b_rowCount b_entrySet b_entryVisible b_estimates b_operators b_sides b_inPlan b_least b_ways b_root b_rootLeft b_found b_foundCount := by
    intro h0
    unfold wY_bothLeft_36
    rw [jn_r5 hb]
    exact pk_eq a 1 (fun h1 => ⟨by decide, pk_eq (b % 5) 2 (fun h2 => k1 (by omega)) (fun h2 => k0 (by omega))⟩) (fun h1 => k0 (by omega))
  have c24 : ¬ ((¬ a % 5 = 2 ∧ ¬ b % 5 = 2) ∨ (a = 2 ∧ b = 2)) → wY_bothLeft_24 post (nI a) (nI b) g_n g_rowLimit g_entries g_ops g_optimised g_hasResult b_cells b_rowCount b_entrySet b_entryVisible b_estimates b_operators b_sides b_inPlan b_least b_ways b_root b_rootLeft b_found b_foundCount := by
    intro h0
    unfold wY_bothLeft_24
    rw [jn_r5 ha]
    exact ⟨by decide, pk_eq (a % 5) 2 (fun h1 => pk_eq b 1 (fun h2 => k1 (by omega)) (fun h2 => c36 (by omega))) (fun h1 => c36 (by omega))⟩
  have c14 : ¬ (¬ a % 5 = 2 ∧ ¬ b % 5 = 2) → wY_bothLeft_14 post (nI a) (nI b) g_n g_rowLimit g_entries g_ops g_optimised g_hasResult b_cells b_rowCount b_entrySet b_entryVisible b_estimates b_operators b_sides b_inPlan b_least b_ways b_root b_rootLeft b_found b_foundCount := fun h0 =>
    pk_eq a 2 (fun h3 => pk_eq b 2 (fun h4 => k1 (by omega)) (fun h4 => c24 (by omega))) (fun h3 => c24 (by omega))
  unfold wpY_bothLeft
  dsimp only
  rw [jn_r5 ha, jn_r5 hb]
  exact ⟨by decide, pk_eq (a % 5) 2 (fun h1 => c14 (by omega)) (fun h1 => ⟨by decide, pk_eq (b % 5) 2 (fun h2 => c14 (by omega)) (fun h2 => k1 (by omega))⟩)⟩
theorem jy_br (ha : a < 10) (hb : b < 10) (k1 : jk_br a b = true → post 1) (k0 : ¬ jk_br a b = true → post 0) : wpY_bothRight post (g_n, g_rowLimit, g_entries, g_ops, g_optimised, g_hasResult, b_cells, b_rowCount, b_entrySet, b_entryVisible, b_estimates, b_operators, b_sides, b_inPlan, b_least, b_ways, b_root, b_rootLeft, b_found, b_foundCount) (nI a) (nI b) := by
  rw [jk_br_i] at k1 k0
  have ha5 : a % 5 < 5 := Nat.mod_lt _ (by decide)
  have hb5 : b % 5 < 5 := Nat.mod_lt _ (by decide)
  unfold wpY_bothRight
  dsimp only
  rw [jn_r5 ha, jn_r5 hb]
  have c : (¬ (a % 5 = 0 ∧ b % 5 = 0)) → wY_bothRight_12 post (nI a) (nI b) g_n g_rowLimit g_entries g_ops g_optimised g_hasResult b_cells b_rowCount b_entrySet b_entryVisible b_estimates b_operators b_sides b_inPlan b_least b_ways b_root b_rootLeft b_found b_foundCount := fun h0 =>
    pk_eq a 2 (fun h3 => pk_eq b 2 (fun h4 => k1 (by omega)) (fun h4 => k0 (by omega))) (fun h3 => k0 (by omega))
  exact ⟨by decide, pk_eq (a % 5) 0 (fun h1 => ⟨by decide, pk_eq (b % 5) 0 (fun h2 => k1 (Or.inl ⟨h1, h2⟩)) (fun h2 => c (by omega))⟩) (fun h1 => c (by omega))⟩
theorem jy_al88 {o u t : Nat} {s kd : Nat → Nat} {z : Int32} (ho' : kd o < 10) (hu' : kd u < 10) (ht : t < 2)
    (hz : (z = 1 ∧ ja_sub (jf_set s o) (s (2 * u))) ∨ (z = 0 ∧ ¬ ja_sub (jf_set s o) (s (2 * u)) ∧ ja_sub (jf_set s o) (s (2 * u + 1))))
    (k1 : jp_al s kd o u t → post 1) (k0 : ¬ jp_al s kd o u t → post 0) : wY_allowed_88 post (nI t) (nI (kd o)) (nI (kd u)) z g_n g_rowLimit g_entries g_ops g_optimised g_hasResult b_cells b_rowCount b_entrySet b_entryVisible b_estimates b_operators b_sides b_inPlan b_least b_ways b_root b_rootLeft b_found b_foundCount := by
  have n1 : narrow .boolean (.int 1) = .int 1 := rfl
  have n0 : narrow .boolean (.int 0) = .int 0 := rfl
  unfold wY_allowed_88
  refine pk_eq t 0 (fun h0 => ?_) (fun h0 => ?_)
  · subst h0
    rcases hz with ⟨e, hl⟩ | ⟨e, hl, hr⟩
    · subst e
      exact br_f (by decide) (jy_bl ho' hu' (fun h => ⟨n1, k1 ⟨fun _ => h, fun y => absurd hl y⟩⟩) (fun h => ⟨n0, k0 fun y => h (y.1 hl)⟩))
    · subst e
      exact br_t rfl (jy_ch hu' ho' (fun h => ⟨n1, k1 ⟨fun y => absurd y hl, fun _ _ => h⟩⟩) (fun h => ⟨n0, k0 fun y => h (y.2 hl hr)⟩))
  · have e1 : t = 1 := by omega
    subst e1
    rcases hz with ⟨e, hl⟩ | ⟨e, hl, hr⟩
    · subst e
      exact br_f (by decide) (jy_ch ho' hu' (fun h => ⟨n1, k1 ⟨fun _ => h, fun y => absurd hl y⟩⟩) (fun h => ⟨n0, k0 fun y => h (y.1 hl)⟩))
    · subst e
      exact br_t rfl (jy_br ho' hu' (fun h => ⟨n1, k1 ⟨fun y => absurd y hl, fun _ _ => h⟩⟩) (fun h => ⟨n0, k0 fun y => h (y.2 hl hr)⟩))
theorem jy_allowed {m o u t : Nat} {s kd : Nat → Nat} (ho : o < m) (hu : u < m) (hm : m ≤ 5) (es : ∀ i, b_sides i = nI (s i)) (hs : ∀ i, i < 2 * m → s i < 64) (ekd : ∀ i, i < m → b_operators (i * 4) = nI (kd i)) (hkd : ∀ i, i < m → kd i < 10) (ht : t < 2)
    (k1 : jp_al s kd o u t → post 1) (k0 : ¬ jp_al s kd o u t → post 0) : wpY_allowed post (g_n, g_rowLimit, g_entries, g_ops, g_optimised, g_hasResult, b_cells, b_rowCount, b_entrySet, b_entryVisible, b_estimates, b_operators, b_sides, b_inPlan, b_least, b_ways, b_root, b_rootLeft, b_found, b_foundCount) (nI o) (nI u) (nI t) := by
  have eu : nI u * 2 = nI (2 * u) := by rw [show nI u * 2 = nI (u * 2) from pk_mul u 2, Nat.mul_comm]
  have eu1 : nI (2 * u) + 1 = nI (2 * u + 1) := nI_1 _
  have e4 : nI o * 4 = nI (o * 4) := pk_mul o 4
  have e4' : nI u * 4 = nI (u * 4) := pk_mul u 4
  have b1 := hs (2 * o) (by omega)
  have b2 := hs (2 * o + 1) (by omega)
  have hso : jf_set s o < 64 := Nat.or_lt_two_pow (n := 6) b1 b2
  have ho' := hkd o ho
  have hu' := hkd u hu
  have c : ∀ z : Int32, ((z = 1 ∧ ja_sub (jf_set s o) (s (2 * u))) ∨ (z = 0 ∧ ¬ ja_sub (jf_set s o) (s (2 * u)))) → wY_allowed_49 post (nI u) (nI t) (nI (jf_set s o)) (nI (kd o)) (nI (kd u)) z g_n g_rowLimit g_entries g_ops g_optimised g_hasResult b_cells b_rowCount b_entrySet b_entryVisible b_estimates b_operators b_sides b_inPlan b_least b_ways b_root b_rootLeft b_found b_foundCount := by
    intro z hz
    unfold wY_allowed_49
    rw [eu, eu1, nI_clamp (n := 2 * u + 1) (by omega), es]
    refine ⟨vp_in_nI (by omega) (by decide), ek_if (d := ja_sub (jf_set s o) (s (2 * u + 1))) (ja_anz (by omega)) (fun hr => ?_) (fun hr => ?_)⟩
    · rcases hz with ⟨e, hl⟩ | ⟨e, hl⟩
      · subst e
        exact br_f (by decide) (jy_al88 ho' hu' ht (Or.inl ⟨rfl, hl⟩) k1 k0)
      · subst e
        exact br_t rfl (br_f (by decide) (jy_al88 ho' hu' ht (Or.inr ⟨rfl, hl, hr⟩) k1 k0))
    · rcases hz with ⟨e, hl⟩ | ⟨e, hl⟩
      · subst e
        exact br_f (by decide) (jy_al88 ho' hu' ht (Or.inl ⟨rfl, hl⟩) k1 k0)
      · subst e
        exact br_t rfl (br_t rfl (k1 ⟨fun y => absurd y hl, fun _ y => absurd y hr⟩))
  unfold wpY_allowed
  dsimp only
  refine jy_below (w := 0) (A := s (2 * o)) (B := s (2 * o + 1)) (by decide) (by omega) (by rw [es, Nat.mul_zero, Nat.zero_add]) (by rw [es, Nat.mul_zero, Nat.zero_add]) ?_
  rw [eu, e4, e4', nI_clamp (n := o * 4) (by omega), nI_clamp (n := u * 4) (by omega), nI_clamp (n := 2 * u) (by omega), es, ekd o ho, ekd u hu]
  refine ⟨vp_in_nI (by omega) (by decide), nm_e ⟨vp_in_nI (by omega) (by decide), nm_e ⟨vp_in_nI (by omega) (by decide), ?_⟩⟩⟩
  exact ek_if (d := ja_sub (jf_set s o) (s (2 * u))) (ja_anz (a := jf_set s o) (by omega)) (fun hl => c 1 (Or.inl ⟨rfl, hl⟩)) (fun hl => c 0 (Or.inr ⟨rfl, hl⟩))
end
end
section
/-! ===== planning, component's side: what only reads ===== -/
theorem jn_q4 {a i : Nat} (ha : a < 2 ^ 31) (hi : i < 16) : ((nI a >>> ((2 * nI i) &&& 31)) &&& 3) = 0 ↔ a / 2 ^ (2 * i) % 4 = 0 := by
  rw [show (2 : Int32) * nI i = nI (2 * i) from pk_mul 2 i, pk_shrN ha _ (2 * i) (s_l _ (by omega)), pk_andN (Nat.lt_of_le_of_lt (Nat.div_le_self _ _) (by omega)) 2 (by decide), ja_z (by omega)]
section
variable {f_nullKey f_maxRows f_n f_rowLimit f_rowTotal f_entryCount f_usedRels f_opCount f_optimised f_initialCost f_resultRows : Int32} {a_rowCount a_values a_entryRels a_entryVisible a_estimates a_opKind a_opLeftAttrs a_opRightAttrs a_opDivisor a_opLeftRels a_opRightRels a_sideSet a_eligible a_opsIn a_bestCost a_planCount a_rootOf a_leftPart a_nodeAt a_slotRows a_slotCount a_keys a_grouped a_groupStart a_groupHit a_result : Nat → Int32}
variable {post : Int32 → Prop}
theorem jx_rel {a : Nat} (ha : a < 2 ^ 31) (k : post (nI (jf_ro a))) : wpX_relationsOf post (f_nullKey, f_maxRows, f_n, f_rowLimit, f_rowTotal, f_entryCount, f_usedRels, f_opCount, f_optimised, f_initialCost, f_resultRows, a_rowCount, a_values, a_entryRels, a_entryVisible, a_estimates, a_opKind, a_opLeftAttrs, a_opRightAttrs, a_opDivisor, a_opLeftRels, a_opRightRels, a_sideSet, a_eligible, a_opsIn, a_bestCost, a_planCount, a_rootOf, a_leftPart, a_nodeAt, a_slotRows, a_slotCount, a_keys, a_grouped, a_groupStart, a_groupHit, a_result) (nI a) := by
  refine loop_0 (fun n i s => wX_relationsOf_4 post (nI a) f_nullKey f_maxRows f_n f_rowLimit f_rowTotal f_entryCount f_usedRels f_opCount f_optimised f_initialCost f_resultRows a_rowCount a_values a_entryRels a_entryVisible a_estimates a_opKind a_opLeftAttrs a_opRightAttrs a_opDivisor a_opLeftRels a_opRightRels a_sideSet a_eligible a_opsIn a_bestCost a_planCount a_rootOf a_leftPart a_nodeAt a_slotRows a_slotCount a_keys a_grouped a_groupStart a_groupHit a_result n s (nI i)) (fun i s => s = nI (jf_rk a i)) 6 0 rfl ?_ ?_
  · rintro n s rfl
    exact br_t (by decide) k
  · rintro n i s hi rfl ih
    refine br_f (nI_ge (b := 6) hi (by decide)) (ek_if (jn_q4 ha (by omega)) (fun h => nm_r (nI_1 i) (ih _ ?_)) (fun h => ?_))
    · show _ = nI (if a / 2 ^ (2 * i) % 4 = 0 then _ else _)
      rw [if_pos h]
    · refine nm_r (e' := nI (jf_rk a (i + 1))) ?_ (nm_r (nI_1 i) (ih _ rfl))
      rw [ja_sh i (by omega), ja_or]
      show _ = nI (if a / 2 ^ (2 * i) % 4 = 0 then _ else _)
      rw [if_neg h]
end
section
variable {g_n g_rowLimit g_entries g_ops g_optimised g_hasResult : Int32} {b_cells b_rowCount b_entrySet b_entryVisible b_estimates b_operators b_sides b_inPlan b_least b_ways b_root b_rootLeft b_found b_foundCount : Nat → Int32}
variable {post : Int32 → Prop}
theorem jy_rel {a : Nat} (ha : a < 2 ^ 31) (k : post (nI (jf_ro a))) : wpY_relations post (g_n, g_rowLimit, g_entries, g_ops, g_optimised, g_hasResult, b_cells, b_rowCount, b_entrySet, b_entryVisible, b_estimates, b_operators, b_sides, b_inPlan, b_least, b_ways, b_root, b_rootLeft, b_found, b_foundCount) (nI a) := by
  rw [← jf_yk_ro] at k
  refine loop_0 (fun n i s => wY_relations_4 post (nI a) g_n g_rowLimit g_entries g_ops g_optimised g_hasResult b_cells b_rowCount b_entrySet b_entryVisible b_estimates b_operators b_sides b_inPlan b_least b_ways b_root b_rootLeft b_found b_foundCount n s (nI i)) (fun i s => s = nI (jf_yk a i)) 12 0 rfl ?_ ?_
  · rintro n s rfl
    exact br_t (by decide) k
  · rintro n i s hi rfl ih
    refine br_f (nI_ge (b := 12) hi (by decide)) (ek_if (ja_b1 ha (by omega)) (fun h => ⟨by decide, ?_⟩) (fun h => nm_r (nI_1 i) (ih _ ?_)))
    · refine nm_r (e' := nI (jf_yk a (i + 1))) ?_ (nm_r (nI_1 i) (ih _ rfl))
      rw [jn_hd (by omega), ja_sh (i / 2) (by omega), ja_or]
      show _ = nI (if a.testBit i = true then _ else _)
      rw [if_pos h]
    · show _ = nI (if a.testBit i = true then _ else _)
      rw [if_neg h]
end
/-- what planning reads on the component's side -/
def jx_PE (m U : Nat) (lr rr dv est : Nat → Nat) (oc : Int32) (olr orr odv aest : Nat → Int32) : Prop :=
  jp_PL m U lr rr ∧ oc = nI m ∧ (∀ i, i < m → olr i = nI (lr i) ∧ orr i = nI (rr i) ∧ odv i = nI (dv i) ∧ lr i < 64 ∧ rr i < 64 ∧ 1 ≤ dv i ∧ dv i ≤ 20) ∧
  (∀ r, U.testBit r = true → aest r = nI (est r) ∧ 1 ≤ est r ∧ est r ≤ 20)
section
variable {f_nullKey f_maxRows f_n f_rowLimit f_rowTotal f_entryCount f_usedRels f_opCount f_optimised f_initialCost f_resultRows : Int32} {a_rowCount a_values a_entryRels a_entryVisible a_estimates a_opKind a_opLeftAttrs a_opRightAttrs a_opDivisor a_opLeftRels a_opRightRels a_sideSet a_eligible a_opsIn a_bestCost a_planCount a_rootOf a_leftPart a_nodeAt a_slotRows a_slotCount a_keys a_grouped a_groupStart a_groupHit a_result : Nat → Int32}
variable {m U : Nat} {lr rr dv est : Nat → Nat}
theorem jx_ins {post : Int32 → Prop} {S : Nat} (E : jx_PE m U lr rr dv est f_opCount a_opLeftRels a_opRightRels a_opDivisor a_estimates) (k : post (nI (jp_ok lr rr S m))) : wpX_operatorsInside post (f_nullKey, f_maxRows, f_n, f_rowLimit, f_rowTotal, f_entryCount, f_usedRels, f_opCount, f_optimised, f_initialCost, f_resultRows, a_rowCount, a_values, a_entryRels, a_entryVisible, a_estimates, a_opKind, a_opLeftAttrs, a_opRightAttrs, a_opDivisor, a_opLeftRels, a_opRightRels, a_sideSet, a_eligible, a_opsIn, a_bestCost, a_planCount, a_rootOf, a_leftPart, a_nodeAt, a_slotRows, a_slotCount, a_keys, a_grouped, a_groupStart, a_groupHit, a_result) (nI S) := by
  obtain ⟨H, eo, hO, _⟩ := E
  have h5 := jp_m5 H
  subst eo
  refine loop_0 (fun n i s => wX_operatorsInside_4 post (nI S) f_nullKey f_maxRows f_n f_rowLimit f_rowTotal f_entryCount f_usedRels (nI m) f_optimised f_initialCost f_resultRows a_rowCount a_values a_entryRels a_entryVisible a_estimates a_opKind a_opLeftAttrs a_opRightAttrs a_opDivisor a_opLeftRels a_opRightRels a_sideSet a_eligible a_opsIn a_bestCost a_planCount a_rootOf a_leftPart a_nodeAt a_slotRows a_slotCount a_keys a_grouped a_groupStart a_groupHit a_result n s (nI i)) (fun i s => s = nI (jp_ok lr rr S i)) m 0 rfl ?_ ?_
  · rintro n s rfl
    exact br_t (nI_le (Nat.le_refl _) (by omega)) k
  · rintro n i s hi rfl ih
    obtain ⟨e1, e2, _, b1, b2, _⟩ := hO i hi
    have b3 : lr i ||| rr i < 64 := Nat.or_lt_two_pow (n := 6) b1 b2
    refine br_f (nI_ge hi (by omega)) ⟨vp_in_nI (by omega) (by decide), vp_in_nI (by omega) (by decide), ?_⟩
    rw [nI_clamp (by omega), e1, e2, ja_or]
    refine ek_if (d := ja_sd (lr i ||| rr i) S = 0) (by rw [ja_sd0]; exact ja_anz (by omega)) (fun h => ?_) (fun h => nm_r (nI_1 i) (ih _ ?_))
    · refine nm_r (e' := nI (jp_ok lr rr S (i + 1))) ?_ (nm_r (nI_1 i) (ih _ rfl))
      rw [ja_sh i (by omega), ja_or]
      show _ = nI (if ja_sd (lr i ||| rr i) S = 0 then _ else _)
      rw [if_pos h]
    · show _ = nI (if ja_sd (lr i ||| rr i) S = 0 then _ else _)
      rw [if_neg h]
theorem jx_size {post : Int32 → Prop} {S : Nat} (E : jx_PE m U lr rr dv est f_opCount a_opLeftRels a_opRightRels a_opDivisor a_estimates) (hS : ja_sub S U) (eS : a_opsIn S = nI (jp_ok lr rr S m)) (k : post (nI (jp_sz est lr rr dv m S))) : wpX_sizeOf post (f_nullKey, f_maxRows, f_n, f_rowLimit, f_rowTotal, f_entryCount, f_usedRels, f_opCount, f_optimised, f_initialCost, f_resultRows, a_rowCount, a_values, a_entryRels, a_entryVisible, a_estimates, a_opKind, a_opLeftAttrs, a_opRightAttrs, a_opDivisor, a_opLeftRels, a_opRightRels, a_sideSet, a_eligible, a_opsIn, a_bestCost, a_planCount, a_rootOf, a_leftPart, a_nodeAt, a_slotRows, a_slotCount, a_keys, a_grouped, a_groupStart, a_groupHit, a_result) (nI S) := by
  obtain ⟨H, eo, hO, hE⟩ := E
  have h5 := jp_m5 H
  have h6 : S < 64 := Nat.lt_of_le_of_lt (ja_sub_le hS) H.1
  have ok32 := jp_ok_lt (lr := lr) (rr := rr) (S := S) m h5
  have pb := jp_pr_6 (est := est) (S := S) fun r hr => (hE r (hS r hr)).2
  have db := jp_dp_5 (lr := lr) (rr := rr) (dv := dv) (S := S) (m := m) (fun i hi => (hO i hi).2.2.2.2.2) h5
  subst eo
  refine loop_0 (fun n i s => wX_sizeOf_4 post (nI S) f_nullKey f_maxRows f_n f_rowLimit f_rowTotal f_entryCount f_usedRels (nI m) f_optimised f_initialCost f_resultRows a_rowCount a_values a_entryRels a_entryVisible a_estimates a_opKind a_opLeftAttrs a_opRightAttrs a_opDivisor a_opLeftRels a_opRightRels a_sideSet a_eligible a_opsIn a_bestCost a_planCount a_rootOf a_leftPart a_nodeAt a_slotRows a_slotCount a_keys a_grouped a_groupStart a_groupHit a_result n s (nI i)) (fun i s => s = nI (jp_pr est S i)) 6 1 rfl ?_ ?_
  · rintro n s rfl
    refine br_t (by decide) ?_
    refine loop_0 (fun n i s => wX_sizeOf_38 post (nI S) (nI (jp_pr est S 6)) f_nullKey f_maxRows f_n f_rowLimit f_rowTotal f_entryCount f_usedRels (nI m) f_optimised f_initialCost f_resultRows a_rowCount a_values a_entryRels a_entryVisible a_estimates a_opKind a_opLeftAttrs a_opRightAttrs a_opDivisor a_opLeftRels a_opRightRels a_sideSet a_eligible a_opsIn a_bestCost a_planCount a_rootOf a_leftPart a_nodeAt a_slotRows a_slotCount a_keys a_grouped a_groupStart a_groupHit a_result n s (nI i)) (fun i s => s = nI (jp_dp lr rr dv S i)) m 1 rfl ?_ ?_
    · rintro n s rfl
      refine br_t (nI_le (Nat.le_refl _) (by omega)) ?_
      unfold jp_sz at k
      refine br_f (nI_nlt (b := 1) db.1 (by omega)) (pk_le (jp_dp lr rr dv S m) (jp_pr est S 6) (fun h => ?_) (fun h => ?_))
      · rw [if_neg (by omega)] at k
        refine ⟨nI_ne0 db.1 (by omega), ?_⟩
        rw [pk_div (by omega) db.1 (by omega)]
        exact k
      · rw [if_pos h] at k
        exact k
    · rintro n i s hi rfl ih
      refine br_f (nI_ge hi (by omega)) ⟨vp_in_nI h6 (by decide), ?_⟩
      rw [nI_clamp (n := S) (by omega), eS]
      refine ek_if (d := ¬ ja_sd (lr i ||| rr i) S = 0) ?_ (fun h => nm_r (nI_1 i) (ih _ ?_)) (fun h => ⟨vp_in_nI (by omega) (by decide), ?_⟩)
      · rw [ja_b0 (by omega) (by omega), jp_ok_bit, ja_sd0]
        exact ⟨fun z y => z ⟨hi, y⟩, fun z y => z y.2⟩
      · show _ = nI (if ja_sd (lr i ||| rr i) S = 0 then _ else _)
        rw [if_neg h]
      · refine nm_r (e' := nI (jp_dp lr rr dv S (i + 1))) ?_ (nm_r (nI_1 i) (ih _ rfl))
        rw [nI_clamp (by omega), (hO i hi).2.2.1, pk_mul]
        show _ = nI (if ja_sd (lr i ||| rr i) S = 0 then _ else _)
        rw [if_pos (Classical.not_not.mp h)]
  · rintro n i s hi rfl ih
    refine br_f (nI_ge (b := 6) hi (by decide)) (ek_if (ja_b0 (by omega) (by omega)) (fun h => nm_r (nI_1 i) (ih _ ?_)) (fun h => ⟨vp_in_nI (by omega) (by decide), ?_⟩))
    · show _ = nI (if S.testBit i = true then _ else _)
      rw [if_neg h]
    · have h := Classical.not_not.mp h
      refine nm_r (e' := nI (jp_pr est S (i + 1))) ?_ (nm_r (nI_1 i) (ih _ rfl))
      rw [nI_clamp (by omega), (hE i (hS i h)).1, pk_mul]
      show _ = nI (if S.testBit i = true then _ else _)
      rw [if_pos h]
theorem jx_comp {post : Int32 → Prop} {O C : Nat} (E : jx_PE m U lr rr dv est f_opCount a_opLeftRels a_opRightRels a_opDivisor a_estimates) (hO31 : O < 2 ^ 31) (k : post (nI (jp_cm lr rr m O C m))) : wpX_component post (f_nullKey, f_maxRows, f_n, f_rowLimit, f_rowTotal, f_entryCount, f_usedRels, f_opCount, f_optimised, f_initialCost, f_resultRows, a_rowCount, a_values, a_entryRels, a_entryVisible, a_estimates, a_opKind, a_opLeftAttrs, a_opRightAttrs, a_opDivisor, a_opLeftRels, a_opRightRels, a_sideSet, a_eligible, a_opsIn, a_bestCost, a_planCount, a_rootOf, a_leftPart, a_nodeAt, a_slotRows, a_slotCount, a_keys, a_grouped, a_groupStart, a_groupHit, a_result) (nI C) (nI O) := by
  obtain ⟨H, eo, hO, hE⟩ := E
  have h5 := jp_m5 H
  subst eo
  refine loop_0 (fun n p s => wX_component_5 post (nI O) f_nullKey f_maxRows f_n f_rowLimit f_rowTotal f_entryCount f_usedRels (nI m) f_optimised f_initialCost f_resultRows a_rowCount a_values a_entryRels a_entryVisible a_estimates a_opKind a_opLeftAttrs a_opRightAttrs a_opDivisor a_opLeftRels a_opRightRels a_sideSet a_eligible a_opsIn a_bestCost a_planCount a_rootOf a_leftPart a_nodeAt a_slotRows a_slotCount a_keys a_grouped a_groupStart a_groupHit a_result n s (nI p)) (fun p s => s = nI (jp_cm lr rr m O C p)) m (nI C) rfl ?_ ?_
  · rintro n s rfl
    exact br_t (nI_le (Nat.le_refl _) (by omega)) k
  · rintro n p s hp rfl ih
    refine br_f (nI_ge hp (by omega)) ?_
    refine loop_0 (fun n' i s => wX_component_17 post (wX_component_5 post (nI O) f_nullKey f_maxRows f_n f_rowLimit f_rowTotal f_entryCount f_usedRels (nI m) f_optimised f_initialCost f_resultRows a_rowCount a_values a_entryRels a_entryVisible a_estimates a_opKind a_opLeftAttrs a_opRightAttrs a_opDivisor a_opLeftRels a_opRightRels a_sideSet a_eligible a_opsIn a_bestCost a_planCount a_rootOf a_leftPart a_nodeAt a_slotRows a_slotCount a_keys a_grouped a_groupStart a_groupHit a_result n) (nI O) (nI p) f_nullKey f_maxRows f_n f_rowLimit f_rowTotal f_entryCount f_usedRels (nI m) f_optimised f_initialCost f_resultRows a_rowCount a_values a_entryRels a_entryVisible a_estimates a_opKind a_opLeftAttrs a_opRightAttrs a_opDivisor a_opLeftRels a_opRightRels a_sideSet a_eligible a_opsIn a_bestCost a_planCount a_rootOf a_leftPart a_nodeAt a_slotRows a_slotCount a_keys a_grouped a_groupStart a_groupHit a_result n' s (nI i)) (fun i s => s = nI (jp_cp lr rr O (jp_cm lr rr m O C p) i)) m (nI (jp_cm lr rr m O C p)) rfl ?_ ?_
    · rintro n' s rfl
      exact br_t (nI_le (Nat.le_refl _) (by omega)) (nm_r (nI_1 p) (ih _ rfl))
    · rintro n' i s hi rfl ih'
      obtain ⟨e1, e2, _, b1, b2, _⟩ := hO i hi
      have b3 : lr i ||| rr i < 64 := Nat.or_lt_two_pow (n := 6) b1 b2
      refine br_f (nI_ge hi (by omega)) ⟨vp_in_nI (by omega) (by decide), vp_in_nI (by omega) (by decide), ?_⟩
      rw [nI_clamp (by omega), e1, e2, ja_or]
      refine nm_e (ek_if (ja_b0 hO31 (by omega)) (fun h => nm_r (nI_1 i) (ih' _ ?_)) (fun h => ?_))
      · rw [jp_cp_s, if_neg fun z => h z.1]
      · have h := Classical.not_not.mp h
        refine ek_if (d := (lr i ||| rr i) &&& jp_cp lr rr O (jp_cm lr rr m O C p) i = 0) (by rw [ja_an0']; exact ja_aaz (by omega)) (fun h2 => nm_r (nI_1 i) (ih' _ ?_)) (fun h2 => ?_)
        · rw [jp_cp_s, if_neg fun z => z.2 h2]
        · refine nm_r (e' := nI (jp_cp lr rr O (jp_cm lr rr m O C p) (i + 1))) ?_ (nm_r (nI_1 i) (ih' _ rfl))
          rw [ja_or, jp_cp_s, if_pos ⟨h, h2⟩]
/-! eligibility masks -/
end
def jp_el (m : Nat) (s kd : Nat → Nat) (i : Nat) (x : Int32) : Prop := ∃ M, x = nI M ∧ M < 32 ∧ ∀ u, M.testBit u = true ↔ (u < m ∧ u ≠ i / 2 ∧ jp_al s kd (i / 2) u (i % 2))
section
variable {f_nullKey f_maxRows f_n f_rowLimit f_rowTotal f_entryCount f_usedRels f_opCount f_optimised f_initialCost f_resultRows : Int32} {a_rowCount a_values a_entryRels a_entryVisible a_estimates a_opKind a_opLeftAttrs a_opRightAttrs a_opDivisor a_opLeftRels a_opRightRels a_sideSet a_eligible a_opsIn a_bestCost a_planCount a_rootOf a_leftPart a_nodeAt a_slotRows a_slotCount a_keys a_grouped a_groupStart a_groupHit a_result : Nat → Int32}
variable {m U : Nat} {s kd : Nat → Nat}
theorem jx_elig {post : SX → Prop} (hm : m ≤ 5) (eo : f_opCount = nI m) (h5 : jf_F5 m s) (es : ∀ i, a_sideSet i = nI (s i)) (hs : ∀ i, i < 2 * m → s i < 64) (ekd : ∀ i, a_opKind i = nI (kd i)) (hkd : ∀ i, i < m → kd i < 10)
    (k : ∀ el, (∀ i, i < 2 * m → jp_el m s kd i (el i)) → post (f_nullKey, f_maxRows, f_n, f_rowLimit, f_rowTotal, f_entryCount, f_usedRels, f_opCount, f_optimised, f_initialCost, f_resultRows, a_rowCount, a_values, a_entryRels, a_entryVisible, a_estimates, a_opKind, a_opLeftAttrs, a_opRightAttrs, a_opDivisor, a_opLeftRels, a_opRightRels, a_sideSet, el, a_opsIn, a_bestCost, a_planCount, a_rootOf, a_leftPart, a_nodeAt, a_slotRows, a_slotCount, a_keys, a_grouped, a_groupStart, a_groupHit, a_result)) : wpX_findEligible post (f_nullKey, f_maxRows, f_n, f_rowLimit, f_rowTotal, f_entryCount, f_usedRels, f_opCount, f_optimised, f_initialCost, f_resultRows, a_rowCount, a_values, a_entryRels, a_entryVisible, a_estimates, a_opKind, a_opLeftAttrs, a_opRightAttrs, a_opDivisor, a_opLeftRels, a_opRightRels, a_sideSet, a_eligible, a_opsIn, a_bestCost, a_planCount, a_rootOf, a_leftPart, a_nodeAt, a_slotRows, a_slotCount, a_keys, a_grouped, a_groupStart, a_groupHit, a_result) := by
  subst eo
  have e2 : nI m * 2 = nI (2 * m) := by rw [show nI m * 2 = nI (m * 2) from pk_mul m 2, Nat.mul_comm]
  refine loop_0 (fun n i el => wX_findEligible_2 post f_nullKey f_maxRows f_n f_rowLimit f_rowTotal f_entryCount f_usedRels (nI m) f_optimised f_initialCost f_resultRows n (nI i) a_rowCount a_values a_entryRels a_entryVisible a_estimates a_opKind a_opLeftAttrs a_opRightAttrs a_opDivisor a_opLeftRels a_opRightRels a_sideSet (el) a_opsIn a_bestCost a_planCount a_rootOf a_leftPart a_nodeAt a_slotRows a_slotCount a_keys a_grouped a_groupStart a_groupHit a_result) (fun i el => ∀ j, j < i → jp_el m s kd j (el j)) (2 * m) a_eligible (fun j hj => absurd hj (by omega)) ?_ ?_
  · intro n el h
    exact br_t (by rw [e2]; exact nI_le (Nat.le_refl _) (by omega)) (k el h)
  · intro n i el hi h ih
    refine br_f (by rw [e2]; exact nI_ge hi (by omega)) ?_
    have e1 : nI i >>> ((1 : Int32) &&& 31) = nI (i / 2) := jn_half (by omega)
    have e3 : nI i &&& 1 = nI (i % 2) := pk_andN (by omega) 1 (by decide)
    refine loop_0 (fun n' u x => wX_findEligible_16 post (wX_findEligible_2 post f_nullKey f_maxRows f_n f_rowLimit f_rowTotal f_entryCount f_usedRels (nI m) f_optimised f_initialCost f_resultRows n) (nI i) f_nullKey f_maxRows f_n f_rowLimit f_rowTotal f_entryCount f_usedRels (nI m) f_optimised f_initialCost f_resultRows a_rowCount a_values a_entryRels a_entryVisible a_estimates a_opKind a_opLeftAttrs a_opRightAttrs a_opDivisor a_opLeftRels a_opRightRels a_sideSet (el) a_opsIn a_bestCost a_planCount a_rootOf a_leftPart a_nodeAt a_slotRows a_slotCount a_keys a_grouped a_groupStart a_groupHit a_result n' x (nI u))
      (fun u x => ∃ M, x = nI M ∧ M < 32 ∧ ∀ y, M.testBit y = true ↔ (y < u ∧ y ≠ i / 2 ∧ jp_al s kd (i / 2) y (i % 2))) m 0 ⟨0, rfl, by decide, fun y => ⟨fun z => absurd z ja_n0, fun z => absurd z.1 (by omega)⟩⟩ ?_ ?_
    · rintro n' x hx
      refine br_t (nI_le (Nat.le_refl _) (by omega)) ⟨vp_in_nI (by omega) (by decide), nm_r (jn_up rfl (by omega)) (nm_r (nI_1 i) (ih _ ?_))⟩
      intro j hj
      by_cases e : j = i
      · subst e
        rw [pk_us]
        exact hx
      · rw [pk_un e]
        exact h j (by omega)
    · rintro n' u x hu ⟨M, rfl, hM, hb⟩ ih'
      refine br_f (nI_ge hu (by omega)) ?_
      rw [e1, e3]
      refine pk_eq u (i / 2) (fun e => nm_r (nI_1 u) (ih' _ ⟨M, rfl, hM, fun y => ?_⟩)) (fun e => ?_)
      · rw [hb]
        exact ⟨fun z => ⟨by omega, z.2⟩, fun z => ⟨by have := z.2.1; omega, z.2⟩⟩
      · refine jx_allowed (m := m) (s := s) (kd := kd) (by omega) hu hm (fun z => e z.symm) h5 es hs ekd hkd (Nat.mod_lt _ (by decide)) (fun ha => ?_) (fun ha => ?_)
        · refine br_f (by decide) (nm_r (e' := nI (M ||| 2 ^ u)) (by rw [ja_sh u (by omega), ja_or]) (nm_r (nI_1 u) (ih' _ ⟨M ||| 2 ^ u, rfl, Nat.or_lt_two_pow (n := 5) hM (Nat.pow_lt_pow_right (by decide) (by omega)), fun y => ?_⟩)))
          rw [ja_mo, hb, ja_m2]
          constructor
          · rintro (z | z)
            · exact ⟨by omega, z.2⟩
            · subst z; exact ⟨by omega, e, ha⟩
          · intro z
            by_cases ey : y = u
            · exact Or.inr ey.symm
            · exact Or.inl ⟨by omega, z.2⟩
        · refine br_t rfl (nm_r (nI_1 u) (ih' _ ⟨M, rfl, hM, fun y => ?_⟩))
          rw [hb]
          constructor
          · intro z; exact ⟨by omega, z.2⟩
          · intro z
            refine ⟨?_, z.2⟩
            by_cases ey : y = u
            · subst ey; exact absurd z.2.2 ha
            · omega
end
end
section
/-! ===== planning, component's side: one set ===== -/
theorem ja_uu {f : Nat → Int32} {k : Nat} {x y : Int32} : upd (upd f k x) k y = upd f k y := by
  funext j
  by_cases e : j = k
  · subst e; rw [pk_us, pk_us]
  · rw [pk_un e, pk_un e, pk_un e]
theorem jp_LR {lr rr : Nat → Nat} {m U S q : Nat} (H : jp_PL m U lr rr) (hq : q < m) (hin : ja_sub (lr q ||| rr q) S) (hr : ja_sub (rr q) (ja_sd S (jp_co m lr rr S q))) :
    jp_co m lr rr S q ≠ 0 ∧ ja_sd S (jp_co m lr rr S q) ≠ 0 ∧ jp_co m lr rr S q < S ∧ ja_sd S (jp_co m lr rr S q) < S ∧ ja_sub (jp_co m lr rr S q) S := by
  have hl : ja_sub (lr q) (jp_co m lr rr S q) := jp_co_lr
  have hs : ja_sub (jp_co m lr rr S q) S := jp_co_S (ja_sub_tr ja_or_l hin)
  obtain ⟨x, hx⟩ := ja_nz.mp (H.2.2.1 q hq).1
  obtain ⟨y, hy⟩ := ja_nz.mp (H.2.2.1 q hq).2.1
  refine ⟨ja_nz.mpr ⟨x, hl x hx⟩, ja_nz.mpr ⟨y, hr y hy⟩, ?_, ?_, hs⟩
  · have h1 := ja_sub_le hs
    rcases Nat.lt_or_ge (jp_co m lr rr S q) S with z | z
    · exact z
    · have e : jp_co m lr rr S q = S := by omega
      exfalso
      have := hr y hy
      rw [ja_md] at this
      rw [e] at this
      exact this.2 this.1
  · have h1 := ja_sd_le S (jp_co m lr rr S q)
    rcases Nat.lt_or_ge (ja_sd S (jp_co m lr rr S q)) S with z | z
    · exact z
    · have e : ja_sd S (jp_co m lr rr S q) = S := by omega
      exfalso
      have h2 := hs x (hl x hx)
      rw [← e] at h2
      exact (ja_md.mp h2).2 (hl x hx)
section
variable {f_nullKey f_maxRows f_n f_rowLimit f_rowTotal f_entryCount f_usedRels f_opCount f_optimised f_initialCost f_resultRows : Int32} {a_rowCount a_values a_entryRels a_entryVisible a_estimates a_opKind a_opLeftAttrs a_opRightAttrs a_opDivisor a_opLeftRels a_opRightRels a_sideSet a_eligible a_opsIn a_bestCost a_planCount a_rootOf a_leftPart a_nodeAt a_slotRows a_slotCount a_keys a_grouped a_groupStart a_groupHit a_result : Nat → Int32}
variable {m U : Nat} {lr rr dv est s kd : Nat → Nat}
theorem jx_cons {post : SX → Prop} {S q : Nat} {h : Int32} {st : Int32 × Int32 × Int32 × Int32} (E : jx_PE m U lr rr dv est f_opCount a_opLeftRels a_opRightRels a_opDivisor a_estimates)
    (hSU : ja_sub S U) (hq : q < m) (hin : ja_sub (lr q ||| rr q) S) (ho : ∀ T, T ≠ 0 → T ≤ S → ja_sub T U → a_opsIn T = nI (jp_ok lr rr T m)) (hel : ∀ i, i < 2 * m → jp_el m s kd i (a_eligible i))
    (k1 : ∀ st', jp_X m lr rr (jp_al s kd) a_planCount S q → st' = jp_st a_planCount a_bestCost (jp_co m lr rr S q) (ja_sd S (jp_co m lr rr S q)) h q st → post (f_nullKey, f_maxRows, f_n, f_rowLimit, f_rowTotal, f_entryCount, f_usedRels, f_opCount, f_optimised, f_initialCost, f_resultRows, a_rowCount, a_values, a_entryRels, a_entryVisible, a_estimates, a_opKind, a_opLeftAttrs, a_opRightAttrs, a_opDivisor, a_opLeftRels, a_opRightRels, a_sideSet, a_eligible, a_opsIn, upd a_bestCost S st'.2.1, upd a_planCount S st'.1, upd a_rootOf S st'.2.2.1, upd a_leftPart S st'.2.2.2, a_nodeAt, a_slotRows, a_slotCount, a_keys, a_grouped, a_groupStart, a_groupHit, a_result))
    (k0 : ¬ jp_X m lr rr (jp_al s kd) a_planCount S q → post (f_nullKey, f_maxRows, f_n, f_rowLimit, f_rowTotal, f_entryCount, f_usedRels, f_opCount, f_optimised, f_initialCost, f_resultRows, a_rowCount, a_values, a_entryRels, a_entryVisible, a_estimates, a_opKind, a_opLeftAttrs, a_opRightAttrs, a_opDivisor, a_opLeftRels, a_opRightRels, a_sideSet, a_eligible, a_opsIn, upd a_bestCost S st.2.1, upd a_planCount S st.1, upd a_rootOf S st.2.2.1, upd a_leftPart S st.2.2.2, a_nodeAt, a_slotRows, a_slotCount, a_keys, a_grouped, a_groupStart, a_groupHit, a_result)) :
    wpX_considerRoot post (f_nullKey, f_maxRows, f_n, f_rowLimit, f_rowTotal, f_entryCount, f_usedRels, f_opCount, f_optimised, f_initialCost, f_resultRows, a_rowCount, a_values, a_entryRels, a_entryVisible, a_estimates, a_opKind, a_opLeftAttrs, a_opRightAttrs, a_opDivisor, a_opLeftRels, a_opRightRels, a_sideSet, a_eligible, a_opsIn, upd a_bestCost S st.2.1, upd a_planCount S st.1, upd a_rootOf S st.2.2.1, upd a_leftPart S st.2.2.2, a_nodeAt, a_slotRows, a_slotCount, a_keys, a_grouped, a_groupStart, a_groupHit, a_result) (nI S) (nI q) h := by
  have E0 := E
  obtain ⟨H, eo, hO, hE⟩ := E
  have h5 := jp_m5 H
  have h6 : S < 64 := Nat.lt_of_le_of_lt (ja_sub_le hSU) H.1
  obtain ⟨e1, e2, _, b1, b2, _⟩ := hO q hq
  have hS0 : S ≠ 0 := by
    obtain ⟨x, hx⟩ := ja_nz.mp (jp_rl0 H hq)
    exact ja_nz.mpr ⟨x, hin x hx⟩
  have ok32 := jp_ok_lt (lr := lr) (rr := rr) (S := S) m h5
  have hLS : ja_sub (jp_co m lr rr S q) S := jp_co_S (ja_sub_tr ja_or_l hin)
  have hL64 := Nat.lt_of_le_of_lt (ja_sub_le hLS) h6
  have hR64 := Nat.lt_of_le_of_lt (ja_sd_le S (jp_co m lr rr S q)) h6
  have ii : jp_cm lr rr m (ja_sd (jp_ok lr rr S m) (2 ^ q)) (lr q) m = jp_co m lr rr S q := rfl
  have i2 : nI q * 2 = nI (2 * q) := by rw [show nI q * 2 = nI (q * 2) from pk_mul q 2, Nat.mul_comm]
  have i21 : nI (2 * q) + 1 = nI (2 * q + 1) := nI_1 _
  unfold wpX_considerRoot
  dsimp only
  rw [i2, i21, nI_clamp (n := q) (by omega), nI_clamp (n := S) (by omega), nI_clamp (n := 2 * q) (by omega), nI_clamp (n := 2 * q + 1) (by omega), e1, e2, ho S hS0 (Nat.le_refl _) hSU, ja_sh q (by omega), ja_an _ (by omega)]
  refine ⟨vp_in_nI (by omega) (by decide), vp_in_nI h6 (by decide), jx_comp E0 (Nat.lt_of_le_of_lt (ja_sd_le _ _) (by omega)) ?_⟩
  rw [ii]
  generalize hLL : jp_co m lr rr S q = L at hLS hL64 hR64 k1
  refine nm_r (ja_an L (by omega)) ⟨vp_in_nI (by omega) (by decide), ?_⟩
  have hF : jp_X m lr rr (jp_al s kd) a_planCount S q → jp_F m lr rr (jp_al s kd) a_planCount q L (ja_sd S L) := fun x => by rw [← hLL]; exact x.2.2
  have hX : jp_F m lr rr (jp_al s kd) a_planCount q L (ja_sd S L) → jp_X m lr rr (jp_al s kd) a_planCount S q := fun x => ⟨hq, hin, by rw [hLL]; exact x⟩
  refine ek_if (d := ja_sub (rr q) (ja_sd S L)) (ja_anz (by omega)) (fun hr => ?_) (fun hr => k0 fun x => hr (hF x).2.2.2.1)
  have hLR := jp_LR H hq hin (by rw [hLL]; exact hr)
  rw [hLL] at hLR
  obtain ⟨p1, p2, p3, p4, p5⟩ := hLR
  have hlq : ja_sub (lr q) L := by rw [← hLL]; exact jp_co_lr
  have hdj := ja_sd_dj S L
  obtain ⟨M0, m0, m032, m0b⟩ := hel (2 * q) (by omega)
  obtain ⟨M1, m1, m132, m1b⟩ := hel (2 * q + 1) (by omega)
  rw [show 2 * q / 2 = q from by omega, show 2 * q % 2 = 0 from by omega] at m0b
  rw [show (2 * q + 1) / 2 = q from by omega, show (2 * q + 1) % 2 = 1 from by omega] at m1b
  have okL := jp_ok_lt (lr := lr) (rr := rr) (S := L) m h5
  have okR := jp_ok_lt (lr := lr) (rr := rr) (S := ja_sd S L) m h5
  rw [nI_clamp (n := L) (by omega), nI_clamp (n := ja_sd S L) (by omega), pk_un (show L ≠ S by omega), pk_un (show ja_sd S L ≠ S by omega), pk_un (show L ≠ S by omega), pk_un (show ja_sd S L ≠ S by omega), pk_us, pk_us, ja_uu,
    ho L p1 (by omega) (ja_sub_tr p5 hSU), ho _ p2 (by omega) (ja_sub_tr (ja_sd_sub _ _) hSU), m0, m1]
  refine ⟨vp_in_nI hL64 (by decide), br_c (fun w0 => k0 fun x => (hF x).1 w0) (fun w0 => ⟨vp_in_nI hR64 (by decide), br_c (fun w1 => k0 fun x => (hF x).2.1 w1) (fun w1 => ⟨vp_in_nI hL64 (by decide), vp_in_nI (by omega) (by decide), ?_⟩)⟩)⟩
  refine ek_if (d := ja_sub (jp_ok lr rr L m) M0) (ja_anz (by omega)) (fun h0 => ⟨vp_in_nI hR64 (by decide), vp_in_nI (by omega) (by decide), ?_⟩) (fun h0 => k0 fun x => h0 fun i hi => ?_)
  · refine ek_if (d := ja_sub (jp_ok lr rr (ja_sd S L) m) M1) (ja_anz (by omega)) (fun h1 => ?_) (fun h1 => k0 fun x => h1 fun i hi => ?_)
    · have X : jp_X m lr rr (jp_al s kd) a_planCount S q := hX ⟨w0, w1, hlq, hr, fun i hi => ⟨fun z => ((m0b i).mp (h0 i ((jp_ok_bit m i).mpr ⟨hi, z⟩))).2.2, fun z => ((m1b i).mp (h1 i ((jp_ok_bit m i).mpr ⟨hi, z⟩))).2.2⟩⟩
      refine ⟨vp_in_nI h6 (by decide), vp_in_nI hL64 (by decide), vp_in_nI hR64 (by decide), vp_in_nI h6 (by decide), nm_e ⟨vp_in_nI hL64 (by decide), vp_in_nI hR64 (by decide), nm_e ⟨vp_in_nI h6 (by decide), ?_⟩⟩⟩
      have c175 : (st.2.1 < 0 ∨ (h + a_bestCost L) + a_bestCost (ja_sd S L) < st.2.1) → wX_considerRoot_175 post (nI S) (nI q) (nI L) ((h + a_bestCost L) + a_bestCost (ja_sd S L)) f_nullKey f_maxRows f_n f_rowLimit f_rowTotal f_entryCount f_usedRels f_opCount f_optimised f_initialCost f_resultRows a_rowCount a_values a_entryRels a_entryVisible a_estimates a_opKind a_opLeftAttrs a_opRightAttrs a_opDivisor a_opLeftRels a_opRightRels a_sideSet a_eligible a_opsIn (upd a_bestCost S st.2.1) (upd a_planCount S (st.1 + a_planCount L * a_planCount (ja_sd S L))) (upd a_rootOf S st.2.2.1) (upd a_leftPart S st.2.2.2) a_nodeAt a_slotRows a_slotCount a_keys a_grouped a_groupStart a_groupHit a_result := by
        intro hc
        unfold wX_considerRoot_175
        rw [nI_clamp (n := S) (by omega), ja_uu, ja_uu, ja_uu]
        refine ⟨vp_in_nI h6 (by decide), nm_e ⟨vp_in_nI h6 (by decide), nm_e ⟨vp_in_nI h6 (by decide), nm_e ?_⟩⟩⟩
        refine k1 (st.1 + a_planCount L * a_planCount (ja_sd S L), (h + a_bestCost L) + a_bestCost (ja_sd S L), nI q, nI L) X ?_
        unfold jp_st
        rw [if_pos hc]
      refine br_c (fun c0 => c175 (Or.inl c0)) (fun c0 => ⟨vp_in_nI h6 (by decide), br_c (fun c1 => ?_) (fun c1 => c175 (Or.inr (Int32.not_le.mp c1)))⟩)
      refine k1 (st.1 + a_planCount L * a_planCount (ja_sd S L), st.2.1, st.2.2.1, st.2.2.2) X ?_
      unfold jp_st
      rw [if_neg (fun z => z.elim c0 (fun y => Int32.not_le.mpr y c1))]
    · obtain ⟨a1, a2⟩ := (jp_ok_bit m i).mp hi
      exact (m1b i).mpr ⟨a1, fun z => jp_nsub' H hq hdj hlq (by rw [← z]; exact a2), ((hF x).2.2.2.2 i a1).2 a2⟩
  · obtain ⟨a1, a2⟩ := (jp_ok_bit m i).mp hi
    exact (m0b i).mpr ⟨a1, fun z => jp_nsub H hq hdj hr (by rw [← z]; exact a2), ((hF x).2.2.2.2 i a1).1 a2⟩
theorem jx_plan {post : SX → Prop} {S : Nat} (E : jx_PE m U lr rr dv est f_opCount a_opLeftRels a_opRightRels a_opDivisor a_estimates) (hS0 : S ≠ 0) (hSU : ja_sub S U)
    (ho : ∀ T, T ≠ 0 → T < S → ja_sub T U → a_opsIn T = nI (jp_ok lr rr T m)) (hel : ∀ i, i < 2 * m → jp_el m s kd i (a_eligible i))
    (k : ∀ st : Int32 × Int32 × Int32 × Int32, (ja_sg S → st = (1, 0, -1, 0)) → (¬ ja_sg S → st = jp_ps m lr rr (jp_al s kd) a_planCount a_bestCost S (nI (jp_sz est lr rr dv m S)) (0, -1, -1, 0) m) →
      post (f_nullKey, f_maxRows, f_n, f_rowLimit, f_rowTotal, f_entryCount, f_usedRels, f_opCount, f_optimised, f_initialCost, f_resultRows, a_rowCount, a_values, a_entryRels, a_entryVisible, a_estimates, a_opKind, a_opLeftAttrs, a_opRightAttrs, a_opDivisor, a_opLeftRels, a_opRightRels, a_sideSet, a_eligible, upd a_opsIn S (nI (jp_ok lr rr S m)), upd a_bestCost S st.2.1, upd a_planCount S st.1, upd a_rootOf S st.2.2.1, upd a_leftPart S st.2.2.2, a_nodeAt, a_slotRows, a_slotCount, a_keys, a_grouped, a_groupStart, a_groupHit, a_result)) : wpX_planSet post (f_nullKey, f_maxRows, f_n, f_rowLimit, f_rowTotal, f_entryCount, f_usedRels, f_opCount, f_optimised, f_initialCost, f_resultRows, a_rowCount, a_values, a_entryRels, a_entryVisible, a_estimates, a_opKind, a_opLeftAttrs, a_opRightAttrs, a_opDivisor, a_opLeftRels, a_opRightRels, a_sideSet, a_eligible, a_opsIn, a_bestCost, a_planCount, a_rootOf, a_leftPart, a_nodeAt, a_slotRows, a_slotCount, a_keys, a_grouped, a_groupStart, a_groupHit, a_result) (nI S) := by
  have H := E.1
  have eo := E.2.1
  have h5 := jp_m5 H
  have h6 : S < 64 := Nat.lt_of_le_of_lt (ja_sub_le hSU) H.1
  have hv : vp_in (nI S) 64 := vp_in_nI h6 (by decide)
  have ok32 := jp_ok_lt (lr := lr) (rr := rr) (S := S) m h5
  have ho' : ∀ T, T ≠ 0 → T ≤ S → ja_sub T U → upd a_opsIn S (nI (jp_ok lr rr S m)) T = nI (jp_ok lr rr T m) := by
    intro T t0 tl ts
    by_cases e : T = S
    · subst e; exact pk_us
    · rw [pk_un e]; exact ho T t0 (by omega) ts
  unfold wpX_planSet
  dsimp only
  refine jx_ins E ?_
  rw [nI_clamp (n := S) (by omega)]
  refine ⟨hv, nm_e ⟨hv, nm_e ⟨hv, nm_e ⟨hv, nm_e ⟨hv, nm_e ?_⟩⟩⟩⟩⟩
  refine ek_if (ja_sg1 hS0 (by omega)) (fun hg => ?_) (fun hg => ?_)
  · rw [ja_uu, ja_uu]
    exact ⟨hv, nm_e ⟨hv, nm_e (k (1, 0, -1, 0) (fun _ => rfl) (fun z => absurd hg z))⟩⟩
  · refine jx_size E hSU pk_us ?_
    refine loop_0 (fun n q (st : Int32 × Int32 × Int32 × Int32) => wX_planSet_70 post (nI S) (nI (jp_sz est lr rr dv m S)) n (nI q) f_nullKey f_maxRows f_n f_rowLimit f_rowTotal f_entryCount f_usedRels f_opCount f_optimised f_initialCost f_resultRows a_rowCount a_values a_entryRels a_entryVisible a_estimates a_opKind a_opLeftAttrs a_opRightAttrs a_opDivisor a_opLeftRels a_opRightRels a_sideSet a_eligible (upd a_opsIn S (nI (jp_ok lr rr S m))) (upd a_bestCost S st.2.1) (upd a_planCount S st.1) (upd a_rootOf S st.2.2.1) (upd a_leftPart S st.2.2.2) a_nodeAt a_slotRows a_slotCount a_keys a_grouped a_groupStart a_groupHit a_result)
      (fun q st => st = jp_ps m lr rr (jp_al s kd) a_planCount a_bestCost S (nI (jp_sz est lr rr dv m S)) (0, -1, -1, 0) q) m (0, -1, -1, 0) rfl ?_ ?_
    · rintro n st hst
      exact br_t (by rw [eo]; exact nI_le (Nat.le_refl _) (by omega)) (k st (fun z => absurd z hg) (fun _ => hst))
    · rintro n q st hq hst ih
      refine br_f (by rw [eo]; exact nI_ge hq (by omega)) ⟨hv, ?_⟩
      rw [nI_clamp (n := S) (by omega), pk_us]
      refine ek_if (ja_b0 (by omega) (by omega)) (fun hb => nm_r (nI_1 q) (ih st ?_)) (fun hb => ?_)
      · rw [jp_ps_f (fun x => hb ((jp_ok_bit m q).mpr ⟨hq, x.2.1⟩))]
        exact hst
      · have hb := ((jp_ok_bit m q).mp (Classical.not_not.mp hb)).2
        refine jx_cons (s := s) (kd := kd) (lr := lr) (rr := rr) E hSU hq hb ho' hel ?_ ?_
        · intro st' hx hst'
          refine nm_r (nI_1 q) (ih st' ?_)
          rw [jp_ps_t hx, hst', hst]
        · intro hx
          refine nm_r (nI_1 q) (ih st ?_)
          rw [jp_ps_f hx, hst]
end
end
section
/-! ===== planning, component's side: the whole ===== -/
section
variable {lr rr : Nat → Nat} {m U : Nat} {al : Nat → Nat → Nat → Prop}
theorem jp_ps_cg {W C W' C' : Nat → Int32} {S : Nat} {h : Int32} {s0 : Int32 × Int32 × Int32 × Int32} (H : jp_PL m U lr rr) (hS : ja_sub S U) (hag : ∀ T, T ≠ 0 → T < S → ja_sub T U → W T = W' T ∧ C T = C' T) :
    ∀ q, jp_ps m lr rr al W C S h s0 q = jp_ps m lr rr al W' C' S h s0 q := by
  intro q
  induction q with
  | zero => rfl
  | succ q ih =>
    by_cases x : jp_X m lr rr al W S q
    · obtain ⟨p1, p2, p3, p4, p5, p6⟩ := jp_Xp H x
      have g1 := hag _ p1 p3 (ja_sub_tr p5 hS)
      have g2 := hag _ p2 p4 (ja_sub_tr (ja_sd_sub _ _) hS)
      have x' : jp_X m lr rr al W' S q := by
        obtain ⟨y1, y2, y3, y4, y5⟩ := x
        rw [g1.1] at y3
        rw [g2.1] at y4
        exact ⟨y1, y2, y3, y4, y5⟩
      rw [jp_ps_t x, jp_ps_t x', ih]
      unfold jp_st
      rw [g1.1, g1.2, g2.1, g2.2]
    · have x' : ¬ jp_X m lr rr al W' S q := by
        intro y
        obtain ⟨p1, p2, p3, p4, p5, p6⟩ := jp_Xp H y
        have g1 := hag _ p1 p3 (ja_sub_tr p5 hS)
        have g2 := hag _ p2 p4 (ja_sub_tr (ja_sd_sub _ _) hS)
        obtain ⟨y1, y2, y3, y4, y5⟩ := y
        rw [← g1.1] at y3
        rw [← g2.1] at y4
        exact x ⟨y1, y2, y3, y4, y5⟩
      rw [jp_ps_f x, jp_ps_f x', ih]
theorem jp_SP_up {W C RT LF : Nat → Int32} {sz : Nat → Nat} {t : Nat} {st : Int32 × Int32 × Int32 × Int32} {r0 l0 : Int32} (H : jp_PL m U lr rr) (h : jp_SP m U lr rr al sz t W C RT LF) (ht : ja_sub t U)
    (h1 : ja_sg t → st.1 = 1 ∧ st.2.1 = 0) (h2 : ¬ ja_sg t → st = jp_ps m lr rr al W C t (nI (sz t)) (0, -1, r0, l0) m) :
    jp_SP m U lr rr al sz (t + 1) (upd W t st.1) (upd C t st.2.1) (upd RT t st.2.2.1) (upd LF t st.2.2.2) := by
  intro S h0 hl hS
  by_cases e : S = t
  · subst e
    rw [pk_us, pk_us, pk_us, pk_us]
    refine ⟨h1, fun hg => ⟨r0, l0, ?_⟩⟩
    show st = _
    rw [h2 hg]
    exact jp_ps_cg H ht (fun T _ tl _ => ⟨(pk_un (by omega)).symm, (pk_un (by omega)).symm⟩) m
  · rw [pk_un e, pk_un e, pk_un e, pk_un e]
    obtain ⟨a, b⟩ := h S h0 (by omega) hS
    refine ⟨a, fun hg => ?_⟩
    obtain ⟨r1, l1, eq⟩ := b hg
    exact ⟨r1, l1, eq.trans (jp_ps_cg H hS (fun T _ tl _ => ⟨(pk_un (by omega)).symm, (pk_un (by omega)).symm⟩) m)⟩
theorem jp_SP_sk {W C RT LF : Nat → Int32} {sz : Nat → Nat} {t : Nat} (h : jp_SP m U lr rr al sz t W C RT LF) (ht : ¬ ja_sub t U) : jp_SP m U lr rr al sz (t + 1) W C RT LF := by
  intro S h0 hl hS
  refine h S h0 ?_ hS
  by_cases e : S = t
  · subst e; exact absurd hS ht
  · omega
/-- the chosen roots obey the layout's rule -/
theorem jl_Q_of {W C RT LF : Nat → Int32} {sz rt lf : Nat → Nat} (H : jp_PL m U lr rr) (hz : ∀ S, S ≠ 0 → ja_sub S U → sz S ≤ 64000000) (h : jp_SP m U lr rr al sz (U + 1) W C RT LF)
    (er : ∀ S, S ≠ 0 → ja_sub S U → W S ≠ 0 → ¬ ja_sg S → RT S = nI (rt S) ∧ rt S < 2 ^ 31) (el : ∀ S, S ≠ 0 → ja_sub S U → W S ≠ 0 → ¬ ja_sg S → LF S = nI (lf S) ∧ lf S < 2 ^ 31) :
    jl_Q m U lr rr (fun S => S ≠ 0 ∧ ja_sub S U ∧ W S ≠ 0) rt lf ∧ (∀ S, (S ≠ 0 ∧ ja_sub S U ∧ W S ≠ 0) → ¬ ja_sg S → C S = nI (sz S) + C (lf S) + C (ja_sd S (lf S))) := by
  have key : ∀ S, S ≠ 0 → ja_sub S U → W S ≠ 0 → ¬ ja_sg S → jp_X m lr rr al W S (rt S) ∧ lf S = jp_co m lr rr S (rt S) ∧ C S = nI (sz S) + C (lf S) + C (ja_sd S (lf S)) := by
    intro S h0 hS hw hg
    obtain ⟨j, hx, e1, e2, cl, cr, c1, c2, _, c3⟩ := (jp_RTs H hz h h0 (by have := ja_sub_le hS; omega) hS hg).2 hw
    obtain ⟨f1, b1⟩ := er S h0 hS hw hg
    obtain ⟨f2, b2⟩ := el S h0 hS hw hg
    have m5 := jp_m5 H
    have jl := hx.1
    have ej : rt S = j := by
      rw [f1] at e1
      exact (nI_eq b1 (by omega)).mp e1
    have hS6 : S < 64 := Nat.lt_of_le_of_lt (ja_sub_le hS) H.1
    obtain ⟨p1, p2, p3, p4, p5, p6⟩ := jp_Xp H hx
    have ef : lf S = jp_co m lr rr S j := by
      rw [f2] at e2
      exact (nI_eq b2 (by omega)).mp e2
    rw [ej]
    refine ⟨hx, ef, ?_⟩
    rw [ef, c1, c2, c3, nI_add, nI_add]
  refine ⟨?_, fun S hG hg => (key S hG.1 hG.2.1 hG.2.2 hg).2.2⟩
  rintro S ⟨h0, hS, hw⟩
  refine ⟨h0, hS, fun hg => ?_⟩
  obtain ⟨hx, ef, _⟩ := key S h0 hS hw hg
  obtain ⟨p1, p2, p3, p4, p5, p6⟩ := jp_Xp H hx
  have hS6 : S < 64 := Nat.lt_of_le_of_lt (ja_sub_le hS) H.1
  obtain ⟨hq, _, w1, w2, hl, hr, _⟩ := hx
  rw [ef]
  have gd : ∀ T, T ≠ 0 → T < S → ja_sub T U → W T ≠ 0 → jp_gd m lr rr T := by
    intro T t0 tl ts tw
    obtain ⟨w, c, ew, _, _, g⟩ := jp_TBs H hz h T t0 (by have := ja_sub_le hS; omega) ts
    exact (g (fun z => tw (by rw [ew, z]; rfl))).1
  have sp := (jp_split H (gd _ p1 p3 (ja_sub_tr p5 hS) w1) (gd _ p2 p4 (ja_sub_tr (ja_sd_sub _ _) hS) w2) (ja_sd_dj _ _) (by rw [p6]; exact hS6) hq hl hr).1
  rw [p6] at sp
  exact ⟨hq, p1, p2, p3, p4, p5, ⟨p1, ja_sub_tr p5 hS, w1⟩, ⟨p2, ja_sub_tr (ja_sd_sub _ _) hS, w2⟩, hl, hr, sp⟩
end
section
variable {f_nullKey f_maxRows f_n f_rowLimit f_rowTotal f_entryCount f_usedRels f_opCount f_optimised f_initialCost f_resultRows : Int32} {a_rowCount a_values a_entryRels a_entryVisible a_estimates a_opKind a_opLeftAttrs a_opRightAttrs a_opDivisor a_opLeftRels a_opRightRels a_sideSet a_eligible a_opsIn a_bestCost a_planCount a_rootOf a_leftPart a_nodeAt a_slotRows a_slotCount a_keys a_grouped a_groupStart a_groupHit a_result : Nat → Int32}
variable {m U : Nat} {lr rr dv est s kd : Nat → Nat}
theorem jx_lay0 {post : SX → Prop} (E : jx_PE m U lr rr dv est f_opCount a_opLeftRels a_opRightRels a_opDivisor a_estimates) (hT : jr_TW m U s) (es : ∀ i, a_sideSet i = nI (s i))
    (ho : ∀ T, T ≠ 0 → ja_sub T U → a_opsIn T = nI (jp_ok lr rr T m))
    (k : ∀ na, jr_NA m s 0 na → (∀ T, 64 ≤ T → T < 128 → na T = -1) → post (f_nullKey, f_maxRows, f_n, f_rowLimit, f_rowTotal, f_entryCount, f_usedRels, f_opCount, f_optimised, nI (ja_sm (fun i => jp_sz est lr rr dv m (jf_set s i)) m), f_resultRows, a_rowCount, a_values, a_entryRels, a_entryVisible, a_estimates, a_opKind, a_opLeftAttrs, a_opRightAttrs, a_opDivisor, a_opLeftRels, a_opRightRels, a_sideSet, a_eligible, a_opsIn, a_bestCost, a_planCount, a_rootOf, a_leftPart, na, a_slotRows, a_slotCount, a_keys, a_grouped, a_groupStart, a_groupHit, a_result)) : wpX_layInitialTree post (f_nullKey, f_maxRows, f_n, f_rowLimit, f_rowTotal, f_entryCount, f_usedRels, f_opCount, f_optimised, f_initialCost, f_resultRows, a_rowCount, a_values, a_entryRels, a_entryVisible, a_estimates, a_opKind, a_opLeftAttrs, a_opRightAttrs, a_opDivisor, a_opLeftRels, a_opRightRels, a_sideSet, a_eligible, a_opsIn, a_bestCost, a_planCount, a_rootOf, a_leftPart, a_nodeAt, a_slotRows, a_slotCount, a_keys, a_grouped, a_groupStart, a_groupHit, a_result) := by
  have H := E.1
  have eo := E.2.1
  have h5 := jp_m5 H
  refine loop_0 (fun n i na => wX_layInitialTree_2 post f_nullKey f_maxRows f_n f_rowLimit f_rowTotal f_entryCount f_usedRels f_opCount f_optimised f_initialCost f_resultRows n (nI i) a_rowCount a_values a_entryRels a_entryVisible a_estimates a_opKind a_opLeftAttrs a_opRightAttrs a_opDivisor a_opLeftRels a_opRightRels a_sideSet a_eligible a_opsIn a_bestCost a_planCount a_rootOf a_leftPart (na) a_slotRows a_slotCount a_keys a_grouped a_groupStart a_groupHit a_result) (fun i na => ∀ T, T < i → na T = -1) 128 a_nodeAt (fun T h => absurd h (by omega)) ?_ ?_
  · intro n na h
    refine br_t (by decide) ?_
    refine loop_0 (fun n i (st : Int32 × (Nat → Int32)) => wX_layInitialTree_29 post f_nullKey f_maxRows f_n f_rowLimit f_rowTotal f_entryCount f_usedRels f_opCount f_optimised f_resultRows n (nI i) st.1 a_rowCount a_values a_entryRels a_entryVisible a_estimates a_opKind a_opLeftAttrs a_opRightAttrs a_opDivisor a_opLeftRels a_opRightRels a_sideSet a_eligible a_opsIn a_bestCost a_planCount a_rootOf a_leftPart (st.2) a_slotRows a_slotCount a_keys a_grouped a_groupStart a_groupHit a_result)
      (fun i st => st.1 = nI (ja_sm (fun i => jp_sz est lr rr dv m (jf_set s i)) i) ∧ ∀ T, T < 128 → (∀ j, j < i → jf_set s j = T → st.2 T = nI j) ∧ ((∀ j, j < i → jf_set s j ≠ T) → st.2 T = -1)) m (0, na) ⟨rfl, fun T hT' => ⟨fun j hj => absurd hj (by omega), fun _ => h T hT'⟩⟩ ?_ ?_
    · rintro n ⟨ic, na'⟩ ⟨h1, h2⟩
      dsimp only at h1 h2
      subst h1
      refine br_t (by rw [eo]; exact nI_le (Nat.le_refl _) (by omega)) (k na' (fun T t0 t6 => ?_) (fun T t1 t2 => (h2 T t2).2 fun j hj e => ?_))
      · rw [Nat.zero_mul, Nat.zero_add]
        exact h2 T (by omega)
      · have := (jr_TWs hT H.1 hj).2.2.2.1
        omega
    · rintro n i ⟨ic, na'⟩ hi ⟨h1, h2⟩ ih
      dsimp only at h1 h2
      subst h1
      obtain ⟨_, _, _, h64, hn0⟩ := jr_TWs hT H.1 hi
      have e2 : nI i * 2 = nI (2 * i) := by rw [show nI i * 2 = nI (i * 2) from pk_mul i 2, Nat.mul_comm]
      have e21 : nI (2 * i) + 1 = nI (2 * i + 1) := nI_1 _
      refine br_f (by rw [eo]; exact nI_ge hi (by omega)) ?_
      rw [e2, e21, nI_clamp (n := 2 * i) (by omega), nI_clamp (n := 2 * i + 1) (by omega), es, es, ja_or]
      refine ⟨vp_in_nI (by omega) (by decide), vp_in_nI (by omega) (by decide), nm_r (e' := nI (jf_set s i)) rfl ⟨vp_in_nI (by omega) (by decide), nm_r (jn_up rfl (by omega)) ?_⟩⟩
      refine jx_size E (hT.2.1 i hi).2.2.2.1 (ho _ hn0 (hT.2.1 i hi).2.2.2.1) ?_
      refine nm_r (nI_add _ _) (nm_r (nI_1 i) (ih (_, _) ⟨rfl, ?_⟩))
      intro T hT'
      show (∀ j, j < i + 1 → jf_set s j = T → upd na' (jf_set s i) (nI i) T = nI j) ∧ ((∀ j, j < i + 1 → jf_set s j ≠ T) → upd na' (jf_set s i) (nI i) T = -1)
      by_cases e : T = jf_set s i
      · subst e
        rw [pk_us]
        exact ⟨fun j hj ej => by rw [hT.2.2 j i (by omega) hi ej], fun z => absurd rfl (z i (by omega))⟩
      · rw [pk_un e]
        refine ⟨fun j hj ej => (h2 T hT').1 j ?_ ej, fun z => (h2 T hT').2 fun j hj => z j (by omega)⟩
        have : j ≠ i := fun y => e (by rw [← y]; exact ej.symm)
        omega
  · intro n i na hi h ih
    refine br_f (nI_ge (b := 128) hi (by decide)) ⟨vp_in_nI (by omega) (by decide), nm_r (jn_up rfl (by omega)) (nm_r (nI_1 i) (ih _ fun T hT' => ?_))⟩
    by_cases e : T = i
    · subst e; exact pk_us
    · rw [pk_un e]; exact h T (by omega)
theorem jx_lay1 {post : SX → Prop} {rt lf : Nat → Nat} {G : Nat → Prop} (H : jp_PL m U lr rr) (hQ : jl_Q m U lr rr G rt lf) (hGU : G U) (eU : f_usedRels = nI U) (es : ∀ i, a_sideSet i = nI (s i)) (hn : ∀ T, 64 ≤ T → T < 128 → a_nodeAt T = -1)
    (er : ∀ T, G T → ¬ ja_sg T → a_rootOf T = nI (rt T)) (er1 : ∀ T, G T → ja_sg T → a_rootOf T = -1) (el : ∀ T, G T → ¬ ja_sg T → a_leftPart T = nI (lf T))
    (k : ∀ sd na, (∀ i, sd i = nI ((jl_ly rt lf U (fun T => decide (T = U)) s).2 i)) → (∀ T, T < 64 → na T = a_nodeAt T) → (∀ T, T < 64 → T ≠ 0 → na (64 + T) = if (jl_ly rt lf U (fun T => decide (T = U)) s).1 T = true then a_rootOf T else -1) →
      post (f_nullKey, f_maxRows, f_n, f_rowLimit, f_rowTotal, f_entryCount, f_usedRels, f_opCount, f_optimised, f_initialCost, f_resultRows, a_rowCount, a_values, a_entryRels, a_entryVisible, a_estimates, a_opKind, a_opLeftAttrs, a_opRightAttrs, a_opDivisor, a_opLeftRels, a_opRightRels, sd, a_eligible, a_opsIn, a_bestCost, a_planCount, a_rootOf, a_leftPart, na, a_slotRows, a_slotCount, a_keys, a_grouped, a_groupStart, a_groupHit, a_result)) : wpX_layPlan post (f_nullKey, f_maxRows, f_n, f_rowLimit, f_rowTotal, f_entryCount, f_usedRels, f_opCount, f_optimised, f_initialCost, f_resultRows, a_rowCount, a_values, a_entryRels, a_entryVisible, a_estimates, a_opKind, a_opLeftAttrs, a_opRightAttrs, a_opDivisor, a_opLeftRels, a_opRightRels, a_sideSet, a_eligible, a_opsIn, a_bestCost, a_planCount, a_rootOf, a_leftPart, a_nodeAt, a_slotRows, a_slotCount, a_keys, a_grouped, a_groupStart, a_groupHit, a_result) := by
  have hU := H.1
  have h5 := jp_m5 H
  subst eU
  have e64 : ∀ T : Nat, (64 : Int32) + nI T = nI (64 + T) := fun T => nI_add 64 T
  refine ⟨vp_in_nI hU (by decide), by rw [e64]; exact vp_in_nI (by omega) (by decide), nm_r (e' := upd a_nodeAt (64 + U) (a_rootOf U)) ?_ ⟨U + 1, ?_⟩⟩
  · rw [e64, nI_clamp (by omega), nI_clamp (by omega)]
  · refine pk_loopD (fun n t (st : (Nat → Int32) × (Nat → Int32)) => wX_layPlan_26 post f_nullKey f_maxRows f_n f_rowLimit f_rowTotal f_entryCount (nI U) f_opCount f_optimised f_initialCost f_resultRows n (nI t) a_rowCount a_values a_entryRels a_entryVisible a_estimates a_opKind a_opLeftAttrs a_opRightAttrs a_opDivisor a_opLeftRels a_opRightRels (st.1) a_eligible a_opsIn a_bestCost a_planCount a_rootOf a_leftPart (st.2) a_slotRows a_slotCount a_keys a_grouped a_groupStart a_groupHit a_result)
      (fun t st => t ≤ U ∧ ∃ M s', (∀ i, st.1 i = nI (s' i)) ∧ (∀ T, T < 64 → st.2 T = a_nodeAt T) ∧ (∀ T, T < 64 → T ≠ 0 → st.2 (64 + T) = if M T = true then a_rootOf T else -1) ∧ jl_I m U lr rr G rt lf s t M s' ∧ jl_ly rt lf t M s' = jl_ly rt lf U (fun T => decide (T = U)) s)
      ?_ ?_ U (a_sideSet, upd a_nodeAt (64 + U) (a_rootOf U)) ⟨Nat.le_refl _, fun T => decide (T = U), s, es, ?_, ?_, jl_I0 H hGU, rfl⟩
    · rintro n ⟨sd, na⟩ ⟨_, M, s', a1, a2, a3, a4, a5⟩
      dsimp only at a1 a2 a3
      refine br_t (by decide) (k sd na ?_ a2 ?_)
      · rw [← a5]; exact a1
      · rw [← a5]; exact a3
    · rintro n t ⟨sd, na⟩ ⟨ht, M, s', a1, a2, a3, a4, a5⟩ ih
      dsimp only at a1 a2 a3
      have hst := jl_step H hQ a4
      refine br_f (nI_nle (by omega) (by omega)) ?_
      dsimp only
      rw [e64, nI_clamp (n := 64 + (t + 1)) (by omega), nI_clamp (n := t + 1) (by omega), a3 (t + 1) (by omega) (by omega)]
      refine ⟨vp_in_nI (by omega) (by decide), ?_⟩
      by_cases hc : M (t + 1) = true ∧ ¬ ja_sg (t + 1)
      · obtain ⟨hm, hg⟩ := hc
        have hG := a4.2.1 _ hm
        obtain ⟨q0, q1, qr⟩ := hQ _ hG
        obtain ⟨r1, r2, r3, r4, r5, r6, r7, r8, r9, r10, r11⟩ := qr hg
        rw [if_pos hm, er _ hG hg, el _ hG hg]
        rw [jl_st_t hm hg] at hst
        have f1 : (10 : Int32) + nI (rt (t + 1)) * 2 = nI (10 + 2 * rt (t + 1)) := by
          rw [show nI (rt (t + 1)) * 2 = nI (rt (t + 1) * 2) from pk_mul _ 2, Nat.mul_comm]
          exact nI_add 10 _
        have f2 : (11 : Int32) + nI (rt (t + 1)) * 2 = nI (11 + 2 * rt (t + 1)) := by
          rw [show nI (rt (t + 1)) * 2 = nI (rt (t + 1) * 2) from pk_mul _ 2, Nat.mul_comm]
          exact nI_add 11 _
        refine nm_e (br_f (nI_pos (by omega)) ⟨vp_in_nI (by omega) (by decide), nm_e (nm_r (ja_an _ (by omega)) ?_)⟩)
        rw [f1, f2, e64, e64, nI_clamp (n := 10 + 2 * rt (t + 1)) (by omega), nI_clamp (n := 11 + 2 * rt (t + 1)) (by omega), nI_clamp (n := lf (t + 1)) (by omega), nI_clamp (n := 64 + lf (t + 1)) (by omega), nI_clamp (n := ja_sd (t + 1) (lf (t + 1))) (by omega), nI_clamp (n := 64 + ja_sd (t + 1) (lf (t + 1))) (by omega)]
        refine ⟨vp_in_nI (by omega) (by decide), nm_e ⟨vp_in_nI (by omega) (by decide), nm_e ⟨vp_in_nI (by omega) (by decide), vp_in_nI (by omega) (by decide), nm_e ⟨vp_in_nI (by omega) (by decide), vp_in_nI (by omega) (by decide), nm_e (nm_r (pk_m1 t) (ih (_, _) ⟨by omega, _, _, ja_upI (ja_upI a1 _ _) _ _, ?_, ?_, hst, ?_⟩))⟩⟩⟩⟩
        · intro T hT
          show upd (upd na (64 + lf (t + 1)) _) (64 + ja_sd (t + 1) (lf (t + 1))) _ T = _
          rw [pk_un (by omega), pk_un (by omega)]
          exact a2 T hT
        · intro T hT hT0
          show upd (upd na (64 + lf (t + 1)) (a_rootOf (lf (t + 1)))) (64 + ja_sd (t + 1) (lf (t + 1))) (a_rootOf (ja_sd (t + 1) (lf (t + 1)))) (64 + T) = if (if T = lf (t + 1) ∨ T = ja_sd (t + 1) (lf (t + 1)) then true else M T) = true then a_rootOf T else -1
          by_cases c1 : T = ja_sd (t + 1) (lf (t + 1))
          · rw [← c1, pk_us, if_pos (Or.inr rfl), if_pos rfl]
          · rw [pk_un (by omega)]
            by_cases c2 : T = lf (t + 1)
            · rw [← c2, pk_us, if_pos (Or.inl rfl), if_pos rfl]
            · rw [pk_un (by omega), if_neg (show ¬ (T = lf (t + 1) ∨ T = ja_sd (t + 1) (lf (t + 1))) from fun z => z.elim c2 c1)]
              exact a3 T hT hT0
        · rw [← a5]
          show _ = jl_ly rt lf t (jl_st rt lf (t + 1) M s').1 (jl_st rt lf (t + 1) M s').2
          rw [jl_st_t hm hg]
      · have hc' : ¬ M (t + 1) = true ∨ ja_sg (t + 1) := by
          by_cases a : M (t + 1) = true
          · exact Or.inr (Classical.byContradiction fun b => hc ⟨a, b⟩)
          · exact Or.inl a
        have en : (if M (t + 1) = true then a_rootOf (t + 1) else -1) = -1 := by
          by_cases a : M (t + 1) = true
          · rw [if_pos a]
            exact er1 _ (a4.2.1 _ a) (hc'.elim (fun z => absurd a z) id)
          · rw [if_neg a]
        rw [en]
        rw [jl_st_f hc'] at hst
        refine nm_e (br_t (by decide) (nm_r (pk_m1 t) (ih (sd, na) ⟨by omega, M, s', a1, a2, a3, hst, ?_⟩)))
        rw [← a5]
        show _ = jl_ly rt lf t (jl_st rt lf (t + 1) M s').1 (jl_st rt lf (t + 1) M s').2
        rw [jl_st_f hc']
    · intro T hT
      exact pk_un (by omega)
    · intro T hT hT0
      show upd a_nodeAt (64 + U) (a_rootOf U) (64 + T) = if decide (T = U) = true then a_rootOf T else -1
      by_cases e : T = U
      · rw [e, pk_us, if_pos (decide_eq_true rfl)]
      · rw [pk_un (by omega), if_neg (fun z => e (of_decide_eq_true z))]
        exact hn _ (by omega) (by omega)
end
end
section
/-! ===== optimise, component's side ===== -/
def jl_rt (RT : Nat → Int32) (T : Nat) : Nat := (RT T).toNatClampNeg
def jl_M (RT LF : Nat → Int32) (U : Nat) (s : Nat → Nat) : Nat → Bool := (jl_ly (jl_rt RT) (jl_rt LF) U (fun T => decide (T = U)) s).1
def jl_s (RT LF : Nat → Int32) (U : Nat) (s : Nat → Nat) : Nat → Nat := (jl_ly (jl_rt RT) (jl_rt LF) U (fun T => decide (T = U)) s).2
section
variable {n m U : Nat} {E V la ra s kd sz : Nat → Nat} {W C RT LF : Nat → Int32}
theorem jl_rts (H : jp_PL m U (jp_lr la) (jp_lr ra)) (hz : ∀ S, S ≠ 0 → ja_sub S U → sz S ≤ 64000000) (h : jp_SP m U (jp_lr la) (jp_lr ra) (jp_al s kd) sz (U + 1) W C RT LF) :
    ∀ S, S ≠ 0 → ja_sub S U → W S ≠ 0 → ¬ ja_sg S → (RT S = nI (jl_rt RT S) ∧ jl_rt RT S < 2 ^ 31) ∧ (LF S = nI (jl_rt LF S) ∧ jl_rt LF S < 2 ^ 31) := by
  intro S h0 hS hw hg
  obtain ⟨j, hx, e1, e2, _⟩ := (jp_RTs H hz h h0 (by have := ja_sub_le hS; omega) hS hg).2 hw
  have m5 := jp_m5 H
  have jl := hx.1
  have hS6 : S < 64 := Nat.lt_of_le_of_lt (ja_sub_le hS) H.1
  obtain ⟨p1, p2, p3, p4, p5, p6⟩ := jp_Xp H hx
  unfold jl_rt
  rw [e1, e2, nI_clamp (by omega), nI_clamp (by omega)]
  exact ⟨⟨rfl, by omega⟩, ⟨rfl, by omega⟩⟩
theorem jl_fin (F : jf_FR n 1 m U E V la ra s) (hz : ∀ S, S ≠ 0 → ja_sub S U → sz S ≤ 64000000) (h : jp_SP m U (jp_lr la) (jp_lr ra) (jp_al s kd) sz (U + 1) W C RT LF) :
    jl_Q m U (jp_lr la) (jp_lr ra) (fun S => S ≠ 0 ∧ ja_sub S U ∧ W S ≠ 0) (jl_rt RT) (jl_rt LF) ∧ (U ≠ 0 ∧ W U ≠ 0) ∧
    jl_I m U (jp_lr la) (jp_lr ra) (fun S => S ≠ 0 ∧ ja_sub S U ∧ W S ≠ 0) (jl_rt RT) (jl_rt LF) s 0 (jl_M RT LF U s) (jl_s RT LF U s) ∧
    C U = nI (ja_sm (fun q => sz (jf_set (fun j => jl_s RT LF U s (10 + j)) q)) m) := by
  have H := jp_of F
  have hrt := jl_rts H hz h
  obtain ⟨hQ, hC⟩ := jl_Q_of H hz h (fun S a b c d => (hrt S a b c d).1) (fun S a b c d => (hrt S a b c d).2)
  have T0 := jr_TW0 F
  have hU0 : U ≠ 0 := by
    intro z
    have h1 := H.2.1
    rw [z] at h1
    have h2 : ja_pc 0 = 0 := by decide
    omega
  have hWU : W U ≠ 0 := jp_plan F hz h U hU0 (by omega) ja_sub_rfl T0.1
  have hG : (fun S => S ≠ 0 ∧ ja_sub S U ∧ W S ≠ 0) U := ⟨hU0, ja_sub_rfl, hWU⟩
  have hI := jl_all H hQ U _ _ (jl_I0 (rt := jl_rt RT) (lf := jl_rt LF) (s0 := s) H hG)
  refine ⟨hQ, ⟨hU0, hWU⟩, hI, ?_⟩
  have hc := jl_cost (C := C) (sz := sz) H hQ hI (fun S g hg => ((h S g.1 (by have := ja_sub_le g.2.1; omega) g.2.1).1 hg).2) hC U hI.1
  rw [hc]
  apply congrArg nI
  refine ja_sm_cg m fun i hi => ?_
  rw [if_pos (ja_sd0.mpr (H.2.2.1 i hi).2.2.2)]
  rfl
theorem jl_NA1 {na : Nat → Int32} (H : jp_PL m U (jp_lr la) (jp_lr ra)) (hz : ∀ S, S ≠ 0 → ja_sub S U → sz S ≤ 64000000) (h : jp_SP m U (jp_lr la) (jp_lr ra) (jp_al s kd) sz (U + 1) W C RT LF)
    (hQ : jl_Q m U (jp_lr la) (jp_lr ra) (fun S => S ≠ 0 ∧ ja_sub S U ∧ W S ≠ 0) (jl_rt RT) (jl_rt LF)) (hI : jl_I m U (jp_lr la) (jp_lr ra) (fun S => S ≠ 0 ∧ ja_sub S U ∧ W S ≠ 0) (jl_rt RT) (jl_rt LF) s 0 (jl_M RT LF U s) (jl_s RT LF U s))
    (h1 : ∀ T, T ≠ 0 → ja_sub T U → ja_sg T → RT T = -1) (hn : ∀ T, T < 64 → T ≠ 0 → na (64 + T) = if jl_M RT LF U s T = true then RT T else -1) : jr_NA m (fun j => jl_s RT LF U s (10 + j)) 1 na := by
  intro T t0 t6
  rw [Nat.one_mul, hn T t6 t0]
  constructor
  · intro i hi e
    obtain ⟨m1, m2, m3⟩ := jl_mk hQ hI hi
    rw [e] at m1 m2 m3
    have hG := hI.2.1 T m1
    rw [if_pos m1, (jl_rts H hz h T hG.1 hG.2.1 hG.2.2 m2).1.1, m3]
  · intro hne
    by_cases a : jl_M RT LF U s T = true
    · rw [if_pos a]
      have hG := hI.2.1 T a
      by_cases hg : ja_sg T
      · exact h1 T hG.1 hG.2.1 hg
      · obtain ⟨q0, q1, qr⟩ := hQ T hG
        exact absurd (jl_set1 hQ hI a hg).1 (hne _ (qr hg).1)
    · rw [if_neg a]
end
section
variable {f_nullKey f_maxRows f_n f_rowLimit f_rowTotal f_entryCount f_usedRels f_opCount f_optimised f_initialCost f_resultRows : Int32} {a_rowCount a_values a_entryRels a_entryVisible a_estimates a_opKind a_opLeftAttrs a_opRightAttrs a_opDivisor a_opLeftRels a_opRightRels a_sideSet a_eligible a_opsIn a_bestCost a_planCount a_rootOf a_leftPart a_nodeAt a_slotRows a_slotCount a_keys a_grouped a_groupStart a_groupHit a_result : Nat → Int32}
variable {n m U : Nat} {E V la ra s kd dv est : Nat → Nat}
theorem jx_opt {post : Int32 → SX → Prop} (F : jf_FR n 1 m U E V la ra s) (P : jx_PE m U (jp_lr la) (jp_lr ra) dv est f_opCount a_opLeftRels a_opRightRels a_opDivisor a_estimates) (eopt : f_optimised = 0) (eec : f_entryCount = 1) (eU : f_usedRels = nI U)
    (es : ∀ i, a_sideSet i = nI (s i)) (ekd : ∀ i, a_opKind i = nI (kd i)) (hkd : ∀ i, i < m → kd i < 10)
    (k : ∀ el oi pc bc RT LF na sd, jp_SP m U (jp_lr la) (jp_lr ra) (jp_al s kd) (jp_sz est (jp_lr la) (jp_lr ra) dv m) (U + 1) pc bc RT LF → (∀ i, sd i = nI (jl_s RT LF U s i)) → jr_NA m s 0 na → jr_NA m (fun j => jl_s RT LF U s (10 + j)) 1 na →
      post (bc U) (f_nullKey, f_maxRows, f_n, f_rowLimit, f_rowTotal, f_entryCount, f_usedRels, f_opCount, 1, nI (ja_sm (fun i => jp_sz est (jp_lr la) (jp_lr ra) dv m (jf_set s i)) m), -1, a_rowCount, a_values, a_entryRels, a_entryVisible, a_estimates, a_opKind, a_opLeftAttrs, a_opRightAttrs, a_opDivisor, a_opLeftRels, a_opRightRels, sd, el, oi, bc, pc, RT, LF, na, a_slotRows, a_slotCount, a_keys, a_grouped, a_groupStart, a_groupHit, a_result)) : wpX_optimise post (f_nullKey, f_maxRows, f_n, f_rowLimit, f_rowTotal, f_entryCount, f_usedRels, f_opCount, f_optimised, f_initialCost, f_resultRows, a_rowCount, a_values, a_entryRels, a_entryVisible, a_estimates, a_opKind, a_opLeftAttrs, a_opRightAttrs, a_opDivisor, a_opLeftRels, a_opRightRels, a_sideSet, a_eligible, a_opsIn, a_bestCost, a_planCount, a_rootOf, a_leftPart, a_nodeAt, a_slotRows, a_slotCount, a_keys, a_grouped, a_groupStart, a_groupHit, a_result) := by
  have H := jp_of F
  have hU := H.1
  have h5 := jp_m5 H
  have T0 := jr_TW0 F
  have hz : ∀ S, S ≠ 0 → ja_sub S U → jp_sz est (jp_lr la) (jp_lr ra) dv m S ≤ 64000000 := fun S _ hS => jp_sz_b fun r hr => (P.2.2.2 r (hS r hr)).2
  have hs64 : ∀ i, i < 2 * m → s i < 64 := by
    intro i hi
    obtain ⟨_, l1, l2, l3, _⟩ := jr_TWs T0 hU (i := i / 2) (by omega)
    rcases Nat.mod_two_eq_zero_or_one i with w | w
    · rw [show 2 * (i / 2) = i from by omega] at l1; omega
    · rw [show 2 * (i / 2) + 1 = i from by omega] at l2; omega
  have F5 : jf_F5 m s := F.2.2.2.2.1
  subst eopt eec eU
  refine br_t rfl (br_t rfl (jx_elig (s := s) (kd := kd) h5 P.2.1 F5 es hs64 ekd hkd ?_))
  intro el hel
  refine pk_loop (fun d t (st : (Nat → Int32) × (Nat → Int32) × (Nat → Int32) × (Nat → Int32) × (Nat → Int32)) => wX_optimise_34 post d (nI t) f_nullKey f_maxRows f_n f_rowLimit f_rowTotal (1) (nI U) f_opCount (1) f_initialCost (-1) a_rowCount a_values a_entryRels a_entryVisible a_estimates a_opKind a_opLeftAttrs a_opRightAttrs a_opDivisor a_opLeftRels a_opRightRels a_sideSet (el) (st.1) (st.2.2.1) (st.2.1) (st.2.2.2.1) (st.2.2.2.2) a_nodeAt a_slotRows a_slotCount a_keys a_grouped a_groupStart a_groupHit a_result)
    (fun t st => 1 ≤ t ∧ jp_SP m U (jp_lr la) (jp_lr ra) (jp_al s kd) (jp_sz est (jp_lr la) (jp_lr ra) dv m) t st.2.1 st.2.2.1 st.2.2.2.1 st.2.2.2.2 ∧ (∀ T, T ≠ 0 → T < t → ja_sub T U → st.1 T = nI (jp_ok (jp_lr la) (jp_lr ra) T m)) ∧ (∀ T, T ≠ 0 → T < t → ja_sub T U → ja_sg T → st.2.2.2.1 T = -1))
    (U + 1) 1 (a_opsIn, a_planCount, a_bestCost, a_rootOf, a_leftPart) (by omega) ⟨Nat.le_refl _, fun S h0 hl => absurd hl (by omega), fun T h0 hl => absurd hl (by omega), fun T h0 hl => absurd hl (by omega)⟩ ?_ ?_
  · rintro d ⟨oi, pc, bc, RT, LF⟩ ⟨_, hSP, hoi, h1⟩
    dsimp only at hSP hoi h1
    obtain ⟨hQ, ⟨hU0, hWU⟩, hI, hC⟩ := jl_fin F hz hSP
    have hle : ∀ T, ja_sub T U → T < U + 1 := fun T hT => by have := ja_sub_le hT; omega
    have hrt := jl_rts H hz hSP
    refine br_t (nI_lt (by omega) (by omega)) (jx_lay0 (s := s) (lr := jp_lr la) (rr := jp_lr ra) (dv := dv) (est := est) P T0 es (fun T t0 tT => hoi T t0 (hle T tT) tT) ?_)
    intro na hna hn
    refine jx_lay1 (s := s) (rt := jl_rt RT) (lf := jl_rt LF) H hQ ⟨hU0, ja_sub_rfl, hWU⟩ rfl es hn (fun T g hg => (hrt T g.1 g.2.1 g.2.2 hg).1.1) (fun T g hg => h1 T g.1 (hle T g.2.1) g.2.1 hg) (fun T g hg => (hrt T g.1 g.2.1 g.2.2 hg).2.1) ?_
    intro sd na' hsd hna0 hna1
    have hn1 : jr_NA m (fun j => jl_s RT LF U s (10 + j)) 1 na' := jl_NA1 H hz hSP hQ hI (fun T t0 tT hg => h1 T t0 (hle T tT) tT hg) hna1
    have hn0 : jr_NA m s 0 na' := by
      intro T t0 t6
      have := hna T t0 t6
      rw [Nat.zero_mul, Nat.zero_add] at this ⊢
      rw [hna0 T t6]
      exact this
    have := k el oi pc bc RT LF na' sd hSP hsd hn0 hn1
    rw [← nI_clamp (n := U) (by omega)] at this
    exact ⟨vp_in_nI hU (by decide), by rw [nI_clamp (n := U) (by omega)] at this ⊢; exact this⟩
  · rintro d t ⟨oi, pc, bc, RT, LF⟩ ht ⟨ht1, hSP, hoi, h1⟩ ih
    dsimp only at hSP hoi h1
    refine br_f (nI_nlt (by omega) (by omega)) (ek_if (d := ja_sub t U) (ja_anz (by omega)) (fun hsub => ?_) (fun hsub => ?_))
    · refine jx_plan (s := s) (kd := kd) (lr := jp_lr la) (rr := jp_lr ra) (dv := dv) (est := est) P (by omega) hsub hoi hel ?_
      intro st k1 k2
      refine nm_r (nI_1 t) (ih (_, _, _, _, _) ⟨by omega, jp_SP_up (r0 := -1) (l0 := 0) H hSP hsub (fun hg => by rw [k1 hg]; exact ⟨rfl, rfl⟩) k2, ?_, ?_⟩)
      · intro T t0 tl tT
        show upd oi t _ T = _
        by_cases e : T = t
        · subst e; exact pk_us
        · rw [pk_un e]; exact hoi T t0 (by omega) tT
      · intro T t0 tl tT hg
        show upd RT t _ T = _
        by_cases e : T = t
        · subst e; rw [pk_us, k1 hg]
        · rw [pk_un e]; exact h1 T t0 (by omega) tT hg
    · refine nm_r (nI_1 t) (ih (oi, pc, bc, RT, LF) ⟨by omega, jp_SP_sk hSP hsub, fun T t0 tl tT => hoi T t0 ?_ tT, fun T t0 tl tT hg => h1 T t0 ?_ tT hg⟩)
      · have : T ≠ t := fun e => hsub (by rw [← e]; exact tT)
        omega
      · have : T ≠ t := fun e => hsub (by rw [← e]; exact tT)
        omega
end
end
section
/-! ===== planning, reference's side ===== -/
def jy_PE (n m U : Nat) (la ra dv est kd : Nat → Nat) (gn go : Int32) (op aest : Nat → Int32) : Prop :=
  gn = nI n ∧ n ≤ 6 ∧ U < 2 ^ n ∧ go = nI m ∧ m ≤ 5 ∧
  (∀ i, i < m → op (i * 4) = nI (kd i) ∧ op (i * 4 + 1) = nI (la i) ∧ op (i * 4 + 2) = nI (ra i) ∧ op (i * 4 + 3) = nI (dv i) ∧ la i < 2 ^ 31 ∧ ra i < 2 ^ 31 ∧ 1 ≤ dv i ∧ dv i ≤ 20 ∧ kd i < 10) ∧
  (∀ r, U.testBit r = true → aest r = nI (est r) ∧ 1 ≤ est r ∧ est r ≤ 20)
theorem jf_or31 {a b : Nat} (ha : a < 2 ^ 31) (hb : b < 2 ^ 31) : a ||| b < 2 ^ 31 := Nat.or_lt_two_pow ha hb
section
variable {g_n g_rowLimit g_entries g_ops g_optimised g_hasResult : Int32} {b_cells b_rowCount b_entrySet b_entryVisible b_estimates b_operators b_sides b_inPlan b_least b_ways b_root b_rootLeft b_found b_foundCount : Nat → Int32}
variable {n m U : Nat} {la ra dv est kd s : Nat → Nat}
theorem jy_size {post : Int32 → Prop} {S : Nat} (E : jy_PE n m U la ra dv est kd g_n g_ops b_operators b_estimates) (hS : ja_sub S U) (k : post (nI (jp_sz est (jp_lr la) (jp_lr ra) dv m S))) : wpY_size post (g_n, g_rowLimit, g_entries, g_ops, g_optimised, g_hasResult, b_cells, b_rowCount, b_entrySet, b_entryVisible, b_estimates, b_operators, b_sides, b_inPlan, b_least, b_ways, b_root, b_rootLeft, b_found, b_foundCount) (nI S) := by
  obtain ⟨en, hn, hUn, eo, hm, hO, hE⟩ := E
  have h6 : S < 64 := Nat.lt_of_le_of_lt (ja_sub_le hS) (Nat.lt_of_lt_of_le hUn (Nat.pow_le_pow_right (by decide) hn))
  have pb := jp_pr_6 (est := est) (S := S) fun r hr => (hE r (hS r hr)).2
  have db := jp_dp_5 (lr := jp_lr la) (rr := jp_lr ra) (dv := dv) (S := S) (m := m) (fun i hi => ⟨(hO i hi).2.2.2.2.2.2.1, (hO i hi).2.2.2.2.2.2.2.1⟩) hm
  have pn : jp_pr est S n = jp_pr est S 6 := by
    have := jp_pr_n (est := est) (S := S) (n := n) (fun r hr => ja_bd hUn (hS r hr)) (6 - n)
    rw [show n + (6 - n) = 6 from by omega] at this
    exact this.symm
  subst en eo
  refine loop_0 (fun d i x => wY_size_7 post (nI S) 1 (nI n) g_rowLimit g_entries (nI m) g_optimised g_hasResult b_cells b_rowCount b_entrySet b_entryVisible b_estimates b_operators b_sides b_inPlan b_least b_ways b_root b_rootLeft b_found b_foundCount d x (nI i)) (fun i x => x = nI (jp_pr est S i)) n 1 rfl ?_ ?_
  · rintro d x rfl
    refine br_t (nI_le (Nat.le_refl _) (by omega)) ?_
    rw [pn]
    refine loop_0 (fun d i x => wY_size_45 post (nI S) (nI (jp_pr est S 6)) (nI n) g_rowLimit g_entries (nI m) g_optimised g_hasResult b_cells b_rowCount b_entrySet b_entryVisible b_estimates b_operators b_sides b_inPlan b_least b_ways b_root b_rootLeft b_found b_foundCount d x (nI i)) (fun i x => x = nI (jp_dp (jp_lr la) (jp_lr ra) dv S i)) m 1 rfl ?_ ?_
    · rintro d x rfl
      refine br_t (nI_le (Nat.le_refl _) (by omega)) ?_
      unfold jp_sz at k
      refine br_f (nI_nlt (b := 1) db.1 (by omega)) (pk_le (jp_dp (jp_lr la) (jp_lr ra) dv S m) (jp_pr est S 6) (fun h => ?_) (fun h => ?_))
      · rw [if_neg (by omega)] at k
        refine ⟨nI_ne0 db.1 (by omega), ?_⟩
        rw [pk_div (by omega) db.1 (by omega)]
        exact k
      · rw [if_pos h] at k
        exact k
    · rintro d i x hi rfl ih
      obtain ⟨e0, e1, e2, e3, b1, b2, _⟩ := hO i hi
      have f1 : nI i * 4 + 1 = nI (i * 4 + 1) := jn_ma i 4 1
      have f2 : nI i * 4 + 2 = nI (i * 4 + 2) := jn_ma i 4 2
      have f3 : nI i * 4 + 3 = nI (i * 4 + 3) := jn_ma i 4 3
      refine br_f (nI_ge hi (by omega)) ?_
      rw [f1, f2, f3, nI_clamp (n := i * 4 + 1) (by omega), nI_clamp (n := i * 4 + 2) (by omega), nI_clamp (n := i * 4 + 3) (by omega), e1, e2, e3, ja_or]
      refine ⟨vp_in_nI (by omega) (by decide), vp_in_nI (by omega) (by decide), jy_rel (jf_or31 b1 b2) ?_⟩
      rw [jf_ro_or]
      have b3 : jp_lr la i ||| jp_lr ra i < 64 := Nat.or_lt_two_pow (n := 6) (jf_ro_lt _) (jf_ro_lt _)
      refine ek_if (d := ja_sd (jp_lr la i ||| jp_lr ra i) S = 0) (by rw [ja_sd0]; exact ja_anz (a := jp_lr la i ||| jp_lr ra i) (by omega)) (fun h => ⟨vp_in_nI (by omega) (by decide), ?_⟩) (fun h => nm_r (nI_1 i) (ih _ ?_))
      · refine nm_r (e' := nI (jp_dp (jp_lr la) (jp_lr ra) dv S (i + 1))) ?_ (nm_r (nI_1 i) (ih _ rfl))
        rw [pk_mul]
        show _ = nI (if ja_sd (jp_lr la i ||| jp_lr ra i) S = 0 then _ else _)
        rw [if_pos h]
      · show _ = nI (if ja_sd (jp_lr la i ||| jp_lr ra i) S = 0 then _ else _)
        rw [if_neg h]
  · rintro d i x hi rfl ih
    refine br_f (nI_ge hi (by omega)) (ek_if (ja_b1 (by omega) (by omega)) (fun h => ⟨vp_in_nI (by omega) (by decide), ?_⟩) (fun h => nm_r (nI_1 i) (ih _ ?_)))
    · refine nm_r (e' := nI (jp_pr est S (i + 1))) ?_ (nm_r (nI_1 i) (ih _ rfl))
      rw [nI_clamp (by omega), (hE i (hS i h)).1, pk_mul]
      show _ = nI (if S.testBit i = true then _ else _)
      rw [if_pos h]
    · show _ = nI (if S.testBit i = true then _ else _)
      rw [if_neg h]
theorem jy_fits {post : Int32 → Prop} {q sl sr : Nat} (E : jy_PE n m U la ra dv est kd g_n g_ops b_operators b_estimates) (es : ∀ i, b_sides i = nI (s i)) (hs : ∀ i, i < 2 * m → s i < 64) (hq : q < m) (h1 : sl < 64) (h2 : sr < 64)
    (k1 : jp_F m (jp_lr la) (jp_lr ra) (jp_al s kd) b_ways q sl sr → post 1) (k0 : ¬ jp_F m (jp_lr la) (jp_lr ra) (jp_al s kd) b_ways q sl sr → post 0) : wpY_fits post (g_n, g_rowLimit, g_entries, g_ops, g_optimised, g_hasResult, b_cells, b_rowCount, b_entrySet, b_entryVisible, b_estimates, b_operators, b_sides, b_inPlan, b_least, b_ways, b_root, b_rootLeft, b_found, b_foundCount) (nI q) (nI sl) (nI sr) := by
  obtain ⟨en, hn, hUn, eo, hm, hO, hE⟩ := E
  obtain ⟨e0, e1, e2, e3, b1, b2, _⟩ := hO q hq
  have f1 : nI q * 4 + 1 = nI (q * 4 + 1) := jn_ma q 4 1
  have f2 : nI q * 4 + 2 = nI (q * 4 + 2) := jn_ma q 4 2
  have r1 := jf_ro_lt (la q)
  have r2 := jf_ro_lt (ra q)
  unfold wpY_fits
  dsimp only
  rw [f1, f2, nI_clamp (n := q * 4 + 1) (by omega), nI_clamp (n := q * 4 + 2) (by omega), nI_clamp (n := sl) (by omega), nI_clamp (n := sr) (by omega), e1, e2]
  refine ⟨vp_in_nI (by omega) (by decide), jy_rel b1 ⟨vp_in_nI (by omega) (by decide), jy_rel b2 ?_⟩⟩
  refine ⟨vp_in_nI h1 (by decide), br_c (fun w => k0 fun z => z.1 w) (fun w1 => ⟨vp_in_nI h2 (by decide), br_c (fun w => k0 fun z => z.2.1 w) (fun w2 => ?_)⟩)⟩
  refine ek_if (d := ja_sub (jp_lr la q) sl) (ja_anz (a := jf_ro (la q)) (by omega)) (fun hl => ?_) (fun hl => k0 fun z => hl z.2.2.1)
  refine ek_if (d := ja_sub (jp_lr ra q) sr) (ja_anz (a := jf_ro (ra q)) (by omega)) (fun hr => ?_) (fun hr => k0 fun z => hr z.2.2.2.1)
  refine loop_0 (fun d i (_ : Unit) => wY_fits_73 post (nI q) (nI sl) (nI sr) g_n g_rowLimit g_entries g_ops g_optimised g_hasResult b_cells b_rowCount b_entrySet b_entryVisible b_estimates b_operators b_sides b_inPlan b_least b_ways b_root b_rootLeft b_found b_foundCount d (nI i)) (fun i _ => ∀ j, j < i → (ja_sub (jp_lr la j ||| jp_lr ra j) sl → jp_al s kd q j 0) ∧ (ja_sub (jp_lr la j ||| jp_lr ra j) sr → jp_al s kd q j 1)) m () (fun j hj => absurd hj (by omega)) ?_ ?_
  · intro d _ h
    exact br_t (by rw [eo]; exact nI_le (Nat.le_refl _) (by omega)) (k1 ⟨w1, w2, hl, hr, h⟩)
  · intro d i _ hi h ih
    obtain ⟨e0', e1', e2', e3', b1', b2', _⟩ := hO i hi
    have g1 : nI i * 4 + 1 = nI (i * 4 + 1) := jn_ma i 4 1
    have g2 : nI i * 4 + 2 = nI (i * 4 + 2) := jn_ma i 4 2
    have b3 : jp_lr la i ||| jp_lr ra i < 64 := Nat.or_lt_two_pow (n := 6) (jf_ro_lt _) (jf_ro_lt _)
    refine br_f (by rw [eo]; exact nI_ge hi (by omega)) ?_
    rw [g1, g2, nI_clamp (n := i * 4 + 1) (by omega), nI_clamp (n := i * 4 + 2) (by omega), e1', e2', ja_or]
    refine ⟨vp_in_nI (by omega) (by decide), vp_in_nI (by omega) (by decide), jy_rel (jf_or31 b1' b2') ?_⟩
    rw [jf_ro_or]
    have ekd : ∀ i, i < m → b_operators (i * 4) = nI (kd i) := fun i hi => (hO i hi).1
    have hkd : ∀ i, i < m → kd i < 10 := fun i hi => (hO i hi).2.2.2.2.2.2.2.2
    have c131 : (ja_sub (jp_lr la i ||| jp_lr ra i) sl → jp_al s kd q i 0) → wY_fits_131 post (wY_fits_73 post (nI q) (nI sl) (nI sr) g_n g_rowLimit g_entries g_ops g_optimised g_hasResult b_cells b_rowCount b_entrySet b_entryVisible b_estimates b_operators b_sides b_inPlan b_least b_ways b_root b_rootLeft b_found b_foundCount d) (nI q) (nI sl) (nI sr) (nI i) (nI (jf_ro (la i) ||| jf_ro (ra i))) g_n g_rowLimit g_entries g_ops g_optimised g_hasResult b_cells b_rowCount b_entrySet b_entryVisible b_estimates b_operators b_sides b_inPlan b_least b_ways b_root b_rootLeft b_found b_foundCount := by
      intro hh
      unfold wY_fits_131
      refine ek_if (d := ja_sub (jp_lr la i ||| jp_lr ra i) sr) (ja_anz (a := jp_lr la i ||| jp_lr ra i) (by omega)) (fun h2 => ?_) (fun h2 => nm_r (nI_1 i) (ih () fun j hj => ?_))
      · refine jy_allowed (t := 1) (s := s) (kd := kd) hq hi hm es hs ekd hkd (by decide) (fun ha => br_f (by decide) (nm_r (nI_1 i) (ih () fun j hj => ?_))) (fun ha => br_t rfl (k0 fun z => ha ((z.2.2.2.2 i hi).2 h2)))
        by_cases e : j = i
        · subst e; exact ⟨hh, fun _ => ha⟩
        · exact h j (by omega)
      · by_cases e : j = i
        · subst e; exact ⟨hh, fun z => absurd z h2⟩
        · exact h j (by omega)
    refine ek_if (d := ja_sub (jp_lr la i ||| jp_lr ra i) sl) (ja_anz (a := jp_lr la i ||| jp_lr ra i) (by omega)) (fun h2 => ?_) (fun h2 => c131 fun z => absurd z h2)
    exact jy_allowed (t := 0) (s := s) (kd := kd) hq hi hm es hs ekd hkd (by decide) (fun ha => br_f (by decide) (c131 fun _ => ha)) (fun ha => br_t rfl (k0 fun z => ha ((z.2.2.2.2 i hi).1 h2)))
end
end
section
/-! ===== solve: all splits of a set ===== -/
theorem ja_ui {f : Nat → Int32} {k : Nat} : upd f k (f k) = f := by
  funext j
  by_cases e : j = k
  · subst e; rw [pk_us]
  · rw [pk_un e]
/-- the state after the splits below t have been tried with root q -/
noncomputable def jp_sv (m : Nat) (lr rr : Nat → Nat) (al : Nat → Nat → Nat → Prop) (W C : Nat → Int32) (S : Nat) (h : Int32) (q : Nat) (st : Int32 × Int32 × Int32 × Int32) (t : Nat) : Int32 × Int32 × Int32 × Int32 :=
  ja_if (jp_X m lr rr al W S q ∧ jp_co m lr rr S q < t) (jp_st W C (jp_co m lr rr S q) (ja_sd S (jp_co m lr rr S q)) h q st) st
section
variable {g_n g_rowLimit g_entries g_ops g_optimised g_hasResult : Int32} {b_cells b_rowCount b_entrySet b_entryVisible b_estimates b_operators b_sides b_inPlan b_least b_ways b_root b_rootLeft b_found b_foundCount : Nat → Int32}
variable {n m U : Nat} {la ra dv est kd s : Nat → Nat}
theorem jy_65 {post : SY → Prop} {J : Int32 → (Nat → Int32) → (Nat → Int32) → (Nat → Int32) → (Nat → Int32) → (Nat → Int32) → (Nat → Int32) → (Nat → Int32) → (Nat → Int32) → (Nat → Int32) → (Nat → Int32) → (Nat → Int32) → (Nat → Int32) → (Nat → Int32) → (Nat → Int32) → Prop} {S q hs : Nat} {st : Int32 × Int32 × Int32 × Int32} (H : jp_PL m U (jp_lr la) (jp_lr ra)) (E : jy_PE n m U la ra dv est kd g_n g_ops b_operators b_estimates) (es : ∀ i, b_sides i = nI (s i)) (hs64 : ∀ i, i < 2 * m → s i < 64)
    (hS0 : S ≠ 0) (hSU : ja_sub S U) (hq : q < m) (hG : ∀ T, T ≠ 0 → T < S → ja_sub T U → b_ways T ≠ 0 → jp_gd m (jp_lr la) (jp_lr ra) T) (hc : st.2.1 = -1 ∨ ¬ st.2.1 < 0)
    (k : J (nI (q + 1)) b_cells b_rowCount b_entrySet b_entryVisible b_estimates b_operators b_sides b_inPlan (upd b_least S (jp_sv m (jp_lr la) (jp_lr ra) (jp_al s kd) b_ways b_least S (nI hs) q st S).2.1) (upd b_ways S (jp_sv m (jp_lr la) (jp_lr ra) (jp_al s kd) b_ways b_least S (nI hs) q st S).1) (upd b_root S (jp_sv m (jp_lr la) (jp_lr ra) (jp_al s kd) b_ways b_least S (nI hs) q st S).2.2.1) (upd b_rootLeft S (jp_sv m (jp_lr la) (jp_lr ra) (jp_al s kd) b_ways b_least S (nI hs) q st S).2.2.2) b_found b_foundCount) :
    ∃ d, wY_solve_65 post J (nI S) (nI hs) (nI q) g_n g_rowLimit g_entries g_ops g_optimised g_hasResult d 1 b_cells b_rowCount b_entrySet b_entryVisible b_estimates b_operators b_sides b_inPlan (upd b_least S st.2.1) (upd b_ways S st.1) (upd b_root S st.2.2.1) (upd b_rootLeft S st.2.2.2) b_found b_foundCount := by
  have hU := H.1
  have h6 : S < 64 := Nat.lt_of_le_of_lt (ja_sub_le hSU) hU
  have hv : vp_in (nI S) 64 := vp_in_nI h6 (by decide)
  generalize hL : jp_co m (jp_lr la) (jp_lr ra) S q = L
  have hsv : ∀ t, jp_sv m (jp_lr la) (jp_lr ra) (jp_al s kd) b_ways b_least S (nI hs) q st t = ja_if (jp_X m (jp_lr la) (jp_lr ra) (jp_al s kd) b_ways S q ∧ L < t) (jp_st b_ways b_least L (ja_sd S L) (nI hs) q st) st := by
    intro t
    unfold jp_sv
    rw [hL]
  refine pk_loop (fun d t (z : Int32 × Int32 × Int32 × Int32) => wY_solve_65 post J (nI S) (nI hs) (nI q) g_n g_rowLimit g_entries g_ops g_optimised g_hasResult d (nI t) b_cells b_rowCount b_entrySet b_entryVisible b_estimates b_operators b_sides b_inPlan (upd b_least S z.2.1) (upd b_ways S z.1) (upd b_root S z.2.2.1) (upd b_rootLeft S z.2.2.2) b_found b_foundCount)
    (fun t z => 1 ≤ t ∧ z = jp_sv m (jp_lr la) (jp_lr ra) (jp_al s kd) b_ways b_least S (nI hs) q st t) S 1 st (by omega) ⟨Nat.le_refl _, ?_⟩ ?_ ?_
  · rw [hsv 1]
    refine (ja_iff fun z => ?_).symm
    have := (jp_Xp H z.1).1
    rw [hL] at this
    omega
  · rintro d z ⟨_, rfl⟩
    exact br_t (nI_le (Nat.le_refl _) (by omega)) (nm_r (nI_1 q) k)
  · rintro d t z ht ⟨ht1, hz⟩ ih
    refine br_f (nI_ge ht (by omega)) (nm_r (ja_an t (by omega)) ?_)
    have nochg : ¬ (jp_X m (jp_lr la) (jp_lr ra) (jp_al s kd) b_ways S q ∧ L = t) → z = jp_sv m (jp_lr la) (jp_lr ra) (jp_al s kd) b_ways b_least S (nI hs) q st (t + 1) := by
      intro hno
      rw [hz, hsv, hsv]
      by_cases hx : jp_X m (jp_lr la) (jp_lr ra) (jp_al s kd) b_ways S q
      · have hne : L ≠ t := fun e => hno ⟨hx, e⟩
        by_cases hlt : L < t
        · rw [ja_ift ⟨hx, hlt⟩, ja_ift ⟨hx, by omega⟩]
        · rw [ja_iff fun w => hlt w.2, ja_iff fun w => hlt (by have := w.2; omega)]
      · rw [ja_iff fun w => hx w.1, ja_iff fun w => hx w.1]
    refine ek_if (d := ja_sub t S) (ja_anz (by omega)) (fun hsub => ?_) (fun hsub => nm_r (nI_1 t) (ih z ⟨by omega, nochg fun w => hsub ?_⟩))
    · have hsl : ja_sd S t < 64 := Nat.lt_of_le_of_lt (ja_sd_le _ _) h6
      have nt : t ≠ S := by omega
      have nr : ja_sd S t ≠ S := by
        intro e
        obtain ⟨x, hx⟩ := ja_nz.mp (show t ≠ 0 by omega)
        have h2 := hsub x hx
        rw [← e] at h2
        exact (ja_md.mp h2).2 hx
      have eF : jp_F m (jp_lr la) (jp_lr ra) (jp_al s kd) (upd b_ways S z.1) q t (ja_sd S t) ↔ jp_F m (jp_lr la) (jp_lr ra) (jp_al s kd) b_ways q t (ja_sd S t) := by
        unfold jp_F
        rw [pk_un nt, pk_un nr]
      refine jy_fits (s := s) (kd := kd) (la := la) (ra := ra) E es hs64 hq (by omega) hsl (fun hF => br_f (by decide) ?_) (fun hF => br_t rfl (nm_r (nI_1 t) (ih z ⟨by omega, nochg fun w => hF ?_⟩)))
      · have hF := eF.mp hF
        obtain ⟨eL, hX⟩ := jp_XY H h6 hSU hG hq (by omega) ht hsub hF
        rw [hL] at eL
        have hz' : z = st := by rw [hz, hsv, ja_iff fun w => absurd w.2 (by omega)]
        have hnext : jp_sv m (jp_lr la) (jp_lr ra) (jp_al s kd) b_ways b_least S (nI hs) q st (t + 1) = jp_st b_ways b_least t (ja_sd S t) (nI hs) q st := by
          rw [hsv, ja_ift ⟨hX, by omega⟩, eL]
        subst hz'
        rw [nI_clamp (n := S) (by omega), nI_clamp (n := t) (by omega), nI_clamp (n := ja_sd S t) (by omega), pk_un nt, pk_un nr, pk_un nt, pk_un nr, pk_us, pk_us, ja_uu]
        refine ⟨hv, vp_in_nI (by omega) (by decide), vp_in_nI hsl (by decide), hv, nm_e ⟨vp_in_nI (by omega) (by decide), vp_in_nI hsl (by decide), nm_e ⟨hv, ?_⟩⟩⟩
        have c168 : (z.2.1 < 0 ∨ (nI hs + b_least t) + b_least (ja_sd S t) < z.2.1) → wY_solve_168 post J (wY_solve_65 post J (nI S) (nI hs) (nI q) g_n g_rowLimit g_entries g_ops g_optimised g_hasResult d) (nI S) (nI hs) (nI q) (nI t) ((nI hs + b_least t) + b_least (ja_sd S t)) g_n g_rowLimit g_entries g_ops g_optimised g_hasResult b_cells b_rowCount b_entrySet b_entryVisible b_estimates b_operators b_sides b_inPlan (upd b_least S z.2.1) (upd b_ways S (z.1 + b_ways t * b_ways (ja_sd S t))) (upd b_root S z.2.2.1) (upd b_rootLeft S z.2.2.2) b_found b_foundCount := by
          intro hcc
          unfold wY_solve_168
          rw [nI_clamp (n := S) (by omega), ja_uu, ja_uu, ja_uu]
          refine ⟨hv, nm_e ⟨hv, nm_e ⟨hv, nm_e (nm_r (nI_1 t) (ih (z.1 + b_ways t * b_ways (ja_sd S t), (nI hs + b_least t) + b_least (ja_sd S t), nI q, nI t) ⟨by omega, ?_⟩))⟩⟩⟩
          rw [hnext]
          unfold jp_st
          rw [if_pos hcc]
        refine br_c (fun c0 => c168 (Or.inl (by rw [c0]; decide))) (fun c0 => ⟨hv, br_c (fun c1 => nm_r (nI_1 t) (ih (z.1 + b_ways t * b_ways (ja_sd S t), z.2.1, z.2.2.1, z.2.2.2) ⟨by omega, ?_⟩)) (fun c1 => c168 (Or.inr (Int32.not_le.mp c1)))⟩)
        rw [hnext]
        unfold jp_st
        rw [if_neg (fun w => w.elim (fun y => hc.elim (fun v => c0 v) (fun v => v y)) (fun y => Int32.not_le.mpr y c1))]
      · obtain ⟨hx, e⟩ := w
        rw [eF, ← e, ← hL]
        exact hx.2.2
    · obtain ⟨hx, e⟩ := w
      rw [← e, ← hL]
      exact (jp_Xp H hx).2.2.2.2.1
theorem jy_65s {post : SY → Prop} {J : Int32 → (Nat → Int32) → (Nat → Int32) → (Nat → Int32) → (Nat → Int32) → (Nat → Int32) → (Nat → Int32) → (Nat → Int32) → (Nat → Int32) → (Nat → Int32) → (Nat → Int32) → (Nat → Int32) → (Nat → Int32) → (Nat → Int32) → (Nat → Int32) → Prop} {S q hs : Nat} (h6 : S < 64) (hS0 : S ≠ 0) (hg : ja_sg S) (k : J (nI (q + 1)) b_cells b_rowCount b_entrySet b_entryVisible b_estimates b_operators b_sides b_inPlan b_least b_ways b_root b_rootLeft b_found b_foundCount) :
    ∃ d, wY_solve_65 post J (nI S) (nI hs) (nI q) g_n g_rowLimit g_entries g_ops g_optimised g_hasResult d 1 b_cells b_rowCount b_entrySet b_entryVisible b_estimates b_operators b_sides b_inPlan b_least b_ways b_root b_rootLeft b_found b_foundCount := by
  refine pk_loop (fun d t (_ : Unit) => wY_solve_65 post J (nI S) (nI hs) (nI q) g_n g_rowLimit g_entries g_ops g_optimised g_hasResult d (nI t) b_cells b_rowCount b_entrySet b_entryVisible b_estimates b_operators b_sides b_inPlan b_least b_ways b_root b_rootLeft b_found b_foundCount) (fun t _ => 1 ≤ t) S 1 () (by omega) (Nat.le_refl _) ?_ ?_
  · intro d _ _
    exact br_t (nI_le (Nat.le_refl _) (by omega)) (nm_r (nI_1 q) k)
  · intro d t _ ht ht1 ih
    refine br_f (nI_ge ht (by omega)) (nm_r (ja_an t (by omega)) (ek_if (d := ja_sub t S) (ja_anz (by omega)) (fun hsub => ?_) (fun hsub => nm_r (nI_1 t) (ih () (by omega)))))
    exfalso
    obtain ⟨r, hr, e⟩ := ja_sg_ex h6 hS0 hg
    obtain ⟨x, hx⟩ := ja_nz.mp (show t ≠ 0 by omega)
    have h1 := hsub x hx
    rw [e, ja_m2] at h1
    have : ja_sub S t := fun y hy => by
      rw [e, ja_m2] at hy
      rw [← hy, h1]
      exact hx
    have := ja_sub_le this
    omega
theorem jy_solve {post : SY → Prop} {S : Nat} (H : jp_PL m U (jp_lr la) (jp_lr ra)) (E : jy_PE n m U la ra dv est kd g_n g_ops b_operators b_estimates) (es : ∀ i, b_sides i = nI (s i)) (hs64 : ∀ i, i < 2 * m → s i < 64) (hS0 : S ≠ 0) (hSU : ja_sub S U)
    (hT : ∀ T, T ≠ 0 → T < S → ja_sub T U → jp_TB m (jp_lr la) (jp_lr ra) b_ways b_least T)
    (k : ∀ st : Int32 × Int32 × Int32 × Int32, (ja_sg S → st.1 = 1 ∧ st.2.1 = 0) → (¬ ja_sg S → st = jp_ps m (jp_lr la) (jp_lr ra) (jp_al s kd) b_ways b_least S (nI (jp_sz est (jp_lr la) (jp_lr ra) dv m S)) (0, -1, b_root S, b_rootLeft S) m) →
      post (g_n, g_rowLimit, g_entries, g_ops, g_optimised, g_hasResult, b_cells, b_rowCount, b_entrySet, b_entryVisible, b_estimates, b_operators, b_sides, b_inPlan, upd b_least S st.2.1, upd b_ways S st.1, upd b_root S st.2.2.1, upd b_rootLeft S st.2.2.2, b_found, b_foundCount)) : wpY_solve post (g_n, g_rowLimit, g_entries, g_ops, g_optimised, g_hasResult, b_cells, b_rowCount, b_entrySet, b_entryVisible, b_estimates, b_operators, b_sides, b_inPlan, b_least, b_ways, b_root, b_rootLeft, b_found, b_foundCount) (nI S) := by
  have hU := H.1
  have h5 := jp_m5 H
  have h6 : S < 64 := Nat.lt_of_le_of_lt (ja_sub_le hSU) hU
  have hv : vp_in (nI S) 64 := vp_in_nI h6 (by decide)
  have eo := E.2.2.2.1
  have hzb : jp_sz est (jp_lr la) (jp_lr ra) dv m S ≤ 64000000 := jp_sz_b fun r hr => (E.2.2.2.2.2.2 r (hSU r hr)).2
  refine ek_if (ja_sg1 hS0 (by omega)) (fun hg => ?_) (fun hg => ?_)
  · refine br_f (by decide) ?_
    unfold wY_solve_28
    rw [nI_clamp (n := S) (by omega)]
    refine ⟨hv, nm_e (br_f (by decide) ?_)⟩
    unfold wY_solve_43
    rw [nI_clamp (n := S) (by omega)]
    refine ⟨hv, nm_e (jy_size (la := la) (ra := ra) (dv := dv) (est := est) (kd := kd) E hSU ?_)⟩
    refine loop_0 (fun d q (_ : Unit) => wY_solve_53 post (nI S) (nI (jp_sz est (jp_lr la) (jp_lr ra) dv m S)) g_n g_rowLimit g_entries g_ops g_optimised g_hasResult d (nI q) b_cells b_rowCount b_entrySet b_entryVisible b_estimates b_operators b_sides b_inPlan (upd b_least S 0) (upd b_ways S 1) b_root b_rootLeft b_found b_foundCount) (fun _ _ => True) m () trivial ?_ ?_
    · intro d _ _
      have := k (1, 0, b_root S, b_rootLeft S) (fun _ => ⟨rfl, rfl⟩) (fun z => absurd hg z)
      dsimp only at this
      rw [ja_ui, ja_ui] at this
      exact br_t (by rw [eo]; exact nI_le (Nat.le_refl _) (by omega)) this
    · intro d q _ hq _ ih
      exact br_f (by rw [eo]; exact nI_ge hq (by omega)) (jy_65s h6 hS0 hg (ih () trivial))
  · refine br_t rfl ?_
    unfold wY_solve_28
    rw [nI_clamp (n := S) (by omega)]
    refine ⟨hv, nm_e (br_t rfl ?_)⟩
    unfold wY_solve_43
    rw [nI_clamp (n := S) (by omega)]
    refine ⟨hv, nm_e (jy_size (la := la) (ra := ra) (dv := dv) (est := est) (kd := kd) E hSU ?_)⟩
    have key := loop_0 (fun d q (st : Int32 × Int32 × Int32 × Int32) => wY_solve_53 post (nI S) (nI (jp_sz est (jp_lr la) (jp_lr ra) dv m S)) g_n g_rowLimit g_entries g_ops g_optimised g_hasResult d (nI q) b_cells b_rowCount b_entrySet b_entryVisible b_estimates b_operators b_sides b_inPlan (upd b_least S st.2.1) (upd b_ways S st.1) (upd b_root S st.2.2.1) (upd b_rootLeft S st.2.2.2) b_found b_foundCount)
      (fun q st => st = jp_ps m (jp_lr la) (jp_lr ra) (jp_al s kd) b_ways b_least S (nI (jp_sz est (jp_lr la) (jp_lr ra) dv m S)) (0, -1, b_root S, b_rootLeft S) q) m (0, -1, b_root S, b_rootLeft S) rfl ?_ ?_
    · dsimp only at key
      rw [ja_ui, ja_ui] at key
      exact key
    · intro d st hst
      exact br_t (by rw [eo]; exact nI_le (Nat.le_refl _) (by omega)) (k st (fun z => absurd z hg) (fun _ => hst))
    · intro d q st hq hst ih
      have hsi := jp_SIs (al := jp_al s kd) (r0 := b_root S) (l0 := b_rootLeft S) H h6 hSU h5 hzb hT q (by omega)
      rw [← hst] at hsi
      have hc : st.2.1 = -1 ∨ ¬ st.2.1 < 0 := by
        obtain ⟨w, e1, hw, hz, hn⟩ := hsi
        by_cases w0 : w = 0
        · exact Or.inl (hz w0).1
        · obtain ⟨j, _, _, _, _, cl, cr, _, _, hle, e⟩ := hn w0
          refine Or.inr ?_
          rw [e]
          have := ja_pc_6 h6
          exact nI_pos (by omega)
      refine br_f (by rw [eo]; exact nI_ge hq (by omega)) (jy_65 H E es hs64 hS0 hSU hq ?_ hc (ih _ ?_))
      · intro T t0 tl ts tw
        obtain ⟨w, c, ew, _, _, g⟩ := hT T t0 tl ts
        exact (g (fun z => tw (by rw [ew, z]; rfl))).1
      · unfold jp_sv
        by_cases hx : jp_X m (jp_lr la) (jp_lr ra) (jp_al s kd) b_ways S q
        · rw [ja_ift ⟨hx, (jp_Xp H hx).2.2.1⟩, jp_ps_t hx, hst]
        · rw [ja_iff fun z => hx z.1, jp_ps_f hx, hst]
end
end
section
/-! ===== optimise, reference's side ===== -/
section
variable {g_n g_rowLimit g_entries g_ops g_optimised g_hasResult : Int32} {b_cells b_rowCount b_entrySet b_entryVisible b_estimates b_operators b_sides b_inPlan b_least b_ways b_root b_rootLeft b_found b_foundCount : Nat → Int32}
variable {n m U : Nat} {E V la ra s kd dv est : Nat → Nat}
theorem jy_69 {post : Int32 → SY → Prop} {rt lf lr rr : Nat → Nat} {G : Nat → Prop} (H : jp_PL m U lr rr) (hQ : jl_Q m U lr rr G rt lf) (hGU : G U) (es : ∀ i, b_sides i = nI (s i)) (hip : ∀ T, T ≠ 0 → T ≤ U → b_inPlan T = if T = U then 1 else 0)
    (er : ∀ T, G T → ¬ ja_sg T → b_root T = nI (rt T)) (el : ∀ T, G T → ¬ ja_sg T → b_rootLeft T = nI (lf T))
    (k : ∀ sd ip, (∀ i, sd i = nI ((jl_ly rt lf U (fun T => decide (T = U)) s).2 i)) → post (b_least U) (g_n, g_rowLimit, g_entries, g_ops, 1, g_hasResult, b_cells, b_rowCount, b_entrySet, b_entryVisible, b_estimates, b_operators, sd, ip, b_least, b_ways, b_root, b_rootLeft, b_found, b_foundCount)) : ∃ d, wY_optimise_69 post (nI U) g_n g_rowLimit g_entries g_ops g_optimised g_hasResult d (nI U) b_cells b_rowCount b_entrySet b_entryVisible b_estimates b_operators b_sides b_inPlan b_least b_ways b_root b_rootLeft b_found b_foundCount := by
  have hU := H.1
  have h5 := jp_m5 H
  refine ⟨U + 1, pk_loopD (fun d t (st : (Nat → Int32) × (Nat → Int32)) => wY_optimise_69 post (nI U) g_n g_rowLimit g_entries g_ops g_optimised g_hasResult d (nI t) b_cells b_rowCount b_entrySet b_entryVisible b_estimates b_operators (st.1) (st.2) b_least b_ways b_root b_rootLeft b_found b_foundCount)
      (fun t st => t ≤ U ∧ ∃ M s', (∀ i, st.1 i = nI (s' i)) ∧ (∀ T, T ≠ 0 → T ≤ U → st.2 T = if M T = true then 1 else 0) ∧ jl_I m U lr rr G rt lf s t M s' ∧ jl_ly rt lf t M s' = jl_ly rt lf U (fun T => decide (T = U)) s)
      ?_ ?_ U (b_sides, b_inPlan) ⟨Nat.le_refl _, fun T => decide (T = U), s, es, ?_, jl_I0 H hGU, rfl⟩⟩
  · rintro d ⟨sd, ip⟩ ⟨_, M, s', a1, a3, a4, a5⟩
    dsimp only at a1 a3
    refine br_t (by decide) ⟨vp_in_nI hU (by decide), ?_⟩
    rw [nI_clamp (by omega)]
    refine k sd ip ?_
    rw [← a5]
    exact a1
  · rintro d t ⟨sd, ip⟩ ⟨ht, M, s', a1, a3, a4, a5⟩ ih
    dsimp only at a1 a3
    have hst := jl_step H hQ a4
    have hv : vp_in (nI (t + 1)) 64 := vp_in_nI (by omega) (by decide)
    refine br_f (nI_nle (by omega) (by omega)) ?_
    dsimp only
    rw [nI_clamp (n := t + 1) (by omega), a3 (t + 1) (by omega) (by omega)]
    refine ⟨hv, ?_⟩
    have skip : (¬ M (t + 1) = true ∨ ja_sg (t + 1)) → wY_optimise_69 post (nI U) g_n g_rowLimit g_entries g_ops g_optimised g_hasResult d (nI t) b_cells b_rowCount b_entrySet b_entryVisible b_estimates b_operators (sd) (ip) b_least b_ways b_root b_rootLeft b_found b_foundCount := by
      intro hc'
      rw [jl_st_f hc'] at hst
      refine ih (sd, ip) ⟨by omega, M, s', a1, a3, hst, ?_⟩
      rw [← a5]
      show _ = jl_ly rt lf t (jl_st rt lf (t + 1) M s').1 (jl_st rt lf (t + 1) M s').2
      rw [jl_st_f hc']
    by_cases hm : M (t + 1) = true
    · rw [if_pos hm]
      refine br_f (by decide) (ek_if (ja_sg1 (by omega) (by omega)) (fun hg => nm_r (pk_m1 t) (skip (Or.inr hg))) (fun hg => ⟨hv, ?_⟩))
      have hG := a4.2.1 _ hm
      obtain ⟨q0, q1, qr⟩ := hQ _ hG
      obtain ⟨r1, r2, r3, r4, r5, r6, r7, r8, r9, r10, r11⟩ := qr hg
      rw [er _ hG hg, el _ hG hg]
      rw [jl_st_t hm hg] at hst
      have f1 : (10 : Int32) + nI (rt (t + 1)) * 2 = nI (10 + 2 * rt (t + 1)) := by
        rw [show nI (rt (t + 1)) * 2 = nI (rt (t + 1) * 2) from pk_mul _ 2, Nat.mul_comm]
        exact nI_add 10 _
      have f2 : nI (10 + 2 * rt (t + 1)) + 1 = nI (11 + 2 * rt (t + 1)) := by
        rw [nI_1]
        congr 1
        omega
      refine nm_r f1 ⟨hv, ?_⟩
      rw [f2, nI_clamp (n := 10 + 2 * rt (t + 1)) (by omega), nI_clamp (n := 11 + 2 * rt (t + 1)) (by omega)]
      refine ⟨vp_in_nI (by omega) (by decide), nm_e ⟨hv, vp_in_nI (by omega) (by decide), nm_r (congrArg _ (ja_an _ (by omega))) ?_⟩⟩
      rw [pk_us, pk_un (show 10 + 2 * rt (t + 1) ≠ 11 + 2 * rt (t + 1) by omega), pk_us, nI_clamp (n := lf (t + 1)) (by omega), nI_clamp (n := ja_sd (t + 1) (lf (t + 1))) (by omega)]
      refine ⟨vp_in_nI (by omega) (by decide), vp_in_nI (by omega) (by decide), nm_e ⟨vp_in_nI (by omega) (by decide), vp_in_nI (by omega) (by decide), nm_e (nm_r (pk_m1 t) (ih (_, _) ⟨by omega, _, _, ja_upI (ja_upI a1 _ _) _ _, ?_, hst, ?_⟩))⟩⟩
      · intro T hT0 hT
        show upd (upd ip (lf (t + 1)) (vp_nar .boolean 1)) (ja_sd (t + 1) (lf (t + 1))) (vp_nar .boolean 1) T = if (if T = lf (t + 1) ∨ T = ja_sd (t + 1) (lf (t + 1)) then true else M T) = true then 1 else 0
        rw [jn_b1]
        by_cases c1 : T = ja_sd (t + 1) (lf (t + 1))
        · rw [← c1, pk_us, if_pos (Or.inr rfl), if_pos rfl]
        · rw [pk_un c1]
          by_cases c2 : T = lf (t + 1)
          · rw [← c2, pk_us, if_pos (Or.inl rfl), if_pos rfl]
          · rw [pk_un c2, if_neg (show ¬ (T = lf (t + 1) ∨ T = ja_sd (t + 1) (lf (t + 1))) from fun z => z.elim c2 c1)]
            exact a3 T hT0 hT
      · rw [← a5]
        show _ = jl_ly rt lf t (jl_st rt lf (t + 1) M s').1 (jl_st rt lf (t + 1) M s').2
        rw [jl_st_t hm hg]
    · rw [if_neg hm]
      exact br_t rfl (nm_r (pk_m1 t) (skip (Or.inl hm)))
  · intro T t0 tl
    show b_inPlan T = if decide (T = U) = true then 1 else 0
    rw [hip T t0 tl]
    by_cases e : T = U
    · rw [if_pos e, if_pos (decide_eq_true e)]
    · rw [if_neg e, if_neg (fun z => e (of_decide_eq_true z))]
theorem jy_opt {post : Int32 → SY → Prop} (F : jf_FR n 1 m U E V la ra s) (P : jy_PE n m U la ra dv est kd g_n g_ops b_operators b_estimates) (eopt : g_optimised = 0) (eec : g_entries = 1) (eU : b_entrySet 0 = nI U)
    (es : ∀ i, b_sides i = nI (s i))
    (k : ∀ ip W C RT LF sd, jp_SP m U (jp_lr la) (jp_lr ra) (jp_al s kd) (jp_sz est (jp_lr la) (jp_lr ra) dv m) (U + 1) W C RT LF → (∀ i, sd i = nI (jl_s RT LF U s i)) →
      post (C U) (g_n, g_rowLimit, g_entries, g_ops, 1, g_hasResult, b_cells, b_rowCount, b_entrySet, b_entryVisible, b_estimates, b_operators, sd, ip, C, W, RT, LF, b_found, b_foundCount)) : wpY_optimise post (g_n, g_rowLimit, g_entries, g_ops, g_optimised, g_hasResult, b_cells, b_rowCount, b_entrySet, b_entryVisible, b_estimates, b_operators, b_sides, b_inPlan, b_least, b_ways, b_root, b_rootLeft, b_found, b_foundCount) := by
  have H := jp_of F
  have hU := H.1
  have h5 := jp_m5 H
  have T0 := jr_TW0 F
  have hz : ∀ S, S ≠ 0 → ja_sub S U → jp_sz est (jp_lr la) (jp_lr ra) dv m S ≤ 64000000 := fun S _ hS => jp_sz_b fun r hr => (P.2.2.2.2.2.2 r (hS r hr)).2
  have hs64 : ∀ i, i < 2 * m → s i < 64 := by
    intro i hi
    obtain ⟨_, l1, l2, l3, _⟩ := jr_TWs T0 hU (i := i / 2) (by omega)
    rcases Nat.mod_two_eq_zero_or_one i with w | w
    · rw [show 2 * (i / 2) = i from by omega] at l1; omega
    · rw [show 2 * (i / 2) + 1 = i from by omega] at l2; omega
  refine br_t eopt (br_t eec (nm_r eU ?_))
  refine pk_loop (fun d t (st : (Nat → Int32) × (Nat → Int32) × (Nat → Int32) × (Nat → Int32) × (Nat → Int32)) => wY_optimise_27 post (nI U) d (nI t) g_n g_rowLimit g_entries g_ops g_optimised g_hasResult b_cells b_rowCount b_entrySet b_entryVisible b_estimates b_operators b_sides (st.1) (st.2.2.1) (st.2.1) (st.2.2.2.1) (st.2.2.2.2) b_found b_foundCount)
    (fun t st => 1 ≤ t ∧ jp_SP m U (jp_lr la) (jp_lr ra) (jp_al s kd) (jp_sz est (jp_lr la) (jp_lr ra) dv m) t st.2.1 st.2.2.1 st.2.2.2.1 st.2.2.2.2 ∧ (∀ T, T ≠ 0 → T < t → st.1 T = if T = U then 1 else 0))
    (U + 1) 1 (b_inPlan, b_ways, b_least, b_root, b_rootLeft) (by omega) ⟨Nat.le_refl _, fun S h0 hl => absurd hl (by omega), fun T h0 hl => absurd hl (by omega)⟩ ?_ ?_
  · rintro d ⟨ip, W, C, RT, LF⟩ ⟨_, hSP, hip⟩
    dsimp only at hSP hip
    obtain ⟨hQ, ⟨hU0, hWU⟩, hI, hC⟩ := jl_fin F hz hSP
    have hrt := jl_rts H hz hSP
    refine br_t (nI_lt (by omega) (by omega)) (jy_69 (s := s) (rt := jl_rt RT) (lf := jl_rt LF) H hQ ⟨hU0, ja_sub_rfl, hWU⟩ es (fun T t0 tl => hip T t0 (by omega)) (fun T g hg => (hrt T g.1 g.2.1 g.2.2 hg).1.1) (fun T g hg => (hrt T g.1 g.2.1 g.2.2 hg).2.1) ?_)
    intro sd ip' hsd
    exact k ip' W C RT LF sd hSP hsd
  · rintro d t ⟨ip, W, C, RT, LF⟩ ht ⟨ht1, hSP, hip⟩ ih
    dsimp only at hSP hip
    refine br_f (nI_nlt (by omega) (by omega)) ?_
    have c47 : ∀ z : Int32, vp_nar .boolean z = (if t = U then 1 else 0) → wY_optimise_47 post (wY_optimise_27 post (nI U) d) (nI U) (nI t) z (nI t) g_n g_rowLimit g_entries g_ops g_optimised g_hasResult b_cells b_rowCount b_entrySet b_entryVisible b_estimates b_operators b_sides (ip) (C) (W) (RT) (LF) b_found b_foundCount := by
      intro z hz1
      unfold wY_optimise_47
      rw [nI_clamp (n := t) (by omega), hz1]
      have hip' : ∀ T, T ≠ 0 → T < t + 1 → upd ip t (if t = U then 1 else 0) T = if T = U then 1 else 0 := by
        intro T t0 tl
        by_cases e : T = t
        · subst e; exact pk_us
        · rw [pk_un e]; exact hip T t0 (by omega)
      refine ⟨vp_in_nI (by omega) (by decide), nm_e (ek_if (d := ja_sub t U) (ja_anz (by omega)) (fun hsub => ?_) (fun hsub => nm_r (nI_1 t) (ih (_, W, C, RT, LF) ⟨by omega, jp_SP_sk hSP hsub, hip'⟩)))⟩
      refine jy_solve (s := s) (kd := kd) (la := la) (ra := ra) (dv := dv) (est := est) H P es hs64 (by omega) hsub (fun T t0 tl ts => jp_TBs H hz hSP T t0 tl ts) ?_
      intro st k1 k2
      exact nm_r (nI_1 t) (ih (_, _, _, _, _) ⟨by omega, jp_SP_up (r0 := RT t) (l0 := LF t) H hSP hsub k1 k2, hip'⟩)
    refine pk_eq t U (fun e => c47 1 (by rw [jn_b1, if_pos e])) (fun e => c47 0 (by rw [jn_b0, if_neg e]))
end
/-- the two layouts agree -/
theorem jl_cg {m U : Nat} {lr rr : Nat → Nat} {G : Nat → Prop} {rt lf rt' lf' s0 : Nat → Nat} (H : jp_PL m U lr rr) (hQ : jl_Q m U lr rr G rt lf) (er : ∀ T, G T → ¬ ja_sg T → rt' T = rt T ∧ lf' T = lf T) :
    ∀ t M s, jl_I m U lr rr G rt lf s0 t M s → jl_ly rt' lf' t M s = jl_ly rt lf t M s := by
  intro t
  induction t with
  | zero => intro M s _; rfl
  | succ t ih =>
    intro M s h
    have e : jl_st rt' lf' (t + 1) M s = jl_st rt lf (t + 1) M s := by
      by_cases hc : M (t + 1) = true ∧ ¬ ja_sg (t + 1)
      · obtain ⟨hm, hg⟩ := hc
        obtain ⟨e1, e2⟩ := er _ (h.2.1 _ hm) hg
        rw [jl_st_t hm hg, jl_st_t hm hg, e1, e2]
      · have hc' : ¬ M (t + 1) = true ∨ ja_sg (t + 1) := by
          by_cases a : M (t + 1) = true
          · exact Or.inr (Classical.byContradiction fun b => hc ⟨a, b⟩)
          · exact Or.inl a
        rw [jl_st_f hc', jl_st_f hc']
    show jl_ly rt' lf' t (jl_st rt' lf' (t + 1) M s).1 (jl_st rt' lf' (t + 1) M s).2 = jl_ly rt lf t (jl_st rt lf (t + 1) M s).1 (jl_st rt lf (t + 1) M s).2
    rw [e]
    exact ih _ _ (jl_step H hQ h)
theorem jl_same {n m U : Nat} {E V la ra s kd sz : Nat → Nat} {W C RT LF W' C' RT' LF' : Nat → Int32} (F : jf_FR n 1 m U E V la ra s) (hz : ∀ S, S ≠ 0 → ja_sub S U → sz S ≤ 64000000)
    (h : jp_SP m U (jp_lr la) (jp_lr ra) (jp_al s kd) sz (U + 1) W C RT LF) (h' : jp_SP m U (jp_lr la) (jp_lr ra) (jp_al s kd) sz (U + 1) W' C' RT' LF') :
    (∀ S, S ≠ 0 → ja_sub S U → W S = W' S ∧ C S = C' S) ∧ jl_s RT' LF' U s = jl_s RT LF U s := by
  have H := jp_of F
  have uq := jp_uq H h h'
  have hle : ∀ T, ja_sub T U → T < U + 1 := fun T hT => by have := ja_sub_le hT; omega
  refine ⟨fun S h0 hS => ⟨(uq S h0 (hle S hS) hS).1, (uq S h0 (hle S hS) hS).2.1⟩, ?_⟩
  obtain ⟨hQ, ⟨hU0, hWU⟩, hI, hC⟩ := jl_fin F hz h
  unfold jl_s
  rw [jl_cg (rt := jl_rt RT) (lf := jl_rt LF) (s0 := s) H hQ (fun T g hg => ?_) U _ _ (jl_I0 H ⟨hU0, ja_sub_rfl, hWU⟩)]
  rcases (uq T g.1 (hle T g.2.1) g.2.1).2.2 hg with z | ⟨z1, z2⟩
  · exact absurd z g.2.2
  · unfold jl_rt
    rw [z1, z2]
    exact ⟨rfl, rfl⟩
end
section
/-! ===== the relation ===== -/
def jz_A1 (n rl : Nat) (f_n f_rowLimit g_n g_rowLimit : Int32) : Prop := f_n = nI n ∧ g_n = nI n ∧ 2 ≤ n ∧ n ≤ 6 ∧ f_rowLimit = nI rl ∧ g_rowLimit = nI rl ∧ 4 ≤ rl ∧ rl ≤ 12
def jz_A2 (n rl : Nat) (rc : Nat → Nat) (f_rowTotal : Int32) (a_rowCount a_values b_cells b_rowCount : Nat → Int32) : Prop :=
  f_rowTotal = nI (ja_sm rc 6) ∧ ja_sm rc 6 ≤ rl ∧ (∀ r, a_rowCount r = nI (rc r)) ∧ (∀ r, b_rowCount r = nI (rc r)) ∧ (∀ r, rc r ≤ 4) ∧ (∀ r, n ≤ r → rc r = 0) ∧ jr_VV rc a_values b_cells
def jz_A3 (n e m U : Nat) (E V la ra s kd dv est : Nat → Nat) (f_entryCount f_usedRels f_opCount : Int32) (a_entryRels a_entryVisible a_estimates a_opKind a_opLeftAttrs a_opRightAttrs a_opDivisor a_opLeftRels a_opRightRels a_sideSet : Nat → Int32) (g_entries g_ops : Int32) (b_entrySet b_entryVisible b_estimates b_operators b_sides : Nat → Int32) : Prop :=
  (f_entryCount = nI e ∧ g_entries = nI e ∧ f_usedRels = nI U ∧ f_opCount = nI m ∧ g_ops = nI m) ∧ ((∀ i, a_entryRels i = nI (E i)) ∧ (∀ i, b_entrySet i = nI (E i)) ∧ (∀ i, E i < 64)) ∧ ((∀ i, a_entryVisible i = nI (V i)) ∧ (∀ i, b_entryVisible i = nI (V i))) ∧
  ((∀ i, a_opKind i = nI (kd i)) ∧ (∀ i, a_opLeftAttrs i = nI (la i)) ∧ (∀ i, a_opRightAttrs i = nI (ra i)) ∧ (∀ i, a_opDivisor i = nI (dv i)) ∧ (∀ i, a_opLeftRels i = nI (jp_lr la i)) ∧ (∀ i, a_opRightRels i = nI (jp_lr ra i))) ∧
  ((∀ i, b_operators (i * 4) = nI (kd i)) ∧ (∀ i, b_operators (i * 4 + 1) = nI (la i)) ∧ (∀ i, b_operators (i * 4 + 2) = nI (ra i)) ∧ (∀ i, b_operators (i * 4 + 3) = nI (dv i))) ∧ ((∀ i, a_sideSet i = nI (s i)) ∧ (∀ i, b_sides i = nI (s i))) ∧
  (∀ r, U.testBit r = true → a_estimates r = nI (est r) ∧ b_estimates r = nI (est r) ∧ 1 ≤ est r ∧ est r ≤ 20) ∧ (∀ i, i < m → kd i < 10 ∧ 1 ≤ dv i ∧ dv i ≤ 20) ∧ jf_FR n e m U E V la ra s
def jz_O (e m U : Nat) (la ra s dv est : Nat → Nat) (f_optimised f_initialCost : Int32) (a_bestCost a_planCount a_nodeAt : Nat → Int32) (g_optimised : Int32) (b_least b_ways : Nat → Int32) : Prop :=
  g_optimised = f_optimised ∧ (f_optimised = 0 ∨ (f_optimised = 1 ∧ e = 1 ∧ (∀ S, S ≠ 0 → ja_sub S U → a_bestCost S = b_least S ∧ a_planCount S = b_ways S) ∧
    f_initialCost = nI (ja_sm (fun i => jp_sz est (jp_lr la) (jp_lr ra) dv m (jf_set s i)) m) ∧ a_bestCost U = nI (ja_sm (fun i => jp_sz est (jp_lr la) (jp_lr ra) dv m (jf_set (fun j => s (10 + j)) i)) m) ∧
    jr_TW m U (fun j => s (10 + j)) ∧ jr_NA m s 0 a_nodeAt ∧ jr_NA m (fun j => s (10 + j)) 1 a_nodeAt))
def jz_Q (U : Nat) (f_optimised f_resultRows : Int32) (a_result : Nat → Int32) (g_hasResult : Int32) (b_found b_foundCount : Nat → Int32) : Prop :=
  (g_hasResult = 0 ∧ f_resultRows = -1) ∨ (g_hasResult = 1 ∧ f_optimised = 1 ∧ ∃ L P : List Nat, jr_HS b_found b_foundCount U L ∧ P.Perm L ∧ P.Pairwise (· ≤ ·) ∧ L.Nodup ∧ (∀ x, x ∈ L → x < 2 ^ 31) ∧ jr_sl a_result 0 P ∧ f_resultRows = nI P.length)
def i_Rel (k : Nat) (u : SX) (v : SY) : Prop := match u with
  | (f_nullKey, f_maxRows, f_n, f_rowLimit, f_rowTotal, f_entryCount, f_usedRels, f_opCount, f_optimised, f_initialCost, f_resultRows, a_rowCount, a_values, a_entryRels, a_entryVisible, a_estimates, a_opKind, a_opLeftAttrs, a_opRightAttrs, a_opDivisor, a_opLeftRels, a_opRightRels, a_sideSet, a_eligible, a_opsIn, a_bestCost, a_planCount, a_rootOf, a_leftPart, a_nodeAt, a_slotRows, a_slotCount, a_keys, a_grouped, a_groupStart, a_groupHit, a_result) => match v with
    | (g_n, g_rowLimit, g_entries, g_ops, g_optimised, g_hasResult, b_cells, b_rowCount, b_entrySet, b_entryVisible, b_estimates, b_operators, b_sides, b_inPlan, b_least, b_ways, b_root, b_rootLeft, b_found, b_foundCount) => ∃ (n rl : Nat) (rc : Nat → Nat) (e m U : Nat) (E V la ra s kd dv est : Nat → Nat), jz_A1 n rl f_n f_rowLimit g_n g_rowLimit ∧ jz_A2 n rl rc f_rowTotal a_rowCount a_values b_cells b_rowCount ∧ jz_A3 n e m U E V la ra s kd dv est f_entryCount f_usedRels f_opCount a_entryRels a_entryVisible a_estimates a_opKind a_opLeftAttrs a_opRightAttrs a_opDivisor a_opLeftRels a_opRightRels a_sideSet g_entries g_ops b_entrySet b_entryVisible b_estimates b_operators b_sides ∧ jz_O e m U la ra s dv est f_optimised f_initialCost a_bestCost a_planCount a_nodeAt g_optimised b_least b_ways ∧ jz_Q U f_optimised f_resultRows a_result g_hasResult b_found b_foundCount
section
variable {f_nullKey f_maxRows f_n f_rowLimit f_rowTotal f_entryCount f_usedRels f_opCount f_optimised f_initialCost f_resultRows : Int32} {a_rowCount a_values a_entryRels a_entryVisible a_estimates a_opKind a_opLeftAttrs a_opRightAttrs a_opDivisor a_opLeftRels a_opRightRels a_sideSet a_eligible a_opsIn a_bestCost a_planCount a_rootOf a_leftPart a_nodeAt a_slotRows a_slotCount a_keys a_grouped a_groupStart a_groupHit a_result : Nat → Int32}
variable {g_n g_rowLimit g_entries g_ops g_optimised g_hasResult : Int32} {b_cells b_rowCount b_entrySet b_entryVisible b_estimates b_operators b_sides b_inPlan b_least b_ways b_root b_rootLeft b_found b_foundCount : Nat → Int32}
theorem jz_mk {k : Nat} {n rl : Nat} {rc : Nat → Nat} {e m U : Nat} {E V la ra s kd dv est : Nat → Nat} (h1 : jz_A1 n rl f_n f_rowLimit g_n g_rowLimit) (h2 : jz_A2 n rl rc f_rowTotal a_rowCount a_values b_cells b_rowCount) (h3 : jz_A3 n e m U E V la ra s kd dv est f_entryCount f_usedRels f_opCount a_entryRels a_entryVisible a_estimates a_opKind a_opLeftAttrs a_opRightAttrs a_opDivisor a_opLeftRels a_opRightRels a_sideSet g_entries g_ops b_entrySet b_entryVisible b_estimates b_operators b_sides) (h4 : jz_O e m U la ra s dv est f_optimised f_initialCost a_bestCost a_planCount a_nodeAt g_optimised b_least b_ways) (h5 : jz_Q U f_optimised f_resultRows a_result g_hasResult b_found b_foundCount) : i_Rel k (f_nullKey, f_maxRows, f_n, f_rowLimit, f_rowTotal, f_entryCount, f_usedRels, f_opCount, f_optimised, f_initialCost, f_resultRows, a_rowCount, a_values, a_entryRels, a_entryVisible, a_estimates, a_opKind, a_opLeftAttrs, a_opRightAttrs, a_opDivisor, a_opLeftRels, a_opRightRels, a_sideSet, a_eligible, a_opsIn, a_bestCost, a_planCount, a_rootOf, a_leftPart, a_nodeAt, a_slotRows, a_slotCount, a_keys, a_grouped, a_groupStart, a_groupHit, a_result) (g_n, g_rowLimit, g_entries, g_ops, g_optimised, g_hasResult, b_cells, b_rowCount, b_entrySet, b_entryVisible, b_estimates, b_operators, b_sides, b_inPlan, b_least, b_ways, b_root, b_rootLeft, b_found, b_foundCount) :=
  ⟨n, rl, rc, e, m, U, E, V, la, ra, s, kd, dv, est, h1, h2, h3, h4, h5⟩
end
theorem jz_el {k : Nat} {u : SX} {v : SY} {P : SX → SY → Prop}
    (h : ∀ (f_nullKey f_maxRows f_n f_rowLimit f_rowTotal f_entryCount f_usedRels f_opCount f_optimised f_initialCost f_resultRows : Int32) (a_rowCount a_values a_entryRels a_entryVisible a_estimates a_opKind a_opLeftAttrs a_opRightAttrs a_opDivisor a_opLeftRels a_opRightRels a_sideSet a_eligible a_opsIn a_bestCost a_planCount a_rootOf a_leftPart a_nodeAt a_slotRows a_slotCount a_keys a_grouped a_groupStart a_groupHit a_result : Nat → Int32) (g_n g_rowLimit g_entries g_ops g_optimised g_hasResult : Int32) (b_cells b_rowCount b_entrySet b_entryVisible b_estimates b_operators b_sides b_inPlan b_least b_ways b_root b_rootLeft b_found b_foundCount : Nat → Int32) (n rl : Nat) (rc : Nat → Nat) (e m U : Nat) (E V la ra s kd dv est : Nat → Nat),
      jz_A1 n rl f_n f_rowLimit g_n g_rowLimit → jz_A2 n rl rc f_rowTotal a_rowCount a_values b_cells b_rowCount → jz_A3 n e m U E V la ra s kd dv est f_entryCount f_usedRels f_opCount a_entryRels a_entryVisible a_estimates a_opKind a_opLeftAttrs a_opRightAttrs a_opDivisor a_opLeftRels a_opRightRels a_sideSet g_entries g_ops b_entrySet b_entryVisible b_estimates b_operators b_sides → jz_O e m U la ra s dv est f_optimised f_initialCost a_bestCost a_planCount a_nodeAt g_optimised b_least b_ways → jz_Q U f_optimised f_resultRows a_result g_hasResult b_found b_foundCount → P (f_nullKey, f_maxRows, f_n, f_rowLimit, f_rowTotal, f_entryCount, f_usedRels, f_opCount, f_optimised, f_initialCost, f_resultRows, a_rowCount, a_values, a_entryRels, a_entryVisible, a_estimates, a_opKind, a_opLeftAttrs, a_opRightAttrs, a_opDivisor, a_opLeftRels, a_opRightRels, a_sideSet, a_eligible, a_opsIn, a_bestCost, a_planCount, a_rootOf, a_leftPart, a_nodeAt, a_slotRows, a_slotCount, a_keys, a_grouped, a_groupStart, a_groupHit, a_result) (g_n, g_rowLimit, g_entries, g_ops, g_optimised, g_hasResult, b_cells, b_rowCount, b_entrySet, b_entryVisible, b_estimates, b_operators, b_sides, b_inPlan, b_least, b_ways, b_root, b_rootLeft, b_found, b_foundCount)) (I : i_Rel k u v) : P u v :=
  match u, v, I with
  | (f_nullKey, f_maxRows, f_n, f_rowLimit, f_rowTotal, f_entryCount, f_usedRels, f_opCount, f_optimised, f_initialCost, f_resultRows, a_rowCount, a_values, a_entryRels, a_entryVisible, a_estimates, a_opKind, a_opLeftAttrs, a_opRightAttrs, a_opDivisor, a_opLeftRels, a_opRightRels, a_sideSet, a_eligible, a_opsIn, a_bestCost, a_planCount, a_rootOf, a_leftPart, a_nodeAt, a_slotRows, a_slotCount, a_keys, a_grouped, a_groupStart, a_groupHit, a_result), (g_n, g_rowLimit, g_entries, g_ops, g_optimised, g_hasResult, b_cells, b_rowCount, b_entrySet, b_entryVisible, b_estimates, b_operators, b_sides, b_inPlan, b_least, b_ways, b_root, b_rootLeft, b_found, b_foundCount), ⟨n, rl, rc, e, m, U, E, V, la, ra, s, kd, dv, est, h1, h2, h3, h4, h5⟩ => h f_nullKey f_maxRows f_n f_rowLimit f_rowTotal f_entryCount f_usedRels f_opCount f_optimised f_initialCost f_resultRows a_rowCount a_values a_entryRels a_entryVisible a_estimates a_opKind a_opLeftAttrs a_opRightAttrs a_opDivisor a_opLeftRels a_opRightRels a_sideSet a_eligible a_opsIn a_bestCost a_planCount a_rootOf a_leftPart a_nodeAt a_slotRows a_slotCount a_keys a_grouped a_groupStart a_groupHit a_result g_n g_rowLimit g_entries g_ops g_optimised g_hasResult b_cells b_rowCount b_entrySet b_entryVisible b_estimates b_operators b_sides b_inPlan b_least b_ways b_root b_rootLeft b_found b_foundCount n rl rc e m U E V la ra s kd dv est h1 h2 h3 h4 h5
theorem i_up {k : Nat} {u : SX} {v : SY} (h : i_Rel k u v) : i_Rel (k + 5) u v := h
/-! the constructors -/
theorem jz_VV0 {rc : Nat → Nat} {v c : Nat → Int32} (h : ∀ r, rc r = 0) (hv : ∀ a, a < 12 → v (a * 8) = -1) : jr_VV rc v c := by
  intro a ha d hd
  rw [h] at hd
  have : d = 0 := by omega
  subst this
  exact ⟨Or.inl (hv a ha), fun _ => hv a ha, fun z => absurd rfl z⟩
theorem jz_init {k n rl : Nat} {vals : Nat → Int32} (h2 : 2 ≤ n) (h6 : n ≤ 6) (h4 : 4 ≤ rl) (h12 : rl ≤ 12) (hv : ∀ i, i < 96 → vals i = -1) :
    i_Rel k (109, 81, nI n, nI rl, 0, 0, 0, 0, 0, 0, -1, fun _ => 0, vals, fun _ => 0, fun _ => 0, fun _ => 0, fun _ => 0, fun _ => 0, fun _ => 0, fun _ => 0, fun _ => 0, fun _ => 0, fun _ => 0, fun _ => 0, fun _ => 0, fun _ => 0, fun _ => 0, fun _ => 0, fun _ => 0, fun _ => 0, fun _ => 0, fun _ => 0, fun _ => 0, fun _ => 0, fun _ => 0, fun _ => 0, fun _ => 0) (nI n, nI rl, 0, 0, 0, 0, fun _ => 0, fun _ => 0, fun _ => 0, fun _ => 0, fun _ => 0, fun _ => 0, fun _ => 0, fun _ => 0, fun _ => 0, fun _ => 0, fun _ => 0, fun _ => 0, fun _ => 0, fun _ => 0) := by
  refine jz_mk (n := n) (rl := rl) (rc := fun _ => 0) (e := 0) (m := 0) (U := 0) (E := fun _ => 0) (V := fun _ => 0) (la := fun _ => 0) (ra := fun _ => 0) (s := fun _ => 0) (kd := fun _ => 0) (dv := fun _ => 0) (est := fun _ => 0)
    ⟨rfl, rfl, h2, h6, rfl, rfl, h4, h12⟩ ⟨by rw [ja_sm_0]; rfl, by rw [ja_sm_0]; omega, fun _ => rfl, fun _ => rfl, fun _ => Nat.zero_le _, fun _ _ => rfl, jz_VV0 (fun _ => rfl) fun a ha => hv _ (by omega)⟩
    ⟨⟨rfl, rfl, rfl, rfl, rfl⟩, ⟨fun _ => rfl, fun _ => rfl, fun _ => show 0 < 64 by decide⟩, ⟨fun _ => rfl, fun _ => rfl⟩, ⟨fun _ => rfl, fun _ => rfl, fun _ => rfl, fun _ => rfl, fun _ => by show (0 : Int32) = nI (jf_ro 0); decide, fun _ => by show (0 : Int32) = nI (jf_ro 0); decide⟩, ⟨fun _ => rfl, fun _ => rfl, fun _ => rfl, fun _ => rfl⟩, ⟨fun _ => rfl, fun _ => rfl⟩, fun r hr => absurd hr ja_n0, fun i hi => absurd hi (by omega), jf_0 _ _ _ _ _ h6⟩
    ⟨rfl, Or.inl rfl⟩ (Or.inl ⟨rfl, rfl⟩)
theorem jz_x277 {post : SX → Prop} {n rl : Nat} (k : ∀ vals, (∀ i, i < 96 → vals i = -1) → post (109, 81, nI n, nI rl, 0, 0, 0, 0, 0, 0, -1, fun _ => 0, vals, fun _ => 0, fun _ => 0, fun _ => 0, fun _ => 0, fun _ => 0, fun _ => 0, fun _ => 0, fun _ => 0, fun _ => 0, fun _ => 0, fun _ => 0, fun _ => 0, fun _ => 0, fun _ => 0, fun _ => 0, fun _ => 0, fun _ => 0, fun _ => 0, fun _ => 0, fun _ => 0, fun _ => 0, fun _ => 0, fun _ => 0, fun _ => 0)) :
    ∃ d, wX_init_277 post (109) (81) (nI n) (nI rl) (0) (0) (0) (0) (0) (0) (-1) d 0 (fun _ => 0) (fun _ => 0) (fun _ => 0) (fun _ => 0) (fun _ => 0) (fun _ => 0) (fun _ => 0) (fun _ => 0) (fun _ => 0) (fun _ => 0) (fun _ => 0) (fun _ => 0) (fun _ => 0) (fun _ => 0) (fun _ => 0) (fun _ => 0) (fun _ => 0) (fun _ => 0) (fun _ => 0) (fun _ => 0) (fun _ => 0) (fun _ => 0) (fun _ => 0) (fun _ => 0) (fun _ => 0) (fun _ => 0) := by
  refine loop_0 (fun d i vals => wX_init_277 post (109) (81) (nI n) (nI rl) (0) (0) (0) (0) (0) (0) (-1) d (nI i) (fun _ => 0) (vals) (fun _ => 0) (fun _ => 0) (fun _ => 0) (fun _ => 0) (fun _ => 0) (fun _ => 0) (fun _ => 0) (fun _ => 0) (fun _ => 0) (fun _ => 0) (fun _ => 0) (fun _ => 0) (fun _ => 0) (fun _ => 0) (fun _ => 0) (fun _ => 0) (fun _ => 0) (fun _ => 0) (fun _ => 0) (fun _ => 0) (fun _ => 0) (fun _ => 0) (fun _ => 0) (fun _ => 0)) (fun i vals => ∀ j, j < i → vals j = -1) 96 (fun _ => 0) (fun j hj => absurd hj (by omega)) ?_ ?_
  · intro d vals h
    exact br_t (by decide) (k vals h)
  · intro d i vals hi h ih
    refine br_f (nI_ge (b := 96) hi (by decide)) ⟨vp_in_nI hi (by decide), nm_r (jn_up rfl (by omega)) (nm_r (nI_1 i) (ih _ fun j hj => ?_))⟩
    by_cases e : j = i
    · subst e; exact pk_us
    · rw [pk_un e]; exact h j (by omega)
theorem jn_cl (x : Int32) (lo hi : Nat) (h : lo ≤ hi) (hh : hi < 2 ^ 31) : ¬ nI lo ≤ x ∨ ¬ x ≤ nI hi ∨ ∃ j, lo ≤ j ∧ j ≤ hi ∧ x = nI j := by
  by_cases h1 : nI lo ≤ x
  · by_cases h2 : x ≤ nI hi
    · right; right
      have h0 : ¬ x < 0 := Int32.not_lt.mpr (Int32.le_trans (nI_pos' (by omega)) h1)
      obtain ⟨j, hj, rfl⟩ := nI_of h0
      rw [nI_leI (by omega) hj] at h1
      rw [nI_leI hj (by omega)] at h2
      exact ⟨j, h1, h2, rfl⟩
    · exact Or.inr (Or.inl h2)
  · exact Or.inl h1
theorem i_vc0 (k0 : Int32) (k1 : Int32) : wpX_init (fun u => wpY_init (fun v => i_Rel 2 u v) k0 k1) k0 k1 := by
  have fin : ∀ (n rl : Nat) (hx : 2 ≤ n ∧ n ≤ 6 ∧ 4 ≤ rl ∧ rl ≤ 12), (∀ (post : SX → Prop), (∀ vals, (∀ i, i < 96 → vals i = -1) → post (109, 81, nI n, nI rl, 0, 0, 0, 0, 0, 0, -1, fun _ => 0, vals, fun _ => 0, fun _ => 0, fun _ => 0, fun _ => 0, fun _ => 0, fun _ => 0, fun _ => 0, fun _ => 0, fun _ => 0, fun _ => 0, fun _ => 0, fun _ => 0, fun _ => 0, fun _ => 0, fun _ => 0, fun _ => 0, fun _ => 0, fun _ => 0, fun _ => 0, fun _ => 0, fun _ => 0, fun _ => 0, fun _ => 0, fun _ => 0)) → wpX_init post k0 k1) →
      (∀ (post : SY → Prop), post (nI n, nI rl, 0, 0, 0, 0, fun _ => 0, fun _ => 0, fun _ => 0, fun _ => 0, fun _ => 0, fun _ => 0, fun _ => 0, fun _ => 0, fun _ => 0, fun _ => 0, fun _ => 0, fun _ => 0, fun _ => 0, fun _ => 0) → wpY_init post k0 k1) → wpX_init (fun u => wpY_init (fun v => i_Rel 2 u v) k0 k1) k0 k1 := by
    intro n rl hx hX hY
    exact hX _ fun vals hv => hY _ (jz_init hx.1 hx.2.1 hx.2.2.1 hx.2.2.2 hv)
  have lim : ∀ (n : Nat), ∃ rl, 4 ≤ rl ∧ rl ≤ 12 ∧ (∀ post : SX → Prop, (∀ vals, (∀ i, i < 96 → vals i = -1) → post (109, 81, nI n, nI rl, 0, 0, 0, 0, 0, 0, -1, fun _ => 0, vals, fun _ => 0, fun _ => 0, fun _ => 0, fun _ => 0, fun _ => 0, fun _ => 0, fun _ => 0, fun _ => 0, fun _ => 0, fun _ => 0, fun _ => 0, fun _ => 0, fun _ => 0, fun _ => 0, fun _ => 0, fun _ => 0, fun _ => 0, fun _ => 0, fun _ => 0, fun _ => 0, fun _ => 0, fun _ => 0, fun _ => 0, fun _ => 0)) → wX_init_242 post k1 (nI n) (109) (81) (0) (0) (0) (0) (0) (0) (0) (0) (0) (fun _ => 0) (fun _ => 0) (fun _ => 0) (fun _ => 0) (fun _ => 0) (fun _ => 0) (fun _ => 0) (fun _ => 0) (fun _ => 0) (fun _ => 0) (fun _ => 0) (fun _ => 0) (fun _ => 0) (fun _ => 0) (fun _ => 0) (fun _ => 0) (fun _ => 0) (fun _ => 0) (fun _ => 0) (fun _ => 0) (fun _ => 0) (fun _ => 0) (fun _ => 0) (fun _ => 0) (fun _ => 0) (fun _ => 0)) ∧
      (∀ post : SY → Prop, post (nI n, nI rl, 0, 0, 0, 0, fun _ => 0, fun _ => 0, fun _ => 0, fun _ => 0, fun _ => 0, fun _ => 0, fun _ => 0, fun _ => 0, fun _ => 0, fun _ => 0, fun _ => 0, fun _ => 0, fun _ => 0, fun _ => 0) → wY_init_139 post k1 (nI n) (0) (0) (0) (0) (0) (0) (fun _ => 0) (fun _ => 0) (fun _ => 0) (fun _ => 0) (fun _ => 0) (fun _ => 0) (fun _ => 0) (fun _ => 0) (fun _ => 0) (fun _ => 0) (fun _ => 0) (fun _ => 0) (fun _ => 0) (fun _ => 0)) := by
    intro n
    rcases jn_cl k1 4 12 (by decide) (by decide) with h | h | ⟨j, j1, j2, e⟩
    · exact ⟨4, by decide, by decide, fun post hp => br_f h (jz_x277 (n := n) (rl := 4) hp), fun post hp => br_f h hp⟩
    · have h4 : (4 : Int32) ≤ k1 := by
        have h' : ¬ k1 ≤ (12 : Int32) := h
        exact Int32.le_trans (by decide) (Int32.le_of_lt (Int32.not_le.mp h'))
      exact ⟨12, by decide, by decide, fun post hp => br_t h4 (br_f h (jz_x277 (n := n) (rl := 12) hp)), fun post hp => br_t h4 (br_f h hp)⟩
    · subst e
      have a1 : (4 : Int32) ≤ nI j := nI_le (a := 4) j1 (by omega)
      have a2 : nI j ≤ (12 : Int32) := nI_le (b := 12) j2 (by decide)
      exact ⟨j, j1, j2, fun post hp => br_t a1 (br_t a2 (jz_x277 (n := n) (rl := j) hp)), fun post hp => br_t a1 (br_t a2 hp)⟩
  rcases jn_cl k0 2 6 (by decide) (by decide) with h | h | ⟨j, j1, j2, e⟩
  · obtain ⟨rl, r1, r2, rX, rY⟩ := lim 2
    exact fin 2 rl ⟨by decide, by decide, r1, r2⟩ (fun post hp => br_f h (rX post hp)) (fun post hp => br_f h (rY post hp))
  · obtain ⟨rl, r1, r2, rX, rY⟩ := lim 6
    have h2 : (2 : Int32) ≤ k0 := by
      have h' : ¬ k0 ≤ (6 : Int32) := h
      exact Int32.le_trans (by decide) (Int32.le_of_lt (Int32.not_le.mp h'))
    exact fin 6 rl ⟨by decide, by decide, r1, r2⟩ (fun post hp => br_t h2 (br_f h (rX post hp))) (fun post hp => br_t h2 (br_f h (rY post hp)))
  · subst e
    obtain ⟨rl, r1, r2, rX, rY⟩ := lim j
    have a1 : (2 : Int32) ≤ nI j := nI_le (a := 2) j1 (by omega)
    have a2 : nI j ≤ (6 : Int32) := nI_le (b := 6) j2 (by decide)
    exact fin j rl ⟨j1, j2, r1, r2⟩ (fun post hp => br_t a1 (br_t a2 (rX post hp))) (fun post hp => br_t a1 (br_t a2 (rY post hp)))
end
section
/-! ===== load, reset ===== -/
theorem jn_val {x : Int32} (h1 : ¬ x < -1) (h2 : ¬ 9 < x) : x = -1 ∨ ∃ k, k ≤ 9 ∧ x = nI k := by
  by_cases h0 : x < 0
  · left
    rw [Int32.lt_iff_toInt_lt] at h1 h0
    have e1 : (-1 : Int32).toInt = -1 := by decide
    have e0 : (0 : Int32).toInt = 0 := by decide
    apply Int32.toInt_inj.mp
    omega
  · obtain ⟨j, hj, rfl⟩ := nI_of h0
    have : ¬ nI 9 < nI j := h2
    rw [nI_ltI (by decide) hj] at this
    exact Or.inr ⟨j, by omega, rfl⟩
theorem jn_ix {x : Int32} {n : Nat} (hn : n < 2 ^ 31) (h0 : ¬ x < 0) (h1 : ¬ nI n ≤ x) : ∃ j, j < n ∧ x = nI j := by
  obtain ⟨j, hj, rfl⟩ := nI_of h0
  rw [nI_leI hn hj] at h1
  exact ⟨j, by omega, rfl⟩
theorem ja_sm_up {f : Nat → Nat} {r : Nat} : ∀ k, r < k → ja_sm (ja_up f r (f r + 1)) k = ja_sm f k + 1 := by
  intro k hr
  have : ja_sm (ja_up f r (f r + 1)) k = ja_sm (fun i => f i + (if i = r then 1 else 0)) k := by
    refine ja_sm_cg k fun i _ => ?_
    by_cases e : i = r
    · subst e; rw [ja_us, if_pos rfl]
    · rw [ja_un e, if_neg e]; rfl
  rw [this, ja_sm_add, ja_sm_1 1 k hr]
theorem ja_sm_z {f : Nat → Nat} {n : Nat} (h : ∀ r, n ≤ r → f r = 0) : ∀ d, ja_sm f (n + d) = ja_sm f n := by
  intro d
  induction d with
  | zero => rfl
  | succ d ih =>
    show ja_sm f (n + d) + f (n + d) = _
    rw [h (n + d) (by omega), ih]
    rfl
theorem jz_VVl {rc : Nat → Nat} {v c : Nat → Int32} {r : Nat} {x y : Int32} (hV : jr_VV rc v c) (hr : r < 6) (h4 : ∀ r, rc r ≤ 4) (hc : rc r < 4) (hx : x = -1 ∨ ∃ k, k ≤ 9 ∧ x = nI k) (hy : y = -1 ∨ ∃ k, k ≤ 9 ∧ y = nI k) :
    jr_VV (ja_up rc r (rc r + 1)) (upd (upd v (r * 16 + (rc r + 1)) x) (r * 16 + 8 + (rc r + 1)) y) (upd (upd c (r * 8 + rc r) x) (r * 8 + 4 + rc r) y) := by
  intro a ha d hd
  have h4' := h4 (a / 2)
  by_cases e : a / 2 = r
  · rw [e, ja_us] at hd
    by_cases ed : d = rc r + 1
    · subst ed
      rcases Nat.mod_two_eq_zero_or_one a with w | w
      · have ea : a = 2 * r := by omega
        subst ea
        rw [pk_un (show 2 * r * 8 + (rc r + 1) ≠ r * 16 + 8 + (rc r + 1) by omega), show 2 * r * 8 + (rc r + 1) = r * 16 + (rc r + 1) from by omega, pk_us, pk_un (show 2 * r * 4 + (rc r + 1) - 1 ≠ r * 8 + 4 + rc r by omega), show 2 * r * 4 + (rc r + 1) - 1 = r * 8 + rc r from by omega, pk_us]
        exact ⟨hx, fun z => absurd z (by omega), fun _ => rfl⟩
      · have ea : a = 2 * r + 1 := by omega
        subst ea
        rw [show (2 * r + 1) * 8 + (rc r + 1) = r * 16 + 8 + (rc r + 1) from by omega, pk_us, show (2 * r + 1) * 4 + (rc r + 1) - 1 = r * 8 + 4 + rc r from by omega, pk_us]
        exact ⟨hy, fun z => absurd z (by omega), fun _ => rfl⟩
    · have := hV a ha d (by rw [e]; omega)
      rw [pk_un (show a * 8 + d ≠ r * 16 + 8 + (rc r + 1) by omega), pk_un (show a * 8 + d ≠ r * 16 + (rc r + 1) by omega)]
      refine ⟨this.1, this.2.1, fun z => ?_⟩
      rw [pk_un (show a * 4 + d - 1 ≠ r * 8 + 4 + rc r by omega), pk_un (show a * 4 + d - 1 ≠ r * 8 + rc r by omega)]
      exact this.2.2 z
  · rw [ja_un e] at hd
    have := hV a ha d hd
    rw [pk_un (show a * 8 + d ≠ r * 16 + 8 + (rc r + 1) by omega), pk_un (show a * 8 + d ≠ r * 16 + (rc r + 1) by omega)]
    refine ⟨this.1, this.2.1, fun z => ?_⟩
    rw [pk_un (show a * 4 + d - 1 ≠ r * 8 + 4 + rc r by omega), pk_un (show a * 4 + d - 1 ≠ r * 8 + rc r by omega)]
    exact this.2.2 z
section
variable {g_n g_rowLimit g_entries g_ops g_optimised g_hasResult : Int32} {b_cells b_rowCount b_entrySet b_entryVisible b_estimates b_operators b_sides b_inPlan b_least b_ways b_root b_rootLeft b_found b_foundCount : Nat → Int32}
theorem jy_load0 {post : Int32 → SY → Prop} {n : Nat} {rc : Nat → Nat} {v1 v2 v3 : Int32} (hn : n ≤ 6) (en : g_n = nI n) (hrc : ∀ r, b_rowCount r = nI (rc r)) (hz : ∀ r, n ≤ r → rc r = 0)
    (k : ∀ d, wY_load_6 post v1 v2 v3 g_n g_rowLimit g_entries g_ops g_optimised g_hasResult b_cells b_rowCount b_entrySet b_entryVisible b_estimates b_operators b_sides b_inPlan b_least b_ways b_root b_rootLeft b_found b_foundCount (d + 1) (nI (ja_sm rc 6)) (nI n)) : wpY_load post (g_n, g_rowLimit, g_entries, g_ops, g_optimised, g_hasResult, b_cells, b_rowCount, b_entrySet, b_entryVisible, b_estimates, b_operators, b_sides, b_inPlan, b_least, b_ways, b_root, b_rootLeft, b_found, b_foundCount) v1 v2 v3 := by
  have e6 : ja_sm rc 6 = ja_sm rc n := by
    have := ja_sm_z hz (6 - n)
    rw [show n + (6 - n) = 6 from by omega] at this
    exact this
  rw [e6] at k
  refine loop_0 (fun d i x => wY_load_6 post v1 v2 v3 g_n g_rowLimit g_entries g_ops g_optimised g_hasResult b_cells b_rowCount b_entrySet b_entryVisible b_estimates b_operators b_sides b_inPlan b_least b_ways b_root b_rootLeft b_found b_foundCount d x (nI i)) (fun i x => x = nI (ja_sm rc i)) n 0 rfl ?_ ?_
  · rintro d x rfl
    exact k d
  · rintro d i x hi rfl ih
    refine br_f (by rw [en]; exact nI_ge hi (by omega)) ⟨vp_in_nI (by omega) (by decide), nm_r (e' := nI (ja_sm rc (i + 1))) ?_ (nm_r (nI_1 i) (ih _ rfl))⟩
    rw [nI_clamp (by omega), hrc, nI_add]
    rfl
end
theorem i_vc_load {k : Nat} {u : SX} {v : SY} (I : i_Rel k u v) (hk : k + 5 ≤ 2562) (v1 : Int32) (v2 : Int32) (v3 : Int32) : wpX_load (fun r u' => wpY_load (fun r' v' => r' = r ∧ i_Rel (k + 5) u' v') v v1 v2 v3) u v1 v2 v3 := by
  refine jz_el (P := fun u v => wpX_load (fun r u' => wpY_load (fun r' v' => r' = r ∧ i_Rel (k + 5) u' v') v v1 v2 v3) u v1 v2 v3) ?_ I
  intro f_nullKey f_maxRows f_n f_rowLimit f_rowTotal f_entryCount f_usedRels f_opCount f_optimised f_initialCost f_resultRows a_rowCount a_values a_entryRels a_entryVisible a_estimates a_opKind a_opLeftAttrs a_opRightAttrs a_opDivisor a_opLeftRels a_opRightRels a_sideSet a_eligible a_opsIn a_bestCost a_planCount a_rootOf a_leftPart a_nodeAt a_slotRows a_slotCount a_keys a_grouped a_groupStart a_groupHit a_result g_n g_rowLimit g_entries g_ops g_optimised g_hasResult b_cells b_rowCount b_entrySet b_entryVisible b_estimates b_operators b_sides b_inPlan b_least b_ways b_root b_rootLeft b_found b_foundCount n rl rc e m U E V la ra s kd dv est h1 h2 h3 h4 h5
  have R := jz_mk (f_nullKey := f_nullKey) (f_maxRows := f_maxRows) (f_n := f_n) (f_rowLimit := f_rowLimit) (f_rowTotal := f_rowTotal) (f_entryCount := f_entryCount) (f_usedRels := f_usedRels) (f_opCount := f_opCount) (f_optimised := f_optimised) (f_initialCost := f_initialCost) (f_resultRows := f_resultRows) (a_rowCount := a_rowCount) (a_values := a_values) (a_entryRels := a_entryRels) (a_entryVisible := a_entryVisible) (a_estimates := a_estimates) (a_opKind := a_opKind) (a_opLeftAttrs := a_opLeftAttrs) (a_opRightAttrs := a_opRightAttrs) (a_opDivisor := a_opDivisor) (a_opLeftRels := a_opLeftRels) (a_opRightRels := a_opRightRels) (a_sideSet := a_sideSet) (a_eligible := a_eligible) (a_opsIn := a_opsIn) (a_bestCost := a_bestCost) (a_planCount := a_planCount) (a_rootOf := a_rootOf) (a_leftPart := a_leftPart) (a_nodeAt := a_nodeAt) (a_slotRows := a_slotRows) (a_slotCount := a_slotCount) (a_keys := a_keys) (a_grouped := a_grouped) (a_groupStart := a_groupStart) (a_groupHit := a_groupHit) (a_result := a_result) (g_n := g_n) (g_rowLimit := g_rowLimit) (g_entries := g_entries) (g_ops := g_ops) (g_optimised := g_optimised) (g_hasResult := g_hasResult) (b_cells := b_cells) (b_rowCount := b_rowCount) (b_entrySet := b_entrySet) (b_entryVisible := b_entryVisible) (b_estimates := b_estimates) (b_operators := b_operators) (b_sides := b_sides) (b_inPlan := b_inPlan) (b_least := b_least) (b_ways := b_ways) (b_root := b_root) (b_rootLeft := b_rootLeft) (b_found := b_found) (b_foundCount := b_foundCount) (k := k + 5) h1 h2 h3 h4 h5
  obtain ⟨e1, e2, n2, n6, e3, e4, r4, r12⟩ := h1
  obtain ⟨b1, b2, b3, b4, b5, b6, b7⟩ := h2
  have Y0 : ∀ (r : Int32) (u' : SX), (∀ d, wY_load_6 (fun r' v' => r' = r ∧ i_Rel (k + 5) u' v') v1 v2 v3 g_n g_rowLimit g_entries g_ops g_optimised g_hasResult b_cells b_rowCount b_entrySet b_entryVisible b_estimates b_operators b_sides b_inPlan b_least b_ways b_root b_rootLeft b_found b_foundCount (d + 1) (nI (ja_sm rc 6)) (nI n)) → wpY_load (fun r' v' => r' = r ∧ i_Rel (k + 5) u' v') (g_n, g_rowLimit, g_entries, g_ops, g_optimised, g_hasResult, b_cells, b_rowCount, b_entrySet, b_entryVisible, b_estimates, b_operators, b_sides, b_inPlan, b_least, b_ways, b_root, b_rootLeft, b_found, b_foundCount) v1 v2 v3 := fun r u' h => jy_load0 n6 e2 b4 b6 h
  have gn : g_n ≤ nI n := by rw [e2]; exact nI_le (Nat.le_refl _) (by omega)
  by_cases c1 : v1 < 0
  · exact br_t c1 (Y0 _ _ fun d => br_t gn (br_t c1 ⟨rfl, R⟩))
  by_cases c2 : nI n ≤ v1
  · exact br_f c1 (br_t (by rw [e1]; exact c2) (Y0 _ _ fun d => br_t gn (br_f c1 (br_t (by rw [e2]; exact c2) ⟨rfl, R⟩))))
  have c2x : ¬ f_n ≤ v1 := by rw [e1]; exact c2
  have c2y : ¬ g_n ≤ v1 := by rw [e2]; exact c2
  by_cases c3 : v2 < -1
  · exact br_f c1 (br_f c2x (br_t c3 (Y0 _ _ fun d => br_t gn (br_f c1 (br_f c2y (br_t c3 ⟨rfl, R⟩))))))
  by_cases c4 : 9 < v2
  · exact br_f c1 (br_f c2x (br_f c3 (br_t c4 (Y0 _ _ fun d => br_t gn (br_f c1 (br_f c2y (br_f c3 (br_t c4 ⟨rfl, R⟩))))))))
  by_cases c5 : v3 < -1
  · exact br_f c1 (br_f c2x (br_f c3 (br_f c4 (br_t c5 (Y0 _ _ fun d => br_t gn (br_f c1 (br_f c2y (br_f c3 (br_f c4 (br_t c5 ⟨rfl, R⟩))))))))))
  by_cases c6 : v3 ≤ 9
  · obtain ⟨r, hr, rfl⟩ := jn_ix (by omega) c1 c2
    have hv6 : vp_in (nI r) 6 := vp_in_nI (by omega) (by decide)
    have ea : a_rowCount (nI r).toNatClampNeg = nI (rc r) := (jn_at rfl (by omega)).trans (b3 r)
    have eb : b_rowCount (nI r).toNatClampNeg = nI (rc r) := (jn_at rfl (by omega)).trans (b4 r)
    have h4r := b5 r
    by_cases c7 : 4 ≤ rc r
    · have c7' : (4 : Int32) ≤ nI (rc r) := nI_le (a := 4) c7 (by omega)
      exact br_f c1 (br_f c2x (br_f c3 (br_f c4 (br_f c5 (br_t c6 ⟨hv6, br_t (by rw [ea]; exact c7') (Y0 _ _ fun d => br_t gn (br_f c1 (br_f c2y (br_f c3 (br_f c4 (br_f c5 (br_t c6 ⟨hv6, br_t (by rw [eb]; exact c7') ⟨rfl, R⟩⟩)))))))⟩)))))
    have c7' : ¬ (4 : Int32) ≤ nI (rc r) := nI_ge (b := 4) (by omega) (by decide)
    by_cases c8 : ja_sm rc 6 < rl
    · have c8' : nI (ja_sm rc 6) < nI rl := nI_lt c8 (by omega)
      have ei : nI r * 16 + nI (rc r + 1) = nI (r * 16 + (rc r + 1)) := jn_ma r 16 _
      have ei8 : nI r * 16 + 8 + nI (rc r + 1) = nI (r * 16 + 8 + (rc r + 1)) := by
        rw [show nI r * 16 + 8 = nI (r * 16 + 8) from jn_ma r 16 8, nI_add]
      have ej : nI r * 8 + nI (rc r) = nI (r * 8 + rc r) := jn_ma r 8 _
      have ej4 : nI r * 8 + 4 + nI (rc r) = nI (r * 8 + 4 + rc r) := by
        rw [show nI r * 8 + 4 = nI (r * 8 + 4) from jn_ma r 8 4, nI_add]
      have ra1 : upd a_rowCount (nI r).toNatClampNeg (a_rowCount (nI r).toNatClampNeg + 1) = upd a_rowCount r (nI (rc r + 1)) := by rw [ea, nI_1, nI_clamp (by omega)]
      have rb1 : upd b_rowCount (nI r).toNatClampNeg (b_rowCount (nI r).toNatClampNeg + 1) = upd b_rowCount r (nI (rc r + 1)) := by rw [eb, nI_1, nI_clamp (by omega)]
      refine br_f c1 (br_f c2x (br_f c3 (br_f c4 (br_f c5 (br_t c6 ⟨hv6, br_f (by rw [ea]; exact c7') (br_t (by rw [b1, e3]; exact c8') ⟨hv6, hv6, nm_r ra1 (nm_r (e' := nI (ja_sm rc 6 + 1)) (by rw [b1]; exact nI_1 _) ⟨hv6, nm_r (e' := nI (rc r + 1)) ((jn_at rfl (by omega)).trans pk_us) ?_⟩)⟩)⟩)))))
      refine ⟨by rw [ei]; exact vp_in_nI (by omega) (by decide), nm_r (jn_up ei (by omega)) ⟨by rw [ei8]; exact vp_in_nI (by omega) (by decide), nm_r (jn_up ei8 (by omega)) ?_⟩⟩
      refine Y0 _ _ fun d => br_t gn (br_f c1 (br_f c2y (br_f c3 (br_f c4 (br_f c5 (br_t c6 ⟨hv6, br_f (by rw [eb]; exact c7') (br_t (by rw [e4]; exact c8') ?_)⟩))))))
      refine ⟨hv6, by rw [eb, ej]; exact vp_in_nI (by omega) (by decide), nm_r (e' := upd b_cells (r * 8 + rc r) v2) (by rw [eb]; exact jn_up ej (by omega)) ⟨hv6, by rw [eb, ej4]; exact vp_in_nI (by omega) (by decide), nm_r (e' := upd (upd b_cells (r * 8 + rc r) v2) (r * 8 + 4 + rc r) v3) (by rw [eb]; exact jn_up ej4 (by omega)) ⟨hv6, hv6, nm_r rb1 ⟨hv6, ?_⟩⟩⟩⟩
      refine ⟨(jn_at rfl (by omega)).trans pk_us, ?_⟩
      have hy : v3 = -1 ∨ ∃ k, k ≤ 9 ∧ v3 = nI k := jn_val c5 (Int32.not_lt.mpr c6)
      have h6 : ja_sm (ja_up rc r (rc r + 1)) 6 = ja_sm rc 6 + 1 := ja_sm_up 6 (by omega)
      refine jz_mk (n := n) (rl := rl) (rc := ja_up rc r (rc r + 1)) ⟨e1, e2, n2, n6, e3, e4, r4, r12⟩ ⟨by rw [h6], by omega, ja_upI b3 _ _, ja_upI b4 _ _, ?_, ?_, jz_VVl b7 (by omega) b5 (by omega) (jn_val c3 c4) hy⟩ h3 h4 (Or.inl ⟨rfl, rfl⟩)
      · intro q
        by_cases eq : q = r
        · subst eq; rw [ja_us]; omega
        · rw [ja_un eq]; exact b5 q
      · intro q hq
        rw [ja_un (by omega)]
        exact b6 q hq
    · have c8' : ¬ nI (ja_sm rc 6) < nI rl := nI_nlt (by omega) (by omega)
      exact br_f c1 (br_f c2x (br_f c3 (br_f c4 (br_f c5 (br_t c6 ⟨hv6, br_f (by rw [ea]; exact c7') (br_f (by rw [b1, e3]; exact c8') (Y0 _ _ fun d => br_t gn (br_f c1 (br_f c2y (br_f c3 (br_f c4 (br_f c5 (br_t c6 ⟨hv6, br_f (by rw [eb]; exact c7') (br_f (by rw [e4]; exact c8') ⟨rfl, R⟩)⟩))))))))⟩)))))
  · exact br_f c1 (br_f c2x (br_f c3 (br_f c4 (br_f c5 (br_f c6 (Y0 _ _ fun d => br_t gn (br_f c1 (br_f c2y (br_f c3 (br_f c4 (br_f c5 (br_f c6 ⟨rfl, R⟩))))))))))))
theorem i_vc_reset {k : Nat} {u : SX} {v : SY} (I : i_Rel k u v) (hk : k + 5 ≤ 2562) (v1 : Int32) : wpX_reset (fun r u' => wpY_reset (fun r' v' => r' = r ∧ i_Rel (k + 5) u' v') v v1) u v1 := by
  refine jz_el (P := fun u v => wpX_reset (fun r u' => wpY_reset (fun r' v' => r' = r ∧ i_Rel (k + 5) u' v') v v1) u v1) ?_ I
  intro f_nullKey f_maxRows f_n f_rowLimit f_rowTotal f_entryCount f_usedRels f_opCount f_optimised f_initialCost f_resultRows a_rowCount a_values a_entryRels a_entryVisible a_estimates a_opKind a_opLeftAttrs a_opRightAttrs a_opDivisor a_opLeftRels a_opRightRels a_sideSet a_eligible a_opsIn a_bestCost a_planCount a_rootOf a_leftPart a_nodeAt a_slotRows a_slotCount a_keys a_grouped a_groupStart a_groupHit a_result g_n g_rowLimit g_entries g_ops g_optimised g_hasResult b_cells b_rowCount b_entrySet b_entryVisible b_estimates b_operators b_sides b_inPlan b_least b_ways b_root b_rootLeft b_found b_foundCount n rl rc e m U E V la ra s kd dv est h1 h2 h3 h4 h5
  have R := jz_mk (f_nullKey := f_nullKey) (f_maxRows := f_maxRows) (f_n := f_n) (f_rowLimit := f_rowLimit) (f_rowTotal := f_rowTotal) (f_entryCount := f_entryCount) (f_usedRels := f_usedRels) (f_opCount := f_opCount) (f_optimised := f_optimised) (f_initialCost := f_initialCost) (f_resultRows := f_resultRows) (a_rowCount := a_rowCount) (a_values := a_values) (a_entryRels := a_entryRels) (a_entryVisible := a_entryVisible) (a_estimates := a_estimates) (a_opKind := a_opKind) (a_opLeftAttrs := a_opLeftAttrs) (a_opRightAttrs := a_opRightAttrs) (a_opDivisor := a_opDivisor) (a_opLeftRels := a_opLeftRels) (a_opRightRels := a_opRightRels) (a_sideSet := a_sideSet) (a_eligible := a_eligible) (a_opsIn := a_opsIn) (a_bestCost := a_bestCost) (a_planCount := a_planCount) (a_rootOf := a_rootOf) (a_leftPart := a_leftPart) (a_nodeAt := a_nodeAt) (a_slotRows := a_slotRows) (a_slotCount := a_slotCount) (a_keys := a_keys) (a_grouped := a_grouped) (a_groupStart := a_groupStart) (a_groupHit := a_groupHit) (a_result := a_result) (g_n := g_n) (g_rowLimit := g_rowLimit) (g_entries := g_entries) (g_ops := g_ops) (g_optimised := g_optimised) (g_hasResult := g_hasResult) (b_cells := b_cells) (b_rowCount := b_rowCount) (b_entrySet := b_entrySet) (b_entryVisible := b_entryVisible) (b_estimates := b_estimates) (b_operators := b_operators) (b_sides := b_sides) (b_inPlan := b_inPlan) (b_least := b_least) (b_ways := b_ways) (b_root := b_root) (b_rootLeft := b_rootLeft) (b_found := b_found) (b_foundCount := b_foundCount) (k := k + 5) h1 h2 h3 h4 h5
  have h1' := h1
  obtain ⟨e1, e2, n2, n6, e3, e4, r4, r12⟩ := h1
  obtain ⟨b1, b2, b3, b4, b5, b6, b7⟩ := h2
  by_cases c0 : v1 = 0
  · subst c0
    refine br_t rfl (br_t rfl ?_)
    refine loop_0 (fun d i x => wX_clearRows_7 _ f_nullKey f_maxRows f_n f_rowLimit (0) f_entryCount f_usedRels f_opCount f_optimised f_initialCost (-1) d (nI i) (x) a_values a_entryRels a_entryVisible a_estimates a_opKind a_opLeftAttrs a_opRightAttrs a_opDivisor a_opLeftRels a_opRightRels a_sideSet a_eligible a_opsIn a_bestCost a_planCount a_rootOf a_leftPart a_nodeAt a_slotRows a_slotCount a_keys a_grouped a_groupStart a_groupHit a_result) (fun i x => ∀ r, (r < i → x r = 0) ∧ (¬ r < i → x r = nI (rc r))) 6 a_rowCount (fun r => ⟨fun z => absurd z (by omega), fun _ => b3 r⟩) ?_ ?_
    · intro d x hx
      refine br_t (by decide) (br_t rfl ?_)
      refine loop_0 (fun d i y => wY_reset_19 _ 0 g_n g_rowLimit g_entries g_ops g_optimised (0) d (nI i) b_cells (y) b_entrySet b_entryVisible b_estimates b_operators b_sides b_inPlan b_least b_ways b_root b_rootLeft b_found b_foundCount) (fun i y => ∀ r, (r < i → y r = 0) ∧ (¬ r < i → y r = nI (rc r))) n b_rowCount (fun r => ⟨fun z => absurd z (by omega), fun _ => b4 r⟩) ?_ ?_
      · intro d y hy
        refine br_t rfl (br_t (by rw [e2]; exact nI_le (Nat.le_refl _) (by omega)) (br_f (by decide) ⟨rfl, ?_⟩))
        refine jz_mk (n := n) (rl := rl) (rc := fun _ => 0) h1' ⟨by rw [ja_sm_0]; rfl, by rw [ja_sm_0]; omega, ?_, ?_, fun _ => Nat.zero_le _, fun _ _ => rfl, jz_VV0 (fun _ => rfl) fun a ha => ?_⟩ h3 h4 (Or.inl ⟨rfl, rfl⟩)
        · intro r
          by_cases z : r < 6
          · exact (hx r).1 z
          · rw [(hx r).2 z, b6 r (by omega)]
        · intro r
          by_cases z : r < n
          · exact (hy r).1 z
          · rw [(hy r).2 z, b6 r (by omega)]
        · exact ((b7 a ha 0 (Nat.zero_le _)).2.1 rfl)
      · intro d i y hi hy ih
        refine br_t rfl (br_f (by rw [e2]; exact nI_ge hi (by omega)) ⟨vp_in_nI (by omega) (by decide), nm_r (jn_up rfl (by omega)) (nm_r (nI_1 i) (ih _ fun r => ?_))⟩)
        by_cases z : r = i
        · subst z; exact ⟨fun _ => pk_us, fun y => absurd y (by omega)⟩
        · rw [pk_un z]
          exact ⟨fun w => (hy r).1 (by omega), fun w => (hy r).2 (by omega)⟩
    · intro d i x hi hx ih
      refine br_f (nI_ge (b := 6) hi (by decide)) ⟨vp_in_nI (by omega) (by decide), nm_r (jn_up rfl (by omega)) (nm_r (nI_1 i) (ih _ fun r => ?_))⟩
      by_cases z : r = i
      · subst z; exact ⟨fun _ => pk_us, fun y => absurd y (by omega)⟩
      · rw [pk_un z]
        exact ⟨fun w => (hx r).1 (by omega), fun w => (hx r).2 (by omega)⟩
  · by_cases c1 : v1 = 1
    · subst c1
      refine br_f c0 (br_t rfl (br_f c0 ?_))
      obtain ⟨a1, a2, a3, a4, a5, a6, a7, a8, a9⟩ := h3
      refine loop_0 (fun d i x => wX_clearTree_22 _ f_nullKey f_maxRows f_n f_rowLimit f_rowTotal (0) (0) (0) (0) f_initialCost (-1) d (nI i) a_rowCount a_values a_entryRels a_entryVisible (x) a_opKind a_opLeftAttrs a_opRightAttrs a_opDivisor a_opLeftRels a_opRightRels a_sideSet a_eligible a_opsIn a_bestCost a_planCount a_rootOf a_leftPart a_nodeAt a_slotRows a_slotCount a_keys a_grouped a_groupStart a_groupHit a_result) (fun _ _ => True) 6 a_estimates trivial ?_ ?_
      · intro d x _
        refine br_t (by decide) (br_f c0 (br_t rfl ⟨1, br_f c0 (br_t rfl ⟨rfl, ?_⟩)⟩))
        exact jz_mk (n := n) (rl := rl) (rc := rc) (e := 0) (m := 0) (U := 0) (E := E) (V := V) (la := la) (ra := ra) (s := s) (kd := kd) (dv := dv) (est := est) h1' ⟨b1, b2, b3, b4, b5, b6, b7⟩ ⟨⟨rfl, rfl, rfl, rfl, rfl⟩, a2, a3, a4, a5, a6, fun r hr => absurd hr ja_n0, fun i hi => absurd hi (by omega), jf_0 _ _ _ _ _ n6⟩ ⟨rfl, Or.inl rfl⟩ (Or.inl ⟨rfl, rfl⟩)
      · intro d i x hi _ ih
        exact br_f (nI_ge (b := 6) hi (by decide)) ⟨vp_in_nI (by omega) (by decide), nm_e (nm_r (nI_1 i) (ih _ trivial))⟩
    · exact br_f c0 (br_f c1 (br_f c0 (br_f c1 ⟨rfl, R⟩)))
end
section
/-! ===== leaf ===== -/
section
variable {g_n g_rowLimit g_entries g_ops g_optimised g_hasResult : Int32} {b_cells b_rowCount b_entrySet b_entryVisible b_estimates b_operators b_sides b_inPlan b_least b_ways b_root b_rootLeft b_found b_foundCount : Nat → Int32}
theorem jy_isLeaf {post : Int32 → Prop} {e U r : Nat} {E V : Nat → Nat} (he : e ≤ 6) (hr : r < 6) (ee : g_entries = nI e) (eE : ∀ i, b_entrySet i = nI (E i)) (hE : ∀ i, E i < 64) (F2 : jf_F2 e U E V)
    (k1 : U.testBit r = true → post 1) (k0 : ¬ U.testBit r = true → post 0) : wpY_isLeaf post (g_n, g_rowLimit, g_entries, g_ops, g_optimised, g_hasResult, b_cells, b_rowCount, b_entrySet, b_entryVisible, b_estimates, b_operators, b_sides, b_inPlan, b_least, b_ways, b_root, b_rootLeft, b_found, b_foundCount) (nI r) := by
  refine loop_0 (fun d i (_ : Unit) => wY_isLeaf_2 post (nI r) g_n g_rowLimit g_entries g_ops g_optimised g_hasResult b_cells b_rowCount b_entrySet b_entryVisible b_estimates b_operators b_sides b_inPlan b_least b_ways b_root b_rootLeft b_found b_foundCount d (nI i)) (fun i _ => ∀ j, j < i → ¬ (E j).testBit r = true) e () (fun j hj => absurd hj (by omega)) ?_ ?_
  · intro d _ h
    refine br_t (by rw [ee]; exact nI_le (Nat.le_refl _) (by omega)) (k0 fun z => ?_)
    obtain ⟨j, hj, hb⟩ := F2.2.2.1 r z
    exact h j hj hb
  · intro d i _ hi h ih
    have hEi := hE i
    refine br_f (by rw [ee]; exact nI_ge hi (by omega)) ⟨vp_in_nI (by omega) (by decide), ?_⟩
    rw [nI_clamp (n := i) (by omega), eE]
    refine ek_if (ja_b1 (by omega) (by omega)) (fun hb => k1 ((F2.1 i hi).2 r hb)) (fun hb => nm_r (nI_1 i) (ih () fun j hj => ?_))
    by_cases z : j = i
    · subst z; exact hb
    · exact h j (by omega)
end
theorem jn_3s : ∀ p, p < 6 → (3 : Int32) <<< ((2 * nI p) &&& 31) = nI (3 * 4 ^ p) := by decide +kernel
theorem jz_Q0 {U U' : Nat} {fo rr : Int32} {ar : Nat → Int32} {gh : Int32} {bf bc : Nat → Int32} (h : jz_Q U fo rr ar gh bf bc) (h0 : fo = 0) : jz_Q U' fo rr ar gh bf bc := by
  rcases h with h | ⟨_, h, _⟩
  · exact Or.inl h
  · rw [h0] at h
    exact absurd h (by decide)
theorem i_vc_leaf {k : Nat} {u : SX} {v : SY} (I : i_Rel k u v) (hk : k + 5 ≤ 2562) (v1 : Int32) (v2 : Int32) : wpX_leaf (fun r u' => wpY_leaf (fun r' v' => r' = r ∧ i_Rel (k + 5) u' v') v v1 v2) u v1 v2 := by
  refine jz_el (P := fun u v => wpX_leaf (fun r u' => wpY_leaf (fun r' v' => r' = r ∧ i_Rel (k + 5) u' v') v v1 v2) u v1 v2) ?_ I
  intro f_nullKey f_maxRows f_n f_rowLimit f_rowTotal f_entryCount f_usedRels f_opCount f_optimised f_initialCost f_resultRows a_rowCount a_values a_entryRels a_entryVisible a_estimates a_opKind a_opLeftAttrs a_opRightAttrs a_opDivisor a_opLeftRels a_opRightRels a_sideSet a_eligible a_opsIn a_bestCost a_planCount a_rootOf a_leftPart a_nodeAt a_slotRows a_slotCount a_keys a_grouped a_groupStart a_groupHit a_result g_n g_rowLimit g_entries g_ops g_optimised g_hasResult b_cells b_rowCount b_entrySet b_entryVisible b_estimates b_operators b_sides b_inPlan b_least b_ways b_root b_rootLeft b_found b_foundCount n rl rc e m U E V la ra s kd dv est h1 h2 h3 h4 h5
  have R := jz_mk (f_nullKey := f_nullKey) (f_maxRows := f_maxRows) (f_n := f_n) (f_rowLimit := f_rowLimit) (f_rowTotal := f_rowTotal) (f_entryCount := f_entryCount) (f_usedRels := f_usedRels) (f_opCount := f_opCount) (f_optimised := f_optimised) (f_initialCost := f_initialCost) (f_resultRows := f_resultRows) (a_rowCount := a_rowCount) (a_values := a_values) (a_entryRels := a_entryRels) (a_entryVisible := a_entryVisible) (a_estimates := a_estimates) (a_opKind := a_opKind) (a_opLeftAttrs := a_opLeftAttrs) (a_opRightAttrs := a_opRightAttrs) (a_opDivisor := a_opDivisor) (a_opLeftRels := a_opLeftRels) (a_opRightRels := a_opRightRels) (a_sideSet := a_sideSet) (a_eligible := a_eligible) (a_opsIn := a_opsIn) (a_bestCost := a_bestCost) (a_planCount := a_planCount) (a_rootOf := a_rootOf) (a_leftPart := a_leftPart) (a_nodeAt := a_nodeAt) (a_slotRows := a_slotRows) (a_slotCount := a_slotCount) (a_keys := a_keys) (a_grouped := a_grouped) (a_groupStart := a_groupStart) (a_groupHit := a_groupHit) (a_result := a_result) (g_n := g_n) (g_rowLimit := g_rowLimit) (g_entries := g_entries) (g_ops := g_ops) (g_optimised := g_optimised) (g_hasResult := g_hasResult) (b_cells := b_cells) (b_rowCount := b_rowCount) (b_entrySet := b_entrySet) (b_entryVisible := b_entryVisible) (b_estimates := b_estimates) (b_operators := b_operators) (b_sides := b_sides) (b_inPlan := b_inPlan) (b_least := b_least) (b_ways := b_ways) (b_root := b_root) (b_rootLeft := b_rootLeft) (b_found := b_found) (b_foundCount := b_foundCount) (k := k + 5) h1 h2 h3 h4 h5
  have h1' := h1
  obtain ⟨e1, e2, n2, n6, e3, e4, r4, r12⟩ := h1
  by_cases c0 : f_optimised = 0
  · have c0y : g_optimised = 0 := h4.1.trans c0
    by_cases c1 : v1 < 0
    · exact br_t c0 (br_t c1 (br_t c0y (br_t c1 ⟨rfl, R⟩)))
    by_cases c2 : nI n ≤ v1
    · exact br_t c0 (br_f c1 (br_t (by rw [e1]; exact c2) (br_t c0y (br_f c1 (br_t (by rw [e2]; exact c2) ⟨rfl, R⟩)))))
    have c2x : ¬ f_n ≤ v1 := by rw [e1]; exact c2
    have c2y : ¬ g_n ≤ v1 := by rw [e2]; exact c2
    by_cases c3 : v2 < 1
    · exact br_t c0 (br_f c1 (br_f c2x (br_t c3 (br_t c0y (br_f c1 (br_f c2y (br_t c3 ⟨rfl, R⟩)))))))
    by_cases c4 : v2 ≤ 20
    · obtain ⟨p, hp, rfl⟩ := jn_ix (by omega) c1 c2
      have c4y : ¬ 20 < v2 := Int32.not_lt.mpr c4
      obtain ⟨a1, a2, a3, a4, a5, a6, a7, a8, a9⟩ := h3
      have hU64 : U < 64 := Nat.lt_of_lt_of_le a9.1.2.1 (Nat.pow_le_pow_right (by decide) n6)
      have hpc := a9.1.2.2
      have h66 := ja_pc_6 hU64
      have hp6 : vp_in (nI p) 6 := vp_in_nI (by omega) (by decide)
      by_cases c5 : U.testBit p = true
      · refine br_t c0 (br_f c1 (br_f c2x (br_f c3 (br_t c4 (br_f ?_ (br_t c0y (br_f c1 (br_f c2y (br_f c3 (br_f c4y (jy_isLeaf (U := U) (E := E) (V := V) (e := e) (by omega) (by omega) a1.2.1 a2.2.1 a2.2.2 a9.2.1 (fun _ => br_f (by decide) ⟨rfl, R⟩) (fun z => absurd c5 z))))))))))))
        rw [a1.2.2.1]
        exact fun z => (ja_b0 (by omega) (by omega)).mp z c5
      · obtain ⟨x, hx1, hx2, hxe⟩ : ∃ x, 1 ≤ x ∧ x ≤ 20 ∧ v2 = nI x := by
          rcases jn_cl v2 1 20 (by decide) (by decide) with h | h | h
          · exact absurd (Int32.not_lt.mp c3) h
          · exact absurd c4 h
          · exact h
        subst hxe
        have hd : ja_dj U (2 ^ p) := fun i x y => c5 (by rw [ja_m2.mp y]; exact x)
        have hpc' : ja_pc (U ||| 2 ^ p) = ja_pc U + 1 := by rw [ja_pc_or hd, ja_pc_p p (by omega)]
        have h66' := ja_pc_6 (a := U ||| 2 ^ p) (Nat.or_lt_two_pow (n := 6) hU64 (ja_p64 p (by omega)).1)
        have he6x : vp_in f_entryCount 6 := by rw [a1.1]; exact vp_in_nI (by omega) (by decide)
        have he6y : vp_in g_entries 6 := by rw [a1.2.1]; exact vp_in_nI (by omega) (by decide)
        refine br_t c0 (br_f c1 (br_f c2x (br_f c3 (br_t c4 (br_t ?_ (nm_r (e' := nI (U ||| 2 ^ p)) ?_ ⟨hp6, nm_r (e' := upd a_estimates p (nI x)) (jn_up rfl (by omega)) ⟨he6x, nm_r (e' := upd a_entryRels e (nI (2 ^ p))) ?_ ⟨he6x, nm_r (e' := upd a_entryVisible e (nI (3 * 4 ^ p))) ?_ (nm_r (e' := nI (e + 1)) ?_ ?_)⟩⟩⟩))))))
        · rw [a1.2.2.1]
          exact (ja_b0 (by omega) (by omega)).mpr c5
        · rw [a1.2.2.1, ja_sh p (by omega), ja_or]
        · rw [ja_sh p (by omega)]
          exact jn_up a1.1 (by omega)
        · rw [jn_3s p (by omega)]
          exact jn_up a1.1 (by omega)
        · rw [a1.1]
          exact nI_1 e
        · refine br_t c0y (br_f c1 (br_f c2y (br_f c3 (br_f c4y (jy_isLeaf (U := U) (E := E) (V := V) (e := e) (by omega) (by omega) a1.2.1 a2.2.1 a2.2.2 a9.2.1 (fun z => absurd z c5) (fun _ => br_t rfl ?_))))))
          refine ⟨hp6, nm_r (e' := upd b_estimates p (nI x)) (jn_up rfl (by omega)) ⟨he6y, nm_r (e' := upd b_entrySet e (nI (2 ^ p))) ?_ ⟨he6y, nm_r (e' := upd b_entryVisible e (nI (3 * 4 ^ p))) ?_ (nm_r (e' := nI (e + 1)) ?_ ⟨rfl, ?_⟩)⟩⟩⟩
          · rw [ja_sh p (by omega)]
            exact jn_up a1.2.1 (by omega)
          · rw [jn_3s p (by omega)]
            exact jn_up a1.2.1 (by omega)
          · rw [a1.2.1]
            exact nI_1 e
          · refine jz_mk (n := n) (rl := rl) (rc := rc) (e := e + 1) (m := m) (U := U ||| 2 ^ p) (E := ja_up E e (2 ^ p)) (V := ja_up V e (3 * 4 ^ p)) (la := la) (ra := ra) (s := s) (kd := kd) (dv := dv) (est := ja_up est p x) h1' h2
              ⟨⟨rfl, rfl, rfl, a1.2.2.2.1, a1.2.2.2.2⟩, ⟨ja_upI a2.1 _ _, ja_upI a2.2.1 _ _, ?_⟩, ⟨ja_upI a3.1 _ _, ja_upI a3.2 _ _⟩, a4, a5, a6, ?_, a8, jf_leaf a9 hp c5⟩ ⟨h4.1, Or.inl c0⟩ (jz_Q0 h5 c0)
            · intro i
              by_cases z : i = e
              · subst z; rw [ja_us]; exact (ja_p64 p (by omega)).1
              · rw [ja_un z]; exact a2.2.2 i
            · intro r hr
              by_cases z : r = p
              · subst z
                rw [pk_us, pk_us, ja_us]
                exact ⟨rfl, rfl, hx1, hx2⟩
              · rw [pk_un z, pk_un z, ja_un z]
                refine a7 r ((ja_mo.mp hr).elim id fun w => ?_)
                exact absurd (ja_m2.mp w).symm z
    · exact br_t c0 (br_f c1 (br_f c2x (br_f c3 (br_f c4 (br_t c0y (br_f c1 (br_f c2y (br_f c3 (br_t (Int32.not_le.mp c4) ⟨rfl, R⟩)))))))))
  · have c0y : ¬ g_optimised = 0 := fun z => c0 (h4.1.symm.trans z)
    exact br_f c0 (br_f c0y ⟨rfl, R⟩)
end
section
/-! ===== join ===== -/
theorem jn_of32 (x : Int32) : ∃ a, a < 2 ^ 32 ∧ x = nI a := by
  refine ⟨x.toBitVec.toNat, x.toBitVec.isLt, ?_⟩
  apply Int32.toBitVec_inj.1
  show x.toBitVec = BitVec.ofNat 32 x.toBitVec.toNat
  simp
theorem jn_sub {a b : Nat} (ha : a < 2 ^ 32) (h : (nI a &&& (nI b ^^^ (-1))) = 0) : ja_sub a b := by
  rw [ja_an b ha] at h
  have hl : ja_sd a b < 2 ^ 32 := Nat.lt_of_le_of_lt (ja_sd_le a b) ha
  have := pk_tn hl
  rw [h] at this
  exact ja_sd0.mp this.symm
theorem jn_att {x : Int32} {V : Nat} (hV : ∀ a, V.testBit a = true → a < 12) (h : (x &&& (nI V ^^^ (-1))) = 0) : ∃ a, a < 4096 ∧ x = nI a ∧ ja_sub a V := by
  obtain ⟨a, ha, rfl⟩ := jn_of32 x
  have hs := jn_sub ha h
  refine ⟨a, ?_, rfl, hs⟩
  show a < 2 ^ 12
  apply Nat.lt_pow_two_of_testBit
  intro i hi
  cases z : a.testBit i
  · rfl
  · have := hV i (hs i z)
    omega
theorem jz_lr {la : Nat → Nat} {m x : Nat} {f : Nat → Int32} (h : ∀ i, f i = nI (jp_lr la i)) : ∀ i, upd f m (nI (jf_ro x)) i = nI (jp_lr (ja_up la m x) i) := by
  intro i
  unfold jp_lr
  by_cases e : i = m
  · subst e; rw [pk_us, ja_us]
  · rw [pk_un e, ja_un e, h i]
    rfl
/-- the reference's four fields of an operator -/
theorem jz_op {f : Nat → Int32} {m x0 x1 x2 x3 : Nat} {kd la ra dv : Nat → Nat} (h : (∀ i, f (i * 4) = nI (kd i)) ∧ (∀ i, f (i * 4 + 1) = nI (la i)) ∧ (∀ i, f (i * 4 + 2) = nI (ra i)) ∧ (∀ i, f (i * 4 + 3) = nI (dv i))) :
    (∀ i, upd (upd (upd (upd f (m * 4) (nI x0)) (m * 4 + 3) (nI x3)) (m * 4 + 1) (nI x1)) (m * 4 + 2) (nI x2) (i * 4) = nI (ja_up kd m x0 i)) ∧
    (∀ i, upd (upd (upd (upd f (m * 4) (nI x0)) (m * 4 + 3) (nI x3)) (m * 4 + 1) (nI x1)) (m * 4 + 2) (nI x2) (i * 4 + 1) = nI (ja_up la m x1 i)) ∧
    (∀ i, upd (upd (upd (upd f (m * 4) (nI x0)) (m * 4 + 3) (nI x3)) (m * 4 + 1) (nI x1)) (m * 4 + 2) (nI x2) (i * 4 + 2) = nI (ja_up ra m x2 i)) ∧
    (∀ i, upd (upd (upd (upd f (m * 4) (nI x0)) (m * 4 + 3) (nI x3)) (m * 4 + 1) (nI x1)) (m * 4 + 2) (nI x2) (i * 4 + 3) = nI (ja_up dv m x3 i)) := by
  obtain ⟨h0, h1, h2, h3⟩ := h
  refine ⟨fun i => ?_, fun i => ?_, fun i => ?_, fun i => ?_⟩
  · rw [pk_un (by omega), pk_un (by omega), pk_un (by omega)]
    by_cases e : i = m
    · subst e; rw [pk_us, ja_us]
    · rw [pk_un (by omega), ja_un e, h0]
  · rw [pk_un (by omega)]
    by_cases e : i = m
    · subst e; rw [pk_us, ja_us]
    · rw [pk_un (by omega), pk_un (by omega), pk_un (by omega), ja_un e, h1]
  · by_cases e : i = m
    · subst e; rw [pk_us, ja_us]
    · rw [pk_un (by omega), pk_un (by omega), pk_un (by omega), pk_un (by omega), ja_un e, h2]
  · rw [pk_un (by omega), pk_un (by omega)]
    by_cases e : i = m
    · subst e; rw [pk_us, ja_us]
    · rw [pk_un (by omega), pk_un (by omega), ja_un e, h3]
section
variable {f_nullKey f_maxRows f_n f_rowLimit f_rowTotal f_entryCount f_usedRels f_opCount f_optimised f_initialCost f_resultRows : Int32} {a_rowCount a_values a_entryRels a_entryVisible a_estimates a_opKind a_opLeftAttrs a_opRightAttrs a_opDivisor a_opLeftRels a_opRightRels a_sideSet a_eligible a_opsIn a_bestCost a_planCount a_rootOf a_leftPart a_nodeAt a_slotRows a_slotCount a_keys a_grouped a_groupStart a_groupHit a_result : Nat → Int32}
variable {g_n g_rowLimit g_entries g_ops g_optimised g_hasResult : Int32} {b_cells b_rowCount b_entrySet b_entryVisible b_estimates b_operators b_sides b_inPlan b_least b_ways b_root b_rootLeft b_found b_foundCount : Nat → Int32}
/-- the tree part of the relation after a join -/
theorem jz_j3 {n e m U x0 x1 x2 x3 v' : Nat} {E V la ra s kd dv est : Nat → Nat} {eva evb : Nat → Int32} (h3 : jz_A3 n (e + 2) m U E V la ra s kd dv est f_entryCount f_usedRels f_opCount a_entryRels a_entryVisible a_estimates a_opKind a_opLeftAttrs a_opRightAttrs a_opDivisor a_opLeftRels a_opRightRels a_sideSet g_entries g_ops b_entrySet b_entryVisible b_estimates b_operators b_sides)
    (k0 : x0 < 10) (k3 : 1 ≤ x3 ∧ x3 ≤ 20) (l0 : x1 ≠ 0) (ls : ja_sub x1 (V e)) (r0 : x2 ≠ 0) (rs : ja_sub x2 (V (e + 1))) (hv : ∀ a, v'.testBit a = true → (V e).testBit a = true ∨ (V (e + 1)).testBit a = true)
    (eva' : ∀ i, eva i = nI (ja_up V e v' i)) (evb' : ∀ i, evb i = nI (ja_up V e v' i)) :
    jz_A3 n (e + 1) (m + 1) U (ja_up E e (E e ||| E (e + 1))) (ja_up V e v') (ja_up la m x1) (ja_up ra m x2) (ja_up (ja_up s (2 * m) (E e)) (2 * m + 1) (E (e + 1))) (ja_up kd m x0) (ja_up dv m x3) est (nI (e + 1)) f_usedRels (nI (m + 1))
      (upd a_entryRels e (nI (E e ||| E (e + 1)))) eva a_estimates (upd a_opKind m (nI x0)) (upd a_opLeftAttrs m (nI x1)) (upd a_opRightAttrs m (nI x2)) (upd a_opDivisor m (nI x3)) (upd a_opLeftRels m (nI (jf_ro x1))) (upd a_opRightRels m (nI (jf_ro x2))) (upd (upd a_sideSet (2 * m) (nI (E e))) (2 * m + 1) (nI (E (e + 1))))
      (nI (e + 1)) (nI (m + 1)) (upd b_entrySet e (nI (E e ||| E (e + 1)))) evb b_estimates (upd (upd (upd (upd b_operators (m * 4) (nI x0)) (m * 4 + 3) (nI x3)) (m * 4 + 1) (nI x1)) (m * 4 + 2) (nI x2)) (upd (upd b_sides (2 * m) (nI (E e))) (2 * m + 1) (nI (E (e + 1)))) := by
  obtain ⟨a1, a2, a3, a4, a5, a6, a7, a8, a9⟩ := h3
  refine ⟨⟨rfl, rfl, a1.2.2.1, rfl, rfl⟩, ⟨ja_upI a2.1 _ _, ja_upI a2.2.1 _ _, ?_⟩, ⟨eva', evb'⟩, ⟨ja_upI a4.1 _ _, ja_upI a4.2.1 _ _, ja_upI a4.2.2.1 _ _, ja_upI a4.2.2.2.1 _ _, jz_lr a4.2.2.2.2.1, jz_lr a4.2.2.2.2.2⟩, jz_op a5, ⟨ja_upI (ja_upI a6.1 _ _) _ _, ja_upI (ja_upI a6.2 _ _) _ _⟩, a7, ?_, ?_⟩
  · intro i
    by_cases z : i = e
    · subst z; rw [ja_us]; exact Nat.or_lt_two_pow (n := 6) (a2.2.2 _) (a2.2.2 _)
    · rw [ja_un z]; exact a2.2.2 i
  · intro i hi
    by_cases z : i = m
    · subst z; rw [ja_us, ja_us]; exact ⟨k0, k3⟩
    · rw [ja_un z, ja_un z]; exact a8 i (by omega)
  · refine jf_join (la' := x1) (ra' := x2) (v' := v') a9 l0 ls r0 rs hv (fun j hj => ja_un (by omega)) ja_us (fun j hj => ja_un (by omega)) ja_us (fun j hj => ja_un (by omega)) ja_us (fun j hj => ja_un (by omega)) ja_us (fun i hi => ?_) ?_ ja_us
    · rw [ja_un (by omega), ja_un (by omega)]
    · rw [ja_un (by omega), ja_us]
end
theorem i_vc_join {k : Nat} {u : SX} {v : SY} (I : i_Rel k u v) (hk : k + 5 ≤ 2562) (v1 : Int32) (v2 : Int32) (v3 : Int32) (v4 : Int32) : wpX_join (fun r u' => wpY_join (fun r' v' => r' = r ∧ i_Rel (k + 5) u' v') v v1 v2 v3 v4) u v1 v2 v3 v4 := by
  refine jz_el (P := fun u v => wpX_join (fun r u' => wpY_join (fun r' v' => r' = r ∧ i_Rel (k + 5) u' v') v v1 v2 v3 v4) u v1 v2 v3 v4) ?_ I
  intro f_nullKey f_maxRows f_n f_rowLimit f_rowTotal f_entryCount f_usedRels f_opCount f_optimised f_initialCost f_resultRows a_rowCount a_values a_entryRels a_entryVisible a_estimates a_opKind a_opLeftAttrs a_opRightAttrs a_opDivisor a_opLeftRels a_opRightRels a_sideSet a_eligible a_opsIn a_bestCost a_planCount a_rootOf a_leftPart a_nodeAt a_slotRows a_slotCount a_keys a_grouped a_groupStart a_groupHit a_result g_n g_rowLimit g_entries g_ops g_optimised g_hasResult b_cells b_rowCount b_entrySet b_entryVisible b_estimates b_operators b_sides b_inPlan b_least b_ways b_root b_rootLeft b_found b_foundCount n rl rc e0 m U E V la ra s kd dv est h1 h2 h3 h4 h5
  have R := jz_mk (f_nullKey := f_nullKey) (f_maxRows := f_maxRows) (f_n := f_n) (f_rowLimit := f_rowLimit) (f_rowTotal := f_rowTotal) (f_entryCount := f_entryCount) (f_usedRels := f_usedRels) (f_opCount := f_opCount) (f_optimised := f_optimised) (f_initialCost := f_initialCost) (f_resultRows := f_resultRows) (a_rowCount := a_rowCount) (a_values := a_values) (a_entryRels := a_entryRels) (a_entryVisible := a_entryVisible) (a_estimates := a_estimates) (a_opKind := a_opKind) (a_opLeftAttrs := a_opLeftAttrs) (a_opRightAttrs := a_opRightAttrs) (a_opDivisor := a_opDivisor) (a_opLeftRels := a_opLeftRels) (a_opRightRels := a_opRightRels) (a_sideSet := a_sideSet) (a_eligible := a_eligible) (a_opsIn := a_opsIn) (a_bestCost := a_bestCost) (a_planCount := a_planCount) (a_rootOf := a_rootOf) (a_leftPart := a_leftPart) (a_nodeAt := a_nodeAt) (a_slotRows := a_slotRows) (a_slotCount := a_slotCount) (a_keys := a_keys) (a_grouped := a_grouped) (a_groupStart := a_groupStart) (a_groupHit := a_groupHit) (a_result := a_result) (g_n := g_n) (g_rowLimit := g_rowLimit) (g_entries := g_entries) (g_ops := g_ops) (g_optimised := g_optimised) (g_hasResult := g_hasResult) (b_cells := b_cells) (b_rowCount := b_rowCount) (b_entrySet := b_entrySet) (b_entryVisible := b_entryVisible) (b_estimates := b_estimates) (b_operators := b_operators) (b_sides := b_sides) (b_inPlan := b_inPlan) (b_least := b_least) (b_ways := b_ways) (b_root := b_root) (b_rootLeft := b_rootLeft) (b_found := b_found) (b_foundCount := b_foundCount) (k := k + 5) h1 h2 h3 h4 h5
  by_cases c0 : f_optimised = 0
  case neg =>
    have c0y : ¬ g_optimised = 0 := fun z => c0 (h4.1.symm.trans z)
    exact br_f c0 (br_f c0y ⟨rfl, R⟩)
  have c0y : g_optimised = 0 := h4.1.trans c0
  have ex := h3.1.1
  have ey := h3.1.2.1
  have n6 := h1.2.2.2.1
  have hU64 : U < 64 := Nat.lt_of_lt_of_le h3.2.2.2.2.2.2.2.2.1.2.1 (Nat.pow_le_pow_right (by decide) n6)
  have hpc := h3.2.2.2.2.2.2.2.2.1.2.2
  have h66 := ja_pc_6 hU64
  by_cases c1 : e0 < 2
  · have c1x : nI e0 < 2 := nI_lt (b := 2) c1 (by decide)
    exact br_t c0 (br_t (by rw [ex]; exact c1x) (br_t c0y (br_t (by rw [ey]; exact c1x) ⟨rfl, R⟩)))
  have c1' : ¬ nI e0 < 2 := nI_nlt (b := 2) (by omega) (by omega)
  have c1x : ¬ f_entryCount < 2 := by rw [ex]; exact c1'
  have c1y : ¬ g_entries < 2 := by rw [ey]; exact c1'
  by_cases c2 : v1 < 0
  · exact br_t c0 (br_f c1x (br_t c2 (br_t c0y (br_f c1y (br_t c2 ⟨rfl, R⟩)))))
  by_cases c3 : 9 < v1
  · exact br_t c0 (br_f c1x (br_f c2 (br_t c3 (br_t c0y (br_f c1y (br_f c2 (br_t c3 ⟨rfl, R⟩)))))))
  by_cases c4 : v4 < 1
  · exact br_t c0 (br_f c1x (br_f c2 (br_f c3 (br_t c4 (br_t c0y (br_f c1y (br_f c2 (br_f c3 (br_t c4 ⟨rfl, R⟩)))))))))
  by_cases c5 : v4 ≤ 20
  case neg => exact br_t c0 (br_f c1x (br_f c2 (br_f c3 (br_f c4 (br_f c5 (br_t c0y (br_f c1y (br_f c2 (br_f c3 (br_f c4 (br_f c5 ⟨rfl, R⟩)))))))))))
  obtain ⟨e, rfl⟩ : ∃ e, e0 = e + 2 := ⟨e0 - 2, by omega⟩
  have x5 : f_entryCount - 2 = nI e := by rw [ex]; exact pk_sub (b := 2) (by omega)
  have x6 : f_entryCount - 1 = nI (e + 1) := by rw [ex]; exact pk_sub (b := 1) (by omega)
  have y5 : g_entries - 2 = nI e := by rw [ey]; exact pk_sub (b := 2) (by omega)
  have y6 : g_entries - 1 = nI (e + 1) := by rw [ey]; exact pk_sub (b := 1) (by omega)
  have hv5 : vp_in (nI e) 6 := vp_in_nI (by omega) (by decide)
  have hv6 : vp_in (nI (e + 1)) 6 := vp_in_nI (by omega) (by decide)
  by_cases c6 : v2 = 0
  · exact br_t c0 (br_f c1x (br_f c2 (br_f c3 (br_f c4 (br_t c5 (nm_r x5 (nm_r x6 (br_t c6 (br_t c0y (br_f c1y (br_f c2 (br_f c3 (br_f c4 (br_t c5 (nm_r y5 (nm_r y6 (br_t c6 ⟨rfl, R⟩)))))))))))))))))
  have vx5 : a_entryVisible (nI e).toNatClampNeg = nI (V e) := (jn_at rfl (by omega)).trans (h3.2.2.1.1 e)
  have vx6 : a_entryVisible (nI (e + 1)).toNatClampNeg = nI (V (e + 1)) := (jn_at rfl (by omega)).trans (h3.2.2.1.1 (e + 1))
  have vy5 : b_entryVisible (nI e).toNatClampNeg = nI (V e) := (jn_at rfl (by omega)).trans (h3.2.2.1.2 e)
  have vy6 : b_entryVisible (nI (e + 1)).toNatClampNeg = nI (V (e + 1)) := (jn_at rfl (by omega)).trans (h3.2.2.1.2 (e + 1))
  by_cases c7 : (v2 &&& (nI (V e) ^^^ (-1))) = 0
  case neg =>
    exact br_t c0 (br_f c1x (br_f c2 (br_f c3 (br_f c4 (br_t c5 (nm_r x5 (nm_r x6 (br_f c6 ⟨hv5, br_f (by rw [vx5]; exact c7) (br_t c0y (br_f c1y (br_f c2 (br_f c3 (br_f c4 (br_t c5 (nm_r y5 (nm_r y6 (br_f c6 ⟨hv5, br_f (by rw [vy5]; exact c7) ⟨rfl, R⟩⟩)))))))))⟩))))))))
  have c7x : (v2 &&& (a_entryVisible (nI e).toNatClampNeg ^^^ (-1))) = 0 := by rw [vx5]; exact c7
  have c7y : (v2 &&& (b_entryVisible (nI e).toNatClampNeg ^^^ (-1))) = 0 := by rw [vy5]; exact c7
  by_cases c8 : v3 = 0
  · exact br_t c0 (br_f c1x (br_f c2 (br_f c3 (br_f c4 (br_t c5 (nm_r x5 (nm_r x6 (br_f c6 ⟨hv5, br_t c7x (br_t c8 (br_t c0y (br_f c1y (br_f c2 (br_f c3 (br_f c4 (br_t c5 (nm_r y5 (nm_r y6 (br_f c6 ⟨hv5, br_t c7y (br_t c8 ⟨rfl, R⟩)⟩))))))))))⟩))))))))
  by_cases c9 : (v3 &&& (nI (V (e + 1)) ^^^ (-1))) = 0
  case neg =>
    exact br_t c0 (br_f c1x (br_f c2 (br_f c3 (br_f c4 (br_t c5 (nm_r x5 (nm_r x6 (br_f c6 ⟨hv5, br_t c7x (br_f c8 ⟨hv6, br_f (by rw [vx6]; exact c9) (br_t c0y (br_f c1y (br_f c2 (br_f c3 (br_f c4 (br_t c5 (nm_r y5 (nm_r y6 (br_f c6 ⟨hv5, br_t c7y (br_f c8 ⟨hv6, br_f (by rw [vy6]; exact c9) ⟨rfl, R⟩⟩)⟩)))))))))⟩)⟩))))))))
  have c9x : (v3 &&& (a_entryVisible (nI (e + 1)).toNatClampNeg ^^^ (-1))) = 0 := by rw [vx6]; exact c9
  have c9y : (v3 &&& (b_entryVisible (nI (e + 1)).toNatClampNeg ^^^ (-1))) = 0 := by rw [vy6]; exact c9
  -- the operator is taken
  have F2 := h3.2.2.2.2.2.2.2.2.2.1
  obtain ⟨x1, x1b, rfl, x1s⟩ := jn_att (fun a ha => (F2.2.2.2 e (by omega) a ha).1) c7
  obtain ⟨x2, x2b, rfl, x2s⟩ := jn_att (fun a ha => (F2.2.2.2 (e + 1) (by omega) a ha).1) c9
  have x1n : x1 ≠ 0 := fun z => c6 (by rw [z]; rfl)
  have x2n : x2 ≠ 0 := fun z => c8 (by rw [z]; rfl)
  obtain ⟨x0, x0b, rfl⟩ : ∃ x0, x0 < 10 ∧ v1 = nI x0 := by
    rcases jn_cl v1 0 9 (by decide) (by decide) with h | h | ⟨j, _, h, e⟩
    · exact absurd (Int32.not_lt.mp c2) h
    · exact absurd (Int32.not_lt.mp c3) h
    · exact ⟨j, by omega, e⟩
  obtain ⟨x3, x3a, x3b, rfl⟩ : ∃ x3, 1 ≤ x3 ∧ x3 ≤ 20 ∧ v4 = nI x3 := by
    rcases jn_cl v4 1 20 (by decide) (by decide) with h | h | h
    · exact absurd (Int32.not_lt.mp c4) h
    · exact absurd c5 h
    · exact h
  have em := h3.1.2.2.2.1
  have gm := h3.1.2.2.2.2
  have hvm : vp_in f_opCount 5 := by rw [em]; exact vp_in_nI (by omega) (by decide)
  have m2 : nI m * 2 = nI (2 * m) := by rw [show nI m * 2 = nI (m * 2) from pk_mul m 2, Nat.mul_comm]
  have fx2 : f_opCount * 2 = nI (2 * m) := by rw [em]; exact m2
  have fx21 : f_opCount * 2 + 1 = nI (2 * m + 1) := by rw [fx2]; exact nI_1 _
  have gx2 : g_ops * 2 = nI (2 * m) := by rw [gm]; exact m2
  have gx21 : g_ops * 2 + 1 = nI (2 * m + 1) := by rw [gx2]; exact nI_1 _
  have g4 : g_ops * 4 = nI (m * 4) := by rw [gm]; exact pk_mul m 4
  have g41 : g_ops * 4 + 1 = nI (m * 4 + 1) := by rw [g4]; exact nI_1 _
  have g42 : g_ops * 4 + 2 = nI (m * 4 + 2) := by rw [g4]; exact nI_add _ 2
  have g43 : g_ops * 4 + 3 = nI (m * 4 + 3) := by rw [g4]; exact nI_add _ 3
  have rx5 : a_entryRels (nI e).toNatClampNeg = nI (E e) := (jn_at rfl (by omega)).trans (h3.2.1.1 e)
  have rx6 : a_entryRels (nI (e + 1)).toNatClampNeg = nI (E (e + 1)) := (jn_at rfl (by omega)).trans (h3.2.1.1 (e + 1))
  have ry5 : b_entrySet (nI e).toNatClampNeg = nI (E e) := (jn_at rfl (by omega)).trans (h3.2.1.2.1 e)
  have ry6 : b_entrySet (nI (e + 1)).toNatClampNeg = nI (E (e + 1)) := (jn_at rfl (by omega)).trans (h3.2.1.2.1 (e + 1))
  have x0m : nI x0 - nI x0 / 5 * 5 = nI (x0 % 5) := jn_r5 x0b
  have x05 : x0 % 5 < 5 := Nat.mod_lt _ (by decide)
  refine br_t c0 (br_f c1x (br_f c2 (br_f c3 (br_f c4 (br_t c5 (nm_r x5 (nm_r x6 (br_f c6 ⟨hv5, br_t c7x (br_f c8 ⟨hv6, br_t c9x ?_⟩)⟩))))))))
  refine ⟨hvm, nm_r (e' := upd a_opKind m (nI x0)) (jn_up em (by omega)) ⟨hvm, nm_r (e' := upd a_opLeftAttrs m (nI x1)) (jn_up em (by omega)) ⟨hvm, nm_r (e' := upd a_opRightAttrs m (nI x2)) (jn_up em (by omega)) ⟨hvm, nm_r (e' := upd a_opDivisor m (nI x3)) (jn_up em (by omega)) ?_⟩⟩⟩⟩
  refine jx_rel (by omega) ⟨hvm, nm_r (e' := upd a_opLeftRels m (nI (jf_ro x1))) (jn_up em (by omega)) (jx_rel (by omega) ⟨hvm, nm_r (e' := upd a_opRightRels m (nI (jf_ro x2))) (jn_up em (by omega)) ?_⟩)⟩
  refine ⟨hv5, by rw [fx2]; exact vp_in_nI (by omega) (by decide), nm_r (e' := upd a_sideSet (2 * m) (nI (E e))) (by rw [rx5]; exact jn_up fx2 (by omega)) ⟨hv6, by rw [fx21]; exact vp_in_nI (by omega) (by decide), nm_r (e' := upd (upd a_sideSet (2 * m) (nI (E e))) (2 * m + 1) (nI (E (e + 1)))) (by rw [rx6]; exact jn_up fx21 (by omega)) ?_⟩⟩
  refine nm_r (e' := nI (m + 1)) (by rw [em]; exact nI_1 m) ⟨hv5, hv6, hv5, nm_r (e' := upd a_entryRels e (nI (E e ||| E (e + 1)))) (by rw [rx5, rx6, ja_or]; exact jn_up rfl (by omega)) ⟨by decide, ?_⟩⟩
  -- the reference's side, for either visible mask
  have Y : ∀ (r : Int32) (u' : SX) (v' : Nat) (evb : Nat → Int32), r = f_opCount → (2 < x0 % 5 → evb = b_entryVisible) → (¬ 2 < x0 % 5 → evb = upd b_entryVisible e (nI (V e ||| V (e + 1)))) →
      i_Rel (k + 5) u' (g_n, g_rowLimit, nI (e + 1), nI (m + 1), g_optimised, g_hasResult, b_cells, b_rowCount, upd b_entrySet e (nI (E e ||| E (e + 1))), evb, b_estimates, upd (upd (upd (upd b_operators (m * 4) (nI x0)) (m * 4 + 3) (nI x3)) (m * 4 + 1) (nI x1)) (m * 4 + 2) (nI x2), upd (upd b_sides (2 * m) (nI (E e))) (2 * m + 1) (nI (E (e + 1))), b_inPlan, b_least, b_ways, b_root, b_rootLeft, b_found, b_foundCount) →
      wpY_join (fun r' v' => r' = r ∧ i_Rel (k + 5) u' v') (g_n, g_rowLimit, g_entries, g_ops, g_optimised, g_hasResult, b_cells, b_rowCount, b_entrySet, b_entryVisible, b_estimates, b_operators, b_sides, b_inPlan, b_least, b_ways, b_root, b_rootLeft, b_found, b_foundCount) (nI x0) (nI x1) (nI x2) (nI x3) := by
    intro r u' v' evb er hb1 hb2 hR
    have fin : ∀ b, evb = b → wY_join_233 (fun r' v' => r' = r ∧ i_Rel (k + 5) u' v') g_n g_rowLimit g_entries g_ops g_optimised g_hasResult b_cells b_rowCount (upd b_entrySet e (nI (E e ||| E (e + 1)))) (b) b_estimates (upd (upd (upd (upd b_operators (m * 4) (nI x0)) (m * 4 + 3) (nI x3)) (m * 4 + 1) (nI x1)) (m * 4 + 2) (nI x2)) (upd (upd b_sides (2 * m) (nI (E e))) (2 * m + 1) (nI (E (e + 1)))) b_inPlan b_least b_ways b_root b_rootLeft b_found b_foundCount := by
      intro b hb
      subst hb
      refine nm_r (e' := nI (e + 1)) y6 (nm_r (e' := nI (m + 1)) (by rw [gm]; exact nI_1 m) ⟨?_, hR⟩)
      rw [er, em]
      exact pk_sub (b := 1) (by omega)
    refine br_t c0y (br_f c1y (br_f c2 (br_f c3 (br_f c4 (br_t c5 (nm_r y5 (nm_r y6 (br_f c6 ⟨hv5, br_t c7y (br_f c8 ⟨hv6, br_t c9y ?_⟩)⟩))))))))
    refine ⟨by rw [g4]; exact vp_in_nI (by omega) (by decide), nm_r (jn_up g4 (by omega)) ⟨by rw [g43]; exact vp_in_nI (by omega) (by decide), nm_r (jn_up g43 (by omega)) ⟨by rw [g41]; exact vp_in_nI (by omega) (by decide), nm_r (jn_up g41 (by omega)) ⟨by rw [g42]; exact vp_in_nI (by omega) (by decide), nm_r (jn_up g42 (by omega)) ?_⟩⟩⟩⟩
    refine ⟨hv5, by rw [gx2]; exact vp_in_nI (by omega) (by decide), nm_r (e' := upd b_sides (2 * m) (nI (E e))) (by rw [ry5]; exact jn_up gx2 (by omega)) ⟨hv6, by rw [gx21]; exact vp_in_nI (by omega) (by decide), nm_r (e' := upd (upd b_sides (2 * m) (nI (E e))) (2 * m + 1) (nI (E (e + 1)))) (by rw [ry6]; exact jn_up gx21 (by omega)) ?_⟩⟩
    refine ⟨hv5, hv6, hv5, nm_r (e' := upd b_entrySet e (nI (E e ||| E (e + 1)))) (by rw [ry5, ry6, ja_or]; exact jn_up rfl (by omega)) ⟨by decide, ?_⟩⟩
    rw [x0m]
    refine pk_lt 2 (x0 % 5) (fun z => fin _ (hb1 z)) (fun z => ⟨hv5, hv6, hv5, nm_r (e' := upd b_entryVisible e (nI (V e ||| V (e + 1)))) (by rw [vy5, vy6, ja_or]; exact jn_up rfl (by omega)) (fin _ (hb2 (by omega)))⟩)
  have hO : jz_O (e + 1) (m + 1) U (ja_up la m x1) (ja_up ra m x2) (ja_up (ja_up s (2 * m) (E e)) (2 * m + 1) (E (e + 1))) (ja_up dv m x3) est f_optimised f_initialCost a_bestCost a_planCount a_nodeAt g_optimised b_least b_ways := ⟨h4.1, Or.inl c0⟩
  have aV : ∀ i, a_entryVisible i = nI (ja_up V e (V e) i) := by
    intro i
    by_cases z : i = e
    · subst z; rw [ja_us]; exact h3.2.2.1.1 i
    · rw [ja_un z]; exact h3.2.2.1.1 i
  have bV : ∀ i, b_entryVisible i = nI (ja_up V e (V e) i) := by
    intro i
    by_cases z : i = e
    · subst z; rw [ja_us]; exact h3.2.2.1.2 i
    · rw [ja_un z]; exact h3.2.2.1.2 i
  rw [x0m]
  refine pk_lt 2 (x0 % 5) (fun z => ?_) (fun z => ⟨hv5, hv6, hv5, nm_r (e' := upd a_entryVisible e (nI (V e ||| V (e + 1)))) (by rw [vx5, vx6, ja_or]; exact jn_up rfl (by omega)) ?_⟩)
  · refine nm_r (e' := nI (e + 1)) x6 (Y _ _ (V e) b_entryVisible rfl (fun _ => rfl) (fun w => absurd z w) ?_)
    exact jz_mk h1 h2 (jz_j3 h3 x0b ⟨x3a, x3b⟩ x1n x1s x2n x2s (v' := V e) (fun a ha => Or.inl ha) aV bV) hO h5
  · refine nm_r (e' := nI (e + 1)) x6 (Y _ _ (V e ||| V (e + 1)) (upd b_entryVisible e (nI (V e ||| V (e + 1)))) rfl (fun w => absurd w (by omega)) (fun _ => rfl) ?_)
    exact jz_mk h1 h2 (jz_j3 h3 x0b ⟨x3a, x3b⟩ x1n x1s x2n x2s (v' := V e ||| V (e + 1)) (fun a ha => ja_mo.mp ha) (ja_upI h3.2.2.1.1 _ _) (ja_upI h3.2.2.1.2 _ _)) hO h5
end
section
/-! ===== optimise ===== -/
theorem jf_FR_cg {n e m U : Nat} {E V la ra s s' : Nat → Nat} (h : jf_FR n e m U E V la ra s) (hs : ∀ i, i < 2 * m → s' i = s i) : jf_FR n e m U E V la ra s' := by
  obtain ⟨h1, h2, h3, h4, h5, h6, h7, h8⟩ := h
  have es : ∀ i, i < m → jf_set s' i = jf_set s i := fun i hi => by unfold jf_set; rw [hs _ (by omega), hs _ (by omega)]
  have nd : ∀ T, jf_nd m s T → jf_nd m s' T := by
    rintro T (z | ⟨k, hk, z⟩)
    · exact Or.inl z
    · exact Or.inr ⟨k, hk, by rw [es k hk]; exact z⟩
  refine ⟨h1, h2, fun i hi => ?_, fun i j hi hj => ?_, fun i k hi hk => ?_, h6, fun j hj => nd _ (h7 j hj), fun i hi => ?_⟩
  · rw [hs _ (by omega), hs _ (by omega), es i hi]
    exact h3 i hi
  · rw [es i hi]
    exact h4 i j hi hj
  · rw [es i hi, es k hk, hs _ (by omega), hs _ (by omega)]
    exact h5 i k hi hk
  · rw [hs _ (by omega), hs _ (by omega)]
    exact ⟨nd _ (h8 i hi).1, nd _ (h8 i hi).2⟩
theorem jf_E0 {n m U : Nat} {E V la ra s : Nat → Nat} (h : jf_FR n 1 m U E V la ra s) : E 0 = U := by
  obtain ⟨_, ⟨a1, a2, a3, a4⟩, _⟩ := h
  refine ja_sub_anti (a1 0 (by omega)).2 ?_
  intro r hr
  obtain ⟨j, hj, z⟩ := a3 r hr
  have : j = 0 := by omega
  rw [this] at z
  exact z
theorem jf_at {m U : Nat} {la ra s : Nat → Nat} (h3 : jf_F3 m U la ra s) {n i : Nat} (hU : U < 2 ^ n) (hi : i < m) : la i < 2 ^ 31 ∧ ra i < 2 ^ 31 ∧ (∀ a, (la i).testBit a = true → a < 2 * n) ∧ (∀ a, (ra i).testBit a = true → a < 2 * n) := by
  obtain ⟨_, _, b3, b4, _, b6⟩ := h3 i hi
  have lt : ∀ x : Nat, (∀ a, x.testBit a = true → a < 12) → x < 2 ^ 31 := by
    intro x hx
    refine Nat.lt_of_lt_of_le (m := 2 ^ 12) ?_ (by decide)
    apply Nat.lt_pow_two_of_testBit
    intro i hi
    cases z : x.testBit i
    · rfl
    · have := hx i z
      omega
  refine ⟨lt _ fun a ha => (b3 a ha).1, lt _ fun a ha => (b4 a ha).1, fun a ha => ?_, fun a ha => ?_⟩
  · have := ja_bd hU (b6 _ (ja_mo.mpr (Or.inl (b3 a ha).2)))
    omega
  · have := ja_bd hU (b6 _ (ja_mo.mpr (Or.inr (b4 a ha).2)))
    omega
section
variable {f_nullKey f_maxRows f_n f_rowLimit f_rowTotal f_entryCount f_usedRels f_opCount f_optimised f_initialCost f_resultRows : Int32} {a_rowCount a_values a_entryRels a_entryVisible a_estimates a_opKind a_opLeftAttrs a_opRightAttrs a_opDivisor a_opLeftRels a_opRightRels a_sideSet a_eligible a_opsIn a_bestCost a_planCount a_rootOf a_leftPart a_nodeAt a_slotRows a_slotCount a_keys a_grouped a_groupStart a_groupHit a_result : Nat → Int32}
variable {g_n g_rowLimit g_entries g_ops g_optimised g_hasResult : Int32} {b_cells b_rowCount b_entrySet b_entryVisible b_estimates b_operators b_sides b_inPlan b_least b_ways b_root b_rootLeft b_found b_foundCount : Nat → Int32}
variable {n e m U rl : Nat} {E V la ra s kd dv est : Nat → Nat}
theorem jz_PX (h3 : jz_A3 n 1 m U E V la ra s kd dv est f_entryCount f_usedRels f_opCount a_entryRels a_entryVisible a_estimates a_opKind a_opLeftAttrs a_opRightAttrs a_opDivisor a_opLeftRels a_opRightRels a_sideSet g_entries g_ops b_entrySet b_entryVisible b_estimates b_operators b_sides) :
    jx_PE m U (jp_lr la) (jp_lr ra) dv est f_opCount a_opLeftRels a_opRightRels a_opDivisor a_estimates := by
  obtain ⟨a1, a2, a3, a4, a5, a6, a7, a8, a9⟩ := h3
  refine ⟨jp_of a9, a1.2.2.2.1, fun i hi => ⟨a4.2.2.2.2.1 i, a4.2.2.2.2.2 i, a4.2.2.2.1 i, jf_ro_lt _, jf_ro_lt _, (a8 i hi).2.1, (a8 i hi).2.2⟩, fun r hr => ⟨(a7 r hr).1, (a7 r hr).2.2⟩⟩
theorem jz_PY (hn : n ≤ 6) (en : g_n = nI n) (h3 : jz_A3 n 1 m U E V la ra s kd dv est f_entryCount f_usedRels f_opCount a_entryRels a_entryVisible a_estimates a_opKind a_opLeftAttrs a_opRightAttrs a_opDivisor a_opLeftRels a_opRightRels a_sideSet g_entries g_ops b_entrySet b_entryVisible b_estimates b_operators b_sides) :
    jy_PE n m U la ra dv est kd g_n g_ops b_operators b_estimates := by
  obtain ⟨a1, a2, a3, a4, a5, a6, a7, a8, a9⟩ := h3
  have hU := a9.1.2.1
  refine ⟨en, hn, hU, a1.2.2.2.2, jp_m5 (jp_of a9), fun i hi => ?_, fun r hr => ⟨(a7 r hr).2.1, (a7 r hr).2.2⟩⟩
  have at' := jf_at a9.2.2.1 hU hi
  exact ⟨a5.1 i, a5.2.1 i, a5.2.2.1 i, a5.2.2.2 i, at'.1, at'.2.1, (a8 i hi).2.1, (a8 i hi).2.2, (a8 i hi).1⟩
end
theorem i_vc_optimise {k : Nat} {u : SX} {v : SY} (I : i_Rel k u v) (hk : k + 5 ≤ 2562) : wpX_optimise (fun r u' => wpY_optimise (fun r' v' => r' = r ∧ i_Rel (k + 5) u' v') v) u := by
  refine jz_el (P := fun u v => wpX_optimise (fun r u' => wpY_optimise (fun r' v' => r' = r ∧ i_Rel (k + 5) u' v') v) u) ?_ I
  intro f_nullKey f_maxRows f_n f_rowLimit f_rowTotal f_entryCount f_usedRels f_opCount f_optimised f_initialCost f_resultRows a_rowCount a_values a_entryRels a_entryVisible a_estimates a_opKind a_opLeftAttrs a_opRightAttrs a_opDivisor a_opLeftRels a_opRightRels a_sideSet a_eligible a_opsIn a_bestCost a_planCount a_rootOf a_leftPart a_nodeAt a_slotRows a_slotCount a_keys a_grouped a_groupStart a_groupHit a_result g_n g_rowLimit g_entries g_ops g_optimised g_hasResult b_cells b_rowCount b_entrySet b_entryVisible b_estimates b_operators b_sides b_inPlan b_least b_ways b_root b_rootLeft b_found b_foundCount n rl rc e m U E V la ra s kd dv est h1 h2 h3 h4 h5
  have R := jz_mk (f_nullKey := f_nullKey) (f_maxRows := f_maxRows) (f_n := f_n) (f_rowLimit := f_rowLimit) (f_rowTotal := f_rowTotal) (f_entryCount := f_entryCount) (f_usedRels := f_usedRels) (f_opCount := f_opCount) (f_optimised := f_optimised) (f_initialCost := f_initialCost) (f_resultRows := f_resultRows) (a_rowCount := a_rowCount) (a_values := a_values) (a_entryRels := a_entryRels) (a_entryVisible := a_entryVisible) (a_estimates := a_estimates) (a_opKind := a_opKind) (a_opLeftAttrs := a_opLeftAttrs) (a_opRightAttrs := a_opRightAttrs) (a_opDivisor := a_opDivisor) (a_opLeftRels := a_opLeftRels) (a_opRightRels := a_opRightRels) (a_sideSet := a_sideSet) (a_eligible := a_eligible) (a_opsIn := a_opsIn) (a_bestCost := a_bestCost) (a_planCount := a_planCount) (a_rootOf := a_rootOf) (a_leftPart := a_leftPart) (a_nodeAt := a_nodeAt) (a_slotRows := a_slotRows) (a_slotCount := a_slotCount) (a_keys := a_keys) (a_grouped := a_grouped) (a_groupStart := a_groupStart) (a_groupHit := a_groupHit) (a_result := a_result) (g_n := g_n) (g_rowLimit := g_rowLimit) (g_entries := g_entries) (g_ops := g_ops) (g_optimised := g_optimised) (g_hasResult := g_hasResult) (b_cells := b_cells) (b_rowCount := b_rowCount) (b_entrySet := b_entrySet) (b_entryVisible := b_entryVisible) (b_estimates := b_estimates) (b_operators := b_operators) (b_sides := b_sides) (b_inPlan := b_inPlan) (b_least := b_least) (b_ways := b_ways) (b_root := b_root) (b_rootLeft := b_rootLeft) (b_found := b_found) (b_foundCount := b_foundCount) (k := k + 5) h1 h2 h3 h4 h5
  by_cases c0 : f_optimised = 0
  case neg =>
    have c0y : ¬ g_optimised = 0 := fun z => c0 (h4.1.symm.trans z)
    exact br_f c0 (br_f c0y ⟨rfl, R⟩)
  have c0y : g_optimised = 0 := h4.1.trans c0
  have ex := h3.1.1
  have ey := h3.1.2.1
  have hU64 : U < 64 := Nat.lt_of_lt_of_le h3.2.2.2.2.2.2.2.2.1.2.1 (Nat.pow_le_pow_right (by decide) h1.2.2.2.1)
  have hpc := h3.2.2.2.2.2.2.2.2.1.2.2
  have h66 := ja_pc_6 hU64
  by_cases c1 : e = 1
  case neg =>
    have c1' : ¬ nI e = 1 := fun z => c1 ((nI_eq (b := 1) (by omega) (by decide)).mp z)
    exact br_t c0 (br_f (by rw [ex]; exact c1') (br_t c0y (br_f (by rw [ey]; exact c1') ⟨rfl, R⟩)))
  subst c1
  have PX := jz_PX h3
  have PY := jz_PY (g_n := g_n) h1.2.2.2.1 h1.2.1 h3
  obtain ⟨a1, a2, a3, a4, a5, a6, a7, a8, a9⟩ := h3
  have H := jp_of a9
  have m5 := jp_m5 H
  have hz : ∀ S, S ≠ 0 → ja_sub S U → jp_sz est (jp_lr la) (jp_lr ra) dv m S ≤ 64000000 := fun S _ hS => jp_sz_b fun r hr => (PX.2.2.2 r (hS r hr)).2
  refine jx_opt (s := s) (kd := kd) (la := la) (ra := ra) (dv := dv) (est := est) a9 PX c0 (by rw [ex]; rfl) a1.2.2.1 a6.1 a4.1 (fun i hi => (a8 i hi).1) ?_
  intro el oi pc bc RT LF na sd hSP hsd hn0 hn1
  refine jy_opt (s := s) (kd := kd) (la := la) (ra := ra) (dv := dv) (est := est) a9 PY c0y (by rw [ey]; rfl) (by rw [a2.2.1, jf_E0 a9]) a6.2 ?_
  intro ip W C RT' LF' sd' hSP' hsd'
  obtain ⟨same, es⟩ := jl_same a9 hz hSP hSP'
  obtain ⟨hQ, ⟨hU0, hWU⟩, hI, hC⟩ := jl_fin a9 hz hSP
  have s10 : ∀ i, i < 10 → jl_s RT LF U s i = s i := hI.2.2.2.2.2
  have eset : ∀ i, i < m → jf_set (jl_s RT LF U s) i = jf_set s i := fun i hi => by unfold jf_set; rw [s10 _ (by omega), s10 _ (by omega)]
  refine ⟨((same U hU0 ja_sub_rfl).2).symm, ?_⟩
  refine jz_mk (n := n) (rl := rl) (rc := rc) (e := 1) (m := m) (U := U) (E := E) (V := V) (la := la) (ra := ra) (s := jl_s RT LF U s) (kd := kd) (dv := dv) (est := est) h1 h2
    ⟨a1, a2, a3, a4, a5, ⟨hsd, by rw [← es]; exact hsd'⟩, a7, a8, jf_FR_cg a9 fun i hi => s10 i (by omega)⟩
    ⟨rfl, Or.inr ⟨rfl, rfl, fun S s0 sU => ⟨(same S s0 sU).2, (same S s0 sU).1⟩, ?_, hC, jl_TW H hQ hI, ?_, hn1⟩⟩ ?_
  · apply congrArg nI
    exact ja_sm_cg m fun i hi => by rw [eset i hi]
  · intro T t0 t6
    refine ⟨fun i hi z => (hn0 T t0 t6).1 i hi (by rw [← eset i hi]; exact z), fun z => (hn0 T t0 t6).2 fun i hi => ?_⟩
    rw [← eset i hi]
    exact z i hi
  · rcases h5 with ⟨q1, q2⟩ | ⟨_, q2, _⟩
    · exact Or.inl ⟨q1, rfl⟩
    · rw [c0] at q2
      exact absurd q2 (by decide)
end
section
/-! ===== run, id ===== -/
theorem jr_rank {P : List Nat} (hs : P.Pairwise (· ≤ ·)) (hn : P.Nodup) {i : Nat} (hi : i < P.length) : P.countP (fun x => decide (x < P[i])) = i := by
  have e : P = P.take i ++ P[i] :: P.drop (i + 1) := by rw [← List.drop_eq_getElem_cons hi, List.take_append_drop]
  generalize hp : P[i] = p at e
  have hs' := hs
  have hn' := hn
  rw [e] at hs' hn'
  have s1 := List.pairwise_append.mp hs'
  have d1 := List.nodup_append.mp hn'
  have c1 : (P.take i).countP (fun x => decide (x < p)) = (P.take i).length := by
    rw [List.countP_eq_length]
    intro a ha
    have h1 := s1.2.2 a ha p List.mem_cons_self
    have h2 := d1.2.2 a ha p List.mem_cons_self
    exact decide_eq_true (by omega)
  have c2 : (p :: P.drop (i + 1)).countP (fun x => decide (x < p)) = 0 := by
    rw [List.countP_eq_zero]
    intro a ha
    rcases List.mem_cons.mp ha with z | z
    · rw [z, decide_eq_true_eq]; omega
    · have := (List.pairwise_cons.mp s1.2.1).1 a z
      rw [decide_eq_true_eq]; omega
  have : P.countP (fun x => decide (x < p)) = (P.take i ++ p :: P.drop (i + 1)).countP (fun x => decide (x < p)) := by rw [← e]
  rw [this, List.countP_append, c1, c2, List.length_take]
  omega
theorem jr_rank_iff {P L : List Nat} (hp : P.Perm L) (hs : P.Pairwise (· ≤ ·)) (hn : L.Nodup) {i y : Nat} (hi : i < P.length) (hy : y ∈ L) : L.countP (fun x => decide (x < y)) = i ↔ y = P[i] := by
  have hnP : P.Nodup := hp.nodup_iff.mpr hn
  rw [← hp.countP_eq]
  constructor
  · intro h
    obtain ⟨j, hj, e⟩ := List.getElem_of_mem (hp.mem_iff.mpr hy)
    rw [← e, jr_rank hs hnP hj] at h
    subst h
    exact e.symm
  · intro h
    rw [h]
    exact jr_rank hs hnP hi
theorem i_vc_run {k : Nat} {u : SX} {v : SY} (I : i_Rel k u v) (hk : k + 5 ≤ 2562) (v1 : Int32) : wpX_run (fun r u' => wpY_run (fun r' v' => r' = r ∧ i_Rel (k + 5) u' v') v v1) u v1 := by
  refine jz_el (P := fun u v => wpX_run (fun r u' => wpY_run (fun r' v' => r' = r ∧ i_Rel (k + 5) u' v') v v1) u v1) ?_ I
  intro f_nullKey f_maxRows f_n f_rowLimit f_rowTotal f_entryCount f_usedRels f_opCount f_optimised f_initialCost f_resultRows a_rowCount a_values a_entryRels a_entryVisible a_estimates a_opKind a_opLeftAttrs a_opRightAttrs a_opDivisor a_opLeftRels a_opRightRels a_sideSet a_eligible a_opsIn a_bestCost a_planCount a_rootOf a_leftPart a_nodeAt a_slotRows a_slotCount a_keys a_grouped a_groupStart a_groupHit a_result g_n g_rowLimit g_entries g_ops g_optimised g_hasResult b_cells b_rowCount b_entrySet b_entryVisible b_estimates b_operators b_sides b_inPlan b_least b_ways b_root b_rootLeft b_found b_foundCount n rl rc e m U E V la ra s kd dv est h1 h2 h3 h4 h5
  have R := jz_mk (f_nullKey := f_nullKey) (f_maxRows := f_maxRows) (f_n := f_n) (f_rowLimit := f_rowLimit) (f_rowTotal := f_rowTotal) (f_entryCount := f_entryCount) (f_usedRels := f_usedRels) (f_opCount := f_opCount) (f_optimised := f_optimised) (f_initialCost := f_initialCost) (f_resultRows := f_resultRows) (a_rowCount := a_rowCount) (a_values := a_values) (a_entryRels := a_entryRels) (a_entryVisible := a_entryVisible) (a_estimates := a_estimates) (a_opKind := a_opKind) (a_opLeftAttrs := a_opLeftAttrs) (a_opRightAttrs := a_opRightAttrs) (a_opDivisor := a_opDivisor) (a_opLeftRels := a_opLeftRels) (a_opRightRels := a_opRightRels) (a_sideSet := a_sideSet) (a_eligible := a_eligible) (a_opsIn := a_opsIn) (a_bestCost := a_bestCost) (a_planCount := a_planCount) (a_rootOf := a_rootOf) (a_leftPart := a_leftPart) (a_nodeAt := a_nodeAt) (a_slotRows := a_slotRows) (a_slotCount := a_slotCount) (a_keys := a_keys) (a_grouped := a_grouped) (a_groupStart := a_groupStart) (a_groupHit := a_groupHit) (a_result := a_result) (g_n := g_n) (g_rowLimit := g_rowLimit) (g_entries := g_entries) (g_ops := g_ops) (g_optimised := g_optimised) (g_hasResult := g_hasResult) (b_cells := b_cells) (b_rowCount := b_rowCount) (b_entrySet := b_entrySet) (b_entryVisible := b_entryVisible) (b_estimates := b_estimates) (b_operators := b_operators) (b_sides := b_sides) (b_inPlan := b_inPlan) (b_least := b_least) (b_ways := b_ways) (b_root := b_root) (b_rootLeft := b_rootLeft) (b_found := b_found) (b_foundCount := b_foundCount) (k := k + 5) h1 h2 h3 h4 h5
  by_cases c0 : f_optimised = 0
  · exact br_t c0 (br_t (h4.1.trans c0) ⟨rfl, R⟩)
  have c0y : ¬ g_optimised = 0 := fun z => c0 (h4.1.symm.trans z)
  by_cases c1 : v1 < 0
  · exact br_f c0 (br_t c1 (br_f c0y (br_t c1 ⟨rfl, R⟩)))
  by_cases c2 : v1 ≤ 1
  case neg => exact br_f c0 (br_f c1 (br_f c2 (br_f c0y (br_f c1 (br_f c2 ⟨rfl, R⟩)))))
  obtain ⟨w, hw, rfl⟩ : ∃ w, w < 2 ∧ v1 = nI w := by
    rcases jn_cl v1 0 1 (by decide) (by decide) with h | h | ⟨j, _, h, e⟩
    · exact absurd (Int32.not_lt.mp c1) h
    · exact absurd c2 h
    · exact ⟨j, by omega, e⟩
  have h4' := h4
  rcases h4.2 with z | ⟨o1, o2, o3, o4, o5, o6, o7, o8⟩
  · exact absurd z c0
  subst o2
  have n6 := h1.2.2.2.1
  have hUn := h3.2.2.2.2.2.2.2.2.1.2.1
  have H := jp_of h3.2.2.2.2.2.2.2.2
  have m5 := jp_m5 H
  have hU := H.1
  obtain ⟨b1, b2, b3, b4, b5, b6, b7⟩ := h2
  have h12 : ja_sm rc 6 ≤ 12 := by have := h1.2.2.2.2.2.2.2; omega
  have a9 := h3.2.2.2.2.2.2.2.2
  have hU0 : U ≠ 0 := by
    intro z
    have h1 := H.2.1
    rw [z] at h1
    have h2 : ja_pc 0 = 0 := by decide
    omega
  have at' := fun i (hi : i < m) => jf_at a9.2.2.1 hUn hi
  have hOD : jr_OD m kd la ra := fun i hi => ⟨(h3.2.2.2.2.2.2.2.1 i hi).1, (at' i hi).1, (at' i hi).2.1⟩
  have a5 := h3.2.2.2.2.1
  have hE : ∀ i, i < m → jy_E n i (kd i) (la i) (ra i) rc a_values g_n b_cells b_rowCount b_operators := fun i hi =>
    ⟨b7, n6, h1.2.1, b4, b5, by omega, a5.2.1 i, (at' i hi).1, (at' i hi).2.2.1, a5.2.2.1 i, (at' i hi).2.1, (at' i hi).2.2.2, a5.1 i, (h3.2.2.2.2.2.2.2.1 i hi).1⟩
  obtain ⟨sw, ess, hTW, hNA⟩ : ∃ sw : Nat → Nat, (∀ j, sw j = s (10 * w + j)) ∧ jr_TW m U sw ∧ jr_NA m sw w a_nodeAt := by
    have : w = 0 ∨ w = 1 := by omega
    rcases this with z | z
    · subst z
      exact ⟨s, fun j => by rw [Nat.mul_zero, Nat.zero_add], jr_TW0 a9, o7⟩
    · subst z
      exact ⟨fun j => s (10 + j), fun j => rfl, o6, o8⟩
  have a4 := h3.2.2.2.1
  refine jx_run (s := sw) (ss := s) (kd := kd) (la := la) (ra := ra) (rc := rc) (cells := b_cells) hTW hU hU0 hw m5 hNA o1 h3.1.2.2.1 h3.2.2.2.2.2.1.1 ess hOD a4.1 a4.2.1 a4.2.2.1 b7 (fun r _ => b3 r) b5 h12 ?_
  intro rows cnt ks gr gs gh res LX P sX pP pS pR
  refine jy_run (s := sw) (ss := s) (kd := kd) (la := la) (ra := ra) (rc := rc) (v := a_values) hTW hU hU0 n6 hUn hw m5 h1.2.1 h3.1.2.2.2.2 (h4.1.trans o1) (by rw [h3.2.1.2.1, jf_E0 a9]) h3.2.2.2.2.2.1.2 ess hE b4 b5 h12 ?_
  intro f c LY sY hHS
  have pXY : (LX U).Perm (LY U) := jr_SXY (kd := kd) (la := la) (ra := ra) (v := a_values) hTW hU hUn sX sY U hTW.1 ja_sub_rfl (Or.inl (by omega))
  have oY := jr_SY_OK (kd := kd) (la := la) (ra := ra) (v := a_values) hTW hU n6 hUn b5 h12 sY U hTW.1 ja_sub_rfl (Or.inl (by omega))
  have pPY := pP.trans pXY
  refine ⟨by rw [pPY.length_eq], ?_⟩
  exact jz_mk h1 ⟨b1, b2, b3, b4, b5, b6, b7⟩ h3 h4' (Or.inr ⟨rfl, o1, LY U, P, hHS, pPY, pS, oY.1, fun x hx => (jr_ok31 (oY.2.1 x hx)).2, pR, rfl⟩)
section
variable {g_n g_rowLimit g_entries g_ops g_optimised g_hasResult : Int32} {b_cells b_rowCount b_entrySet b_entryVisible b_estimates b_operators b_sides b_inPlan b_least b_ways b_root b_rootLeft b_found b_foundCount : Nat → Int32}
theorem jy_id58 {post : Int32 → Prop} {U i : Nat} {L P : List Nat} {p : Int32} (hU : U < 64) (hL : jr_HS b_found b_foundCount U L) (hp : P.Perm L) (hs : P.Pairwise (· ≤ ·)) (hn : L.Nodup) (hb : ∀ x, x ∈ L → x < 2 ^ 31) (hi : i < P.length)
    (k : post ((nI P[i] >>> ((15 - (3 * p)) &&& 31)) &&& 7)) : ∃ d, wY_id_58 post (nI i) p (nI (U * 81)) (nI L.length) g_n g_rowLimit g_entries g_ops g_optimised g_hasResult b_cells b_rowCount b_entrySet b_entryVisible b_estimates b_operators b_sides b_inPlan b_least b_ways b_root b_rootLeft b_found b_foundCount d 0 := by
  have h81 := hL.2.1
  have hlp := hp.length_eq
  refine jr_lw0 (fun d j (_ : Unit) => wY_id_58 post (nI i) p (nI (U * 81)) (nI L.length) g_n g_rowLimit g_entries g_ops g_optimised g_hasResult b_cells b_rowCount b_entrySet b_entryVisible b_estimates b_operators b_sides b_inPlan b_least b_ways b_root b_rootLeft b_found b_foundCount d (nI j)) L (fun Q _ => ∀ y, y ∈ Q → L.countP (fun x => decide (x < y)) ≠ i) () (fun y hy => absurd hy List.not_mem_nil) ?_ ?_
  · intro d _ h
    have hm : P[i] ∈ L := hp.mem_iff.mp (List.getElem_mem hi)
    exact absurd ((jr_rank_iff hp hs hn hi hm).mpr rfl) (h _ hm)
  · intro d Q y T _ e h ih
    have hl : Q.length + (T.length + 1) = L.length := by rw [e, List.length_append]; rfl
    have hyL : y ∈ L := by rw [e]; exact List.mem_append.mpr (Or.inr List.mem_cons_self)
    have ey : b_found (U * 81 + Q.length) = nI y := by
      have := hL.2.2
      rw [e] at this
      exact jr_sl_1 this
    refine br_f (nI_ge (by omega) (by omega)) ?_
    have ei : nI (U * 81) + nI Q.length = nI (U * 81 + Q.length) := nI_add _ _
    refine jr_lw0 (fun d' j x => wY_id_71 post (wY_id_58 post (nI i) p (nI (U * 81)) (nI L.length) g_n g_rowLimit g_entries g_ops g_optimised g_hasResult b_cells b_rowCount b_entrySet b_entryVisible b_estimates b_operators b_sides b_inPlan b_least b_ways b_root b_rootLeft b_found b_foundCount d) (nI i) p (nI (U * 81)) (nI L.length) (nI Q.length) g_n g_rowLimit g_entries g_ops g_optimised g_hasResult b_cells b_rowCount b_entrySet b_entryVisible b_estimates b_operators b_sides b_inPlan b_least b_ways b_root b_rootLeft b_found b_foundCount d' x (nI j)) L (fun Z x => x = nI (Z.countP (fun x => decide (x < y)))) 0 rfl ?_ ?_
    · rintro d' x rfl
      have hc : L.countP (fun x => decide (x < y)) ≤ L.length := List.countP_le_length
      refine br_t (nI_le (Nat.le_refl _) (by omega)) ?_
      refine pk_eq (L.countP (fun x => decide (x < y))) i (fun hq => ?_) (fun hq => nm_r (nI_1 _) (ih () fun y' hy' => ?_))
      · rw [ei, nI_clamp (by omega), ey, (jr_rank_iff hp hs hn hi hyL).mp hq]
        exact ⟨vp_in_nI (by omega) (by decide), k⟩
      · rcases List.mem_append.mp hy' with z | z
        · exact h y' z
        · rw [List.mem_singleton.mp z]; exact hq
    · rintro d' Z z Z' x eZ rfl ih'
      have hl' : Z.length + (Z'.length + 1) = L.length := by rw [eZ, List.length_append]; rfl
      have hzL : z ∈ L := by rw [eZ]; exact List.mem_append.mpr (Or.inr List.mem_cons_self)
      have ez : b_found (U * 81 + Z.length) = nI z := by
        have := hL.2.2
        rw [eZ] at this
        exact jr_sl_1 this
      have ej : nI (U * 81) + nI Z.length = nI (U * 81 + Z.length) := nI_add _ _
      have ec : (Z ++ [z]).countP (fun x => decide (x < y)) = Z.countP (fun x => decide (x < y)) + (if z < y then 1 else 0) := by
        rw [List.countP_append, List.countP_cons, List.countP_nil]
        by_cases q : z < y
        · rw [if_pos q, if_pos (decide_eq_true q)]
        · rw [if_neg q, if_neg (by rw [decide_eq_true_eq]; exact q)]
      refine br_f (nI_ge (by omega) (by omega)) ?_
      rw [ei, ej, nI_clamp (n := U * 81 + Z.length) (by omega), nI_clamp (n := U * 81 + Q.length) (by omega), ey, ez]
      refine ⟨vp_in_nI (by omega) (by decide), vp_in_nI (by omega) (by decide), pk_le y z (fun q => nm_r (nI_1 _) (ih' _ ?_)) (fun q => nm_r (nI_1 _) (nm_r (nI_1 _) (ih' _ ?_))) rfl rfl (hb y hyL) (hb z hzL)⟩
      · rw [ec, if_neg (by omega)]
        rfl
      · rw [ec, if_pos q]
end
theorem i_vc_id {k : Nat} {u : SX} {v : SY} (I : i_Rel k u v) (hk : k + 5 ≤ 2562) (v1 : Int32) (v2 : Int32) : wpX_id (fun r => wpY_id (fun r' => r' = r ∧ i_Rel (k + 5) u v) v v1 v2) u v1 v2 := by
  refine jz_el (P := fun u v => wpX_id (fun r => wpY_id (fun r' => r' = r ∧ i_Rel (k + 5) u v) v v1 v2) u v1 v2) ?_ I
  intro f_nullKey f_maxRows f_n f_rowLimit f_rowTotal f_entryCount f_usedRels f_opCount f_optimised f_initialCost f_resultRows a_rowCount a_values a_entryRels a_entryVisible a_estimates a_opKind a_opLeftAttrs a_opRightAttrs a_opDivisor a_opLeftRels a_opRightRels a_sideSet a_eligible a_opsIn a_bestCost a_planCount a_rootOf a_leftPart a_nodeAt a_slotRows a_slotCount a_keys a_grouped a_groupStart a_groupHit a_result g_n g_rowLimit g_entries g_ops g_optimised g_hasResult b_cells b_rowCount b_entrySet b_entryVisible b_estimates b_operators b_sides b_inPlan b_least b_ways b_root b_rootLeft b_found b_foundCount n rl rc e m U E V la ra s kd dv est h1 h2 h3 h4 h5
  have R := jz_mk (f_nullKey := f_nullKey) (f_maxRows := f_maxRows) (f_n := f_n) (f_rowLimit := f_rowLimit) (f_rowTotal := f_rowTotal) (f_entryCount := f_entryCount) (f_usedRels := f_usedRels) (f_opCount := f_opCount) (f_optimised := f_optimised) (f_initialCost := f_initialCost) (f_resultRows := f_resultRows) (a_rowCount := a_rowCount) (a_values := a_values) (a_entryRels := a_entryRels) (a_entryVisible := a_entryVisible) (a_estimates := a_estimates) (a_opKind := a_opKind) (a_opLeftAttrs := a_opLeftAttrs) (a_opRightAttrs := a_opRightAttrs) (a_opDivisor := a_opDivisor) (a_opLeftRels := a_opLeftRels) (a_opRightRels := a_opRightRels) (a_sideSet := a_sideSet) (a_eligible := a_eligible) (a_opsIn := a_opsIn) (a_bestCost := a_bestCost) (a_planCount := a_planCount) (a_rootOf := a_rootOf) (a_leftPart := a_leftPart) (a_nodeAt := a_nodeAt) (a_slotRows := a_slotRows) (a_slotCount := a_slotCount) (a_keys := a_keys) (a_grouped := a_grouped) (a_groupStart := a_groupStart) (a_groupHit := a_groupHit) (a_result := a_result) (g_n := g_n) (g_rowLimit := g_rowLimit) (g_entries := g_entries) (g_ops := g_ops) (g_optimised := g_optimised) (g_hasResult := g_hasResult) (b_cells := b_cells) (b_rowCount := b_rowCount) (b_entrySet := b_entrySet) (b_entryVisible := b_entryVisible) (b_estimates := b_estimates) (b_operators := b_operators) (b_sides := b_sides) (b_inPlan := b_inPlan) (b_least := b_least) (b_ways := b_ways) (b_root := b_root) (b_rootLeft := b_rootLeft) (b_found := b_found) (b_foundCount := b_foundCount) (k := k + 5) h1 h2 h3 h4 h5
  have e0 : b_entrySet 0 = nI (E 0) := h3.2.1.2.1 0
  have hE0 : E 0 < 64 := h3.2.1.2.2 0
  have ve : vp_in (b_entrySet 0) 64 := by rw [e0]; exact vp_in_nI hE0 (by decide)
  rcases h5 with ⟨q1, q2⟩ | ⟨q1, q2, L, P, p1, p2, p3, p4, p5, p6, p7⟩
  · have Y0 : wpY_id (fun r' => r' = -2 ∧ i_Rel (k + 5) (f_nullKey, f_maxRows, f_n, f_rowLimit, f_rowTotal, f_entryCount, f_usedRels, f_opCount, f_optimised, f_initialCost, f_resultRows, a_rowCount, a_values, a_entryRels, a_entryVisible, a_estimates, a_opKind, a_opLeftAttrs, a_opRightAttrs, a_opDivisor, a_opLeftRels, a_opRightRels, a_sideSet, a_eligible, a_opsIn, a_bestCost, a_planCount, a_rootOf, a_leftPart, a_nodeAt, a_slotRows, a_slotCount, a_keys, a_grouped, a_groupStart, a_groupHit, a_result) (g_n, g_rowLimit, g_entries, g_ops, g_optimised, g_hasResult, b_cells, b_rowCount, b_entrySet, b_entryVisible, b_estimates, b_operators, b_sides, b_inPlan, b_least, b_ways, b_root, b_rootLeft, b_found, b_foundCount)) (g_n, g_rowLimit, g_entries, g_ops, g_optimised, g_hasResult, b_cells, b_rowCount, b_entrySet, b_entryVisible, b_estimates, b_operators, b_sides, b_inPlan, b_least, b_ways, b_root, b_rootLeft, b_found, b_foundCount) v1 v2 := nm_e ⟨ve, nm_e (br_t q1 ⟨rfl, R⟩)⟩
    by_cases c1 : v1 < 0
    · exact br_t c1 Y0
    · refine br_f c1 (br_t ?_ Y0)
      rw [q2]
      obtain ⟨j, hj, rfl⟩ := nI_of c1
      rw [Int32.le_iff_toInt_le, nI_toInt hj, show (-1 : Int32).toInt = -1 from by decide]
      omega
  · have q1' : ¬ g_hasResult = 0 := by rw [q1]; decide
    rcases h4.2 with z | ⟨o1, o2, _⟩
    · rw [q2] at z
      exact absurd z (by decide)
    subst o2
    have eU : E 0 = U := jf_E0 h3.2.2.2.2.2.2.2.2
    rw [eU] at e0 hE0
    have hlp := p2.length_eq
    have h81 := p1.2.1
    have ec : b_foundCount (b_entrySet 0).toNatClampNeg = nI L.length := by rw [e0]; exact (jn_at rfl (by omega)).trans p1.1
    have ef : b_entrySet 0 * 81 = nI (U * 81) := by rw [e0]; exact pk_mul U 81
    by_cases c1 : v1 < 0
    · exact br_t c1 (nm_e ⟨ve, nm_e (br_f q1' (br_t c1 ⟨rfl, R⟩))⟩)
    by_cases c2 : nI L.length ≤ v1
    · exact br_f c1 (br_t (by rw [p7, hlp]; exact c2) (nm_e ⟨ve, nm_r ec (br_f q1' (br_f c1 (br_t c2 ⟨rfl, R⟩)))⟩))
    obtain ⟨i, hi, rfl⟩ := jn_ix (by omega) c1 c2
    have c2x : ¬ f_resultRows ≤ nI i := by rw [p7, hlp]; exact c2
    by_cases c3 : v2 < 0
    · exact br_f c1 (br_f c2x (br_t c3 (nm_e ⟨ve, nm_r ec (br_f q1' (br_f c1 (br_f c2 (br_t c3 ⟨rfl, R⟩))))⟩)))
    by_cases c4 : v2 < nI n
    · have hres : a_result (nI i).toNatClampNeg = nI (P[i]'(by omega)) := by
        rw [nI_clamp (by omega)]
        have := jr_sl_get P 0 i (by omega) p6
        rw [Nat.zero_add] at this
        exact this
      refine br_f c1 (br_f c2x (br_f c3 (br_t (by rw [h1.1]; exact c4) ⟨vp_in_nI (by omega) (by decide), ?_⟩)))
      rw [hres]
      refine nm_r ef ⟨ve, nm_r ec (br_f q1' (br_f c1 (br_f c2 (br_f c3 (br_t (by rw [h1.2.1]; exact c4) ?_)))))⟩
      exact jy_id58 hE0 p1 p2 p3 p4 p5 (by omega) ⟨rfl, R⟩
    · exact br_f c1 (br_f c2x (br_f c3 (br_f (by rw [h1.1]; exact c4) (nm_e ⟨ve, nm_r ec (br_f q1' (br_f c1 (br_f c2 (br_f c3 (br_f (by rw [h1.2.1]; exact c4) ⟨rfl, R⟩)))))⟩))))
end
section
/-! ===== what only reads ===== -/
theorem jf_m5 {n e m U : Nat} {E V la ra s : Nat → Nat} (h : jf_FR n e m U E V la ra s) : m ≤ 5 ∧ e ≤ 6 := by
  obtain ⟨⟨hn, hU, hpc⟩, ⟨a1, a2, a3, a4⟩, _⟩ := h
  have h6 := ja_pc_6 (Nat.lt_of_lt_of_le hU (Nat.pow_le_pow_right (by decide) hn) : U < 64)
  rcases Nat.eq_zero_or_pos e with z | z
  · have : U = 0 := ja_e0 fun r hr => by
      obtain ⟨j, hj, _⟩ := a3 r hr
      omega
    rw [this] at hpc
    have h2 : ja_pc 0 = 0 := by decide
    omega
  · omega
theorem jf_s64 {n e m U : Nat} {E V la ra s : Nat → Nat} (h : jf_FR n e m U E V la ra s) : ∀ i, i < 2 * m → s i < 64 := by
  intro i hi
  have hU : U < 64 := Nat.lt_of_lt_of_le h.1.2.1 (Nat.pow_le_pow_right (by decide) h.1.1)
  have hs := ja_sub_le (h.2.2.1 (i / 2) (by omega)).2.2.2.2.2
  have l1 : s (2 * (i / 2)) ≤ jf_set s (i / 2) := ja_sub_le ja_or_l
  have l2 : s (2 * (i / 2) + 1) ≤ jf_set s (i / 2) := ja_sub_le ja_or_r
  rcases Nat.mod_two_eq_zero_or_one i with w | w
  · rw [show 2 * (i / 2) = i from by omega] at l1; omega
  · rw [show 2 * (i / 2) + 1 = i from by omega] at l2; omega
theorem i_vc_stored {k : Nat} {u : SX} {v : SY} (I : i_Rel k u v) (hk : k + 5 ≤ 2562) (v1 : Int32) (v2 : Int32) : wpX_stored (fun r => wpY_stored (fun r' => r' = r ∧ i_Rel (k + 5) u v) v v1 v2) u v1 v2 := by
  refine jz_el (P := fun u v => wpX_stored (fun r => wpY_stored (fun r' => r' = r ∧ i_Rel (k + 5) u v) v v1 v2) u v1 v2) ?_ I
  intro f_nullKey f_maxRows f_n f_rowLimit f_rowTotal f_entryCount f_usedRels f_opCount f_optimised f_initialCost f_resultRows a_rowCount a_values a_entryRels a_entryVisible a_estimates a_opKind a_opLeftAttrs a_opRightAttrs a_opDivisor a_opLeftRels a_opRightRels a_sideSet a_eligible a_opsIn a_bestCost a_planCount a_rootOf a_leftPart a_nodeAt a_slotRows a_slotCount a_keys a_grouped a_groupStart a_groupHit a_result g_n g_rowLimit g_entries g_ops g_optimised g_hasResult b_cells b_rowCount b_entrySet b_entryVisible b_estimates b_operators b_sides b_inPlan b_least b_ways b_root b_rootLeft b_found b_foundCount n rl rc e m U E V la ra s kd dv est h1 h2 h3 h4 h5
  have R := jz_mk (f_nullKey := f_nullKey) (f_maxRows := f_maxRows) (f_n := f_n) (f_rowLimit := f_rowLimit) (f_rowTotal := f_rowTotal) (f_entryCount := f_entryCount) (f_usedRels := f_usedRels) (f_opCount := f_opCount) (f_optimised := f_optimised) (f_initialCost := f_initialCost) (f_resultRows := f_resultRows) (a_rowCount := a_rowCount) (a_values := a_values) (a_entryRels := a_entryRels) (a_entryVisible := a_entryVisible) (a_estimates := a_estimates) (a_opKind := a_opKind) (a_opLeftAttrs := a_opLeftAttrs) (a_opRightAttrs := a_opRightAttrs) (a_opDivisor := a_opDivisor) (a_opLeftRels := a_opLeftRels) (a_opRightRels := a_opRightRels) (a_sideSet := a_sideSet) (a_eligible := a_eligible) (a_opsIn := a_opsIn) (a_bestCost := a_bestCost) (a_planCount := a_planCount) (a_rootOf := a_rootOf) (a_leftPart := a_leftPart) (a_nodeAt := a_nodeAt) (a_slotRows := a_slotRows) (a_slotCount := a_slotCount) (a_keys := a_keys) (a_grouped := a_grouped) (a_groupStart := a_groupStart) (a_groupHit := a_groupHit) (a_result := a_result) (g_n := g_n) (g_rowLimit := g_rowLimit) (g_entries := g_entries) (g_ops := g_ops) (g_optimised := g_optimised) (g_hasResult := g_hasResult) (b_cells := b_cells) (b_rowCount := b_rowCount) (b_entrySet := b_entrySet) (b_entryVisible := b_entryVisible) (b_estimates := b_estimates) (b_operators := b_operators) (b_sides := b_sides) (b_inPlan := b_inPlan) (b_least := b_least) (b_ways := b_ways) (b_root := b_root) (b_rootLeft := b_rootLeft) (b_found := b_found) (b_foundCount := b_foundCount) (k := k + 5) h1 h2 h3 h4 h5
  obtain ⟨e1, e2, n2, n6, e3, e4, r4, r12⟩ := h1
  obtain ⟨b1, b2, b3, b4, b5, b6, b7⟩ := h2
  have en : (2 : Int32) * nI n = nI (2 * n) := pk_mul 2 n
  have fx : 2 * f_n = nI (2 * n) := by rw [e1]; exact en
  have gx : 2 * g_n = nI (2 * n) := by rw [e2]; exact en
  by_cases c1 : v1 < 0
  · exact br_t c1 (br_t c1 ⟨rfl, R⟩)
  by_cases c2 : nI (2 * n) ≤ v1
  · exact br_f c1 (br_t (by rw [fx]; exact c2) (br_f c1 (br_t (by rw [gx]; exact c2) ⟨rfl, R⟩)))
  have c2x : ¬ 2 * f_n ≤ v1 := by rw [fx]; exact c2
  have c2y : ¬ 2 * g_n ≤ v1 := by rw [gx]; exact c2
  by_cases c3 : v2 < 0
  · exact br_f c1 (br_f c2x (br_t c3 (br_f c1 (br_f c2y (br_t c3 ⟨rfl, R⟩)))))
  obtain ⟨a, ha, rfl⟩ := jn_ix (by omega) c1 c2
  obtain ⟨d, hd, rfl⟩ := nI_of c3
  have h4a := b5 (a / 2)
  have eh : nI a >>> ((1 : Int32) &&& 31) = nI (a / 2) := jn_half (by omega)
  have ed : nI a / 2 = nI (a / 2) := jn_hd (by omega)
  have ra1 : a_rowCount (nI a >>> ((1 : Int32) &&& 31)).toNatClampNeg = nI (rc (a / 2)) := by rw [eh]; exact (jn_at rfl (by omega)).trans (b3 _)
  have rb1 : b_rowCount (nI a / 2).toNatClampNeg = nI (rc (a / 2)) := by rw [ed]; exact (jn_at rfl (by omega)).trans (b4 _)
  have vx : vp_in (nI a >>> ((1 : Int32) &&& 31)) 6 := by rw [eh]; exact vp_in_nI (by omega) (by decide)
  have vy : vp_in (nI a / 2) 6 := by rw [ed]; exact vp_in_nI (by omega) (by decide)
  by_cases c4 : d ≤ rc (a / 2)
  · have c4' : nI d ≤ nI (rc (a / 2)) := nI_le c4 (by omega)
    have e8 : nI a * 8 + nI d = nI (a * 8 + d) := jn_ma a 8 d
    refine br_f c1 (br_f c2x (br_f c3 ⟨vx, br_t (by rw [ra1]; exact c4') ⟨by rw [e8]; exact vp_in_nI (by omega) (by decide), ?_⟩⟩))
    refine jy_stored (v := a_values) (rc := rc) b7 n6 e2 b4 b5 ha c4 ⟨?_, R⟩
    rw [e8, nI_clamp (by omega)]
  · have c4' : ¬ nI d ≤ nI (rc (a / 2)) := nI_ge (by omega) (by omega)
    exact br_f c1 (br_f c2x (br_f c3 ⟨vx, br_f (by rw [ra1]; exact c4') (br_f c1 (br_f c2y (br_f c3 ⟨by decide, vy, br_f (by rw [rb1]; exact c4') ⟨rfl, R⟩⟩)))⟩))
section
variable {g_n g_rowLimit g_entries g_ops g_optimised g_hasResult : Int32} {b_cells b_rowCount b_entrySet b_entryVisible b_estimates b_operators b_sides b_inPlan b_least b_ways b_root b_rootLeft b_found b_foundCount : Nat → Int32}
theorem jy_cost {post : Int32 → Prop} {n m U w : Nat} {la ra dv est kd s ss : Nat → Nat} (P : jy_PE n m U la ra dv est kd g_n g_ops b_operators b_estimates) (hw : w < 2) (es : ∀ i, b_sides i = nI (ss i)) (ess : ∀ j, s j = ss (10 * w + j)) (hT : jr_TW m U s)
    (k : post (nI (ja_sm (fun i => jp_sz est (jp_lr la) (jp_lr ra) dv m (jf_set s i)) m))) : ∃ d, wY_cost_23 post (nI w) g_n g_rowLimit g_entries g_ops g_optimised g_hasResult b_cells b_rowCount b_entrySet b_entryVisible b_estimates b_operators b_sides b_inPlan b_least b_ways b_root b_rootLeft b_found b_foundCount d 0 0 := by
  have eo := P.2.2.2.1
  have m5 := P.2.2.2.2.1
  refine loop_0 (fun d i x => wY_cost_23 post (nI w) g_n g_rowLimit g_entries g_ops g_optimised g_hasResult b_cells b_rowCount b_entrySet b_entryVisible b_estimates b_operators b_sides b_inPlan b_least b_ways b_root b_rootLeft b_found b_foundCount d x (nI i)) (fun i x => x = nI (ja_sm (fun i => jp_sz est (jp_lr la) (jp_lr ra) dv m (jf_set s i)) i)) m 0 rfl ?_ ?_
  · rintro d x rfl
    exact br_t (by rw [eo]; exact nI_le (Nat.le_refl _) (by omega)) k
  · rintro d i x hi rfl ih
    refine br_f (by rw [eo]; exact nI_ge hi (by omega)) (jy_below (A := s (2 * i)) (B := s (2 * i + 1)) hw (by omega) (by rw [es, ← ess]) (by rw [es, ← ess]) ?_)
    refine jy_size (la := la) (ra := ra) (dv := dv) (est := est) (kd := kd) (U := U) P (hT.2.1 i hi).2.2.2.1 ?_
    exact nm_r (nI_add _ _) (nm_r (nI_1 i) (ih _ rfl))
end
theorem i_vc_cost {k : Nat} {u : SX} {v : SY} (I : i_Rel k u v) (hk : k + 5 ≤ 2562) (v1 : Int32) : wpX_cost (fun r => wpY_cost (fun r' => r' = r ∧ i_Rel (k + 5) u v) v v1) u v1 := by
  refine jz_el (P := fun u v => wpX_cost (fun r => wpY_cost (fun r' => r' = r ∧ i_Rel (k + 5) u v) v v1) u v1) ?_ I
  intro f_nullKey f_maxRows f_n f_rowLimit f_rowTotal f_entryCount f_usedRels f_opCount f_optimised f_initialCost f_resultRows a_rowCount a_values a_entryRels a_entryVisible a_estimates a_opKind a_opLeftAttrs a_opRightAttrs a_opDivisor a_opLeftRels a_opRightRels a_sideSet a_eligible a_opsIn a_bestCost a_planCount a_rootOf a_leftPart a_nodeAt a_slotRows a_slotCount a_keys a_grouped a_groupStart a_groupHit a_result g_n g_rowLimit g_entries g_ops g_optimised g_hasResult b_cells b_rowCount b_entrySet b_entryVisible b_estimates b_operators b_sides b_inPlan b_least b_ways b_root b_rootLeft b_found b_foundCount n rl rc e m U E V la ra s kd dv est h1 h2 h3 h4 h5
  have R := jz_mk (f_nullKey := f_nullKey) (f_maxRows := f_maxRows) (f_n := f_n) (f_rowLimit := f_rowLimit) (f_rowTotal := f_rowTotal) (f_entryCount := f_entryCount) (f_usedRels := f_usedRels) (f_opCount := f_opCount) (f_optimised := f_optimised) (f_initialCost := f_initialCost) (f_resultRows := f_resultRows) (a_rowCount := a_rowCount) (a_values := a_values) (a_entryRels := a_entryRels) (a_entryVisible := a_entryVisible) (a_estimates := a_estimates) (a_opKind := a_opKind) (a_opLeftAttrs := a_opLeftAttrs) (a_opRightAttrs := a_opRightAttrs) (a_opDivisor := a_opDivisor) (a_opLeftRels := a_opLeftRels) (a_opRightRels := a_opRightRels) (a_sideSet := a_sideSet) (a_eligible := a_eligible) (a_opsIn := a_opsIn) (a_bestCost := a_bestCost) (a_planCount := a_planCount) (a_rootOf := a_rootOf) (a_leftPart := a_leftPart) (a_nodeAt := a_nodeAt) (a_slotRows := a_slotRows) (a_slotCount := a_slotCount) (a_keys := a_keys) (a_grouped := a_grouped) (a_groupStart := a_groupStart) (a_groupHit := a_groupHit) (a_result := a_result) (g_n := g_n) (g_rowLimit := g_rowLimit) (g_entries := g_entries) (g_ops := g_ops) (g_optimised := g_optimised) (g_hasResult := g_hasResult) (b_cells := b_cells) (b_rowCount := b_rowCount) (b_entrySet := b_entrySet) (b_entryVisible := b_entryVisible) (b_estimates := b_estimates) (b_operators := b_operators) (b_sides := b_sides) (b_inPlan := b_inPlan) (b_least := b_least) (b_ways := b_ways) (b_root := b_root) (b_rootLeft := b_rootLeft) (b_found := b_found) (b_foundCount := b_foundCount) (k := k + 5) h1 h2 h3 h4 h5
  by_cases c0 : f_optimised = 0
  · exact br_t c0 (br_t (h4.1.trans c0) ⟨rfl, R⟩)
  have c0y : ¬ g_optimised = 0 := fun z => c0 (h4.1.symm.trans z)
  by_cases c1 : v1 < 0
  · exact br_f c0 (br_t c1 (br_f c0y (br_t c1 ⟨rfl, R⟩)))
  by_cases c2 : v1 ≤ 1
  case neg => exact br_f c0 (br_f c1 (br_f c2 (br_f c0y (br_f c1 (br_f c2 ⟨rfl, R⟩)))))
  rcases h4.2 with z | ⟨o1, o2, o3, o4, o5, o6, o7, o8⟩
  · exact absurd z c0
  subst o2
  have PY := jz_PY (g_n := g_n) h1.2.2.2.1 h1.2.1 h3
  have a9 := h3.2.2.2.2.2.2.2.2
  have hU := (jp_of a9).1
  have es := h3.2.2.2.2.2.1.2
  by_cases c3 : v1 = 0
  · subst c3
    refine br_f c0 (br_f c1 (br_t c2 (br_t rfl (br_f c0y (br_f c1 (br_t c2 ?_))))))
    exact jy_cost (w := 0) (s := s) (ss := s) PY (by decide) es (fun j => by rw [Nat.mul_zero, Nat.zero_add]) (jr_TW0 a9) ⟨o4.symm, R⟩
  · obtain ⟨w, hw, rfl⟩ : ∃ w, w < 2 ∧ v1 = nI w := by
      rcases jn_cl v1 0 1 (by decide) (by decide) with h | h | ⟨j, _, h, e⟩
      · exact absurd (Int32.not_lt.mp c1) h
      · exact absurd c2 h
      · exact ⟨j, by omega, e⟩
    have hw1 : w = 1 := by
      have : w ≠ 0 := fun z => c3 (by rw [z]; rfl)
      omega
    subst hw1
    have eU := h3.1.2.2.1
    refine br_f c0 (br_f c1 (br_t c2 (br_f c3 ⟨by rw [eU]; exact vp_in_nI hU (by decide), br_f c0y (br_f c1 (br_t c2 ?_))⟩)))
    refine jy_cost (w := 1) (s := fun j => s (10 + j)) (ss := s) PY (by decide) es (fun j => rfl) o6 ⟨?_, R⟩
    rw [eU, nI_clamp (by omega)]
    exact o5.symm
theorem jz_set {x : Int32} {U : Nat} (hU : U < 64) (h0 : ¬ x = 0) (h : (x &&& (nI U ^^^ (-1))) = 0) : ∃ S, S < 64 ∧ S ≠ 0 ∧ ja_sub S U ∧ x = nI S := by
  obtain ⟨a, ha, rfl⟩ := jn_of32 x
  have hs := jn_sub ha h
  exact ⟨a, Nat.lt_of_le_of_lt (ja_sub_le hs) hU, fun z => h0 (by rw [z]; rfl), hs, rfl⟩
theorem i_vc_best {k : Nat} {u : SX} {v : SY} (I : i_Rel k u v) (hk : k + 5 ≤ 2562) (v1 : Int32) : wpX_best (fun r => wpY_best (fun r' => r' = r ∧ i_Rel (k + 5) u v) v v1) u v1 := by
  refine jz_el (P := fun u v => wpX_best (fun r => wpY_best (fun r' => r' = r ∧ i_Rel (k + 5) u v) v v1) u v1) ?_ I
  intro f_nullKey f_maxRows f_n f_rowLimit f_rowTotal f_entryCount f_usedRels f_opCount f_optimised f_initialCost f_resultRows a_rowCount a_values a_entryRels a_entryVisible a_estimates a_opKind a_opLeftAttrs a_opRightAttrs a_opDivisor a_opLeftRels a_opRightRels a_sideSet a_eligible a_opsIn a_bestCost a_planCount a_rootOf a_leftPart a_nodeAt a_slotRows a_slotCount a_keys a_grouped a_groupStart a_groupHit a_result g_n g_rowLimit g_entries g_ops g_optimised g_hasResult b_cells b_rowCount b_entrySet b_entryVisible b_estimates b_operators b_sides b_inPlan b_least b_ways b_root b_rootLeft b_found b_foundCount n rl rc e m U E V la ra s kd dv est h1 h2 h3 h4 h5
  have R := jz_mk (f_nullKey := f_nullKey) (f_maxRows := f_maxRows) (f_n := f_n) (f_rowLimit := f_rowLimit) (f_rowTotal := f_rowTotal) (f_entryCount := f_entryCount) (f_usedRels := f_usedRels) (f_opCount := f_opCount) (f_optimised := f_optimised) (f_initialCost := f_initialCost) (f_resultRows := f_resultRows) (a_rowCount := a_rowCount) (a_values := a_values) (a_entryRels := a_entryRels) (a_entryVisible := a_entryVisible) (a_estimates := a_estimates) (a_opKind := a_opKind) (a_opLeftAttrs := a_opLeftAttrs) (a_opRightAttrs := a_opRightAttrs) (a_opDivisor := a_opDivisor) (a_opLeftRels := a_opLeftRels) (a_opRightRels := a_opRightRels) (a_sideSet := a_sideSet) (a_eligible := a_eligible) (a_opsIn := a_opsIn) (a_bestCost := a_bestCost) (a_planCount := a_planCount) (a_rootOf := a_rootOf) (a_leftPart := a_leftPart) (a_nodeAt := a_nodeAt) (a_slotRows := a_slotRows) (a_slotCount := a_slotCount) (a_keys := a_keys) (a_grouped := a_grouped) (a_groupStart := a_groupStart) (a_groupHit := a_groupHit) (a_result := a_result) (g_n := g_n) (g_rowLimit := g_rowLimit) (g_entries := g_entries) (g_ops := g_ops) (g_optimised := g_optimised) (g_hasResult := g_hasResult) (b_cells := b_cells) (b_rowCount := b_rowCount) (b_entrySet := b_entrySet) (b_entryVisible := b_entryVisible) (b_estimates := b_estimates) (b_operators := b_operators) (b_sides := b_sides) (b_inPlan := b_inPlan) (b_least := b_least) (b_ways := b_ways) (b_root := b_root) (b_rootLeft := b_rootLeft) (b_found := b_found) (b_foundCount := b_foundCount) (k := k + 5) h1 h2 h3 h4 h5
  unfold wpX_best wpX_isPlannedSet wpY_best wpY_noSet
  dsimp only
  by_cases c0 : f_optimised = 0
  · exact br_t c0 (br_t rfl (br_t (h4.1.trans c0) (br_f (by decide) ⟨rfl, R⟩)))
  have c0y : ¬ g_optimised = 0 := fun z => c0 (h4.1.symm.trans z)
  by_cases c1 : v1 = 0
  · exact br_f c0 (br_t c1 (br_t rfl (br_f c0y (br_t c1 (br_f (by decide) ⟨rfl, R⟩)))))
  rcases h4.2 with z | ⟨o1, o2, o3, _⟩
  · exact absurd z c0
  subst o2
  have a9 := h3.2.2.2.2.2.2.2.2
  have hU := (jp_of a9).1
  have eU := h3.1.2.2.1
  have eE : b_entrySet 0 = nI U := by rw [h3.2.1.2.1, jf_E0 a9]
  subst eU
  rw [eE]
  by_cases c2 : (v1 &&& (nI U ^^^ (-1))) = 0
  · obtain ⟨S, hS, hS0, hSU, rfl⟩ := jz_set hU c1 c2
    have hv : vp_in (nI S) 64 := vp_in_nI hS (by decide)
    refine br_f c0 (br_f c1 (br_t c2 (br_f (by decide) ⟨hv, br_f c0y (br_f c1 (br_t c2 (br_t rfl ⟨hv, ?_, R⟩)))⟩)))
    rw [nI_clamp (by omega)]
    exact (o3 S hS0 hSU).1.symm
  · exact br_f c0 (br_f c1 (br_f c2 (br_t rfl (br_f c0y (br_f c1 (br_f c2 (br_f (by decide) ⟨rfl, R⟩)))))))
theorem i_vc_plans {k : Nat} {u : SX} {v : SY} (I : i_Rel k u v) (hk : k + 5 ≤ 2562) (v1 : Int32) : wpX_plans (fun r => wpY_plans (fun r' => r' = r ∧ i_Rel (k + 5) u v) v v1) u v1 := by
  refine jz_el (P := fun u v => wpX_plans (fun r => wpY_plans (fun r' => r' = r ∧ i_Rel (k + 5) u v) v v1) u v1) ?_ I
  intro f_nullKey f_maxRows f_n f_rowLimit f_rowTotal f_entryCount f_usedRels f_opCount f_optimised f_initialCost f_resultRows a_rowCount a_values a_entryRels a_entryVisible a_estimates a_opKind a_opLeftAttrs a_opRightAttrs a_opDivisor a_opLeftRels a_opRightRels a_sideSet a_eligible a_opsIn a_bestCost a_planCount a_rootOf a_leftPart a_nodeAt a_slotRows a_slotCount a_keys a_grouped a_groupStart a_groupHit a_result g_n g_rowLimit g_entries g_ops g_optimised g_hasResult b_cells b_rowCount b_entrySet b_entryVisible b_estimates b_operators b_sides b_inPlan b_least b_ways b_root b_rootLeft b_found b_foundCount n rl rc e m U E V la ra s kd dv est h1 h2 h3 h4 h5
  have R := jz_mk (f_nullKey := f_nullKey) (f_maxRows := f_maxRows) (f_n := f_n) (f_rowLimit := f_rowLimit) (f_rowTotal := f_rowTotal) (f_entryCount := f_entryCount) (f_usedRels := f_usedRels) (f_opCount := f_opCount) (f_optimised := f_optimised) (f_initialCost := f_initialCost) (f_resultRows := f_resultRows) (a_rowCount := a_rowCount) (a_values := a_values) (a_entryRels := a_entryRels) (a_entryVisible := a_entryVisible) (a_estimates := a_estimates) (a_opKind := a_opKind) (a_opLeftAttrs := a_opLeftAttrs) (a_opRightAttrs := a_opRightAttrs) (a_opDivisor := a_opDivisor) (a_opLeftRels := a_opLeftRels) (a_opRightRels := a_opRightRels) (a_sideSet := a_sideSet) (a_eligible := a_eligible) (a_opsIn := a_opsIn) (a_bestCost := a_bestCost) (a_planCount := a_planCount) (a_rootOf := a_rootOf) (a_leftPart := a_leftPart) (a_nodeAt := a_nodeAt) (a_slotRows := a_slotRows) (a_slotCount := a_slotCount) (a_keys := a_keys) (a_grouped := a_grouped) (a_groupStart := a_groupStart) (a_groupHit := a_groupHit) (a_result := a_result) (g_n := g_n) (g_rowLimit := g_rowLimit) (g_entries := g_entries) (g_ops := g_ops) (g_optimised := g_optimised) (g_hasResult := g_hasResult) (b_cells := b_cells) (b_rowCount := b_rowCount) (b_entrySet := b_entrySet) (b_entryVisible := b_entryVisible) (b_estimates := b_estimates) (b_operators := b_operators) (b_sides := b_sides) (b_inPlan := b_inPlan) (b_least := b_least) (b_ways := b_ways) (b_root := b_root) (b_rootLeft := b_rootLeft) (b_found := b_found) (b_foundCount := b_foundCount) (k := k + 5) h1 h2 h3 h4 h5
  unfold wpX_plans wpX_isPlannedSet wpY_plans wpY_noSet
  dsimp only
  by_cases c0 : f_optimised = 0
  · exact br_t c0 (br_t rfl (br_t (h4.1.trans c0) (br_f (by decide) ⟨rfl, R⟩)))
  have c0y : ¬ g_optimised = 0 := fun z => c0 (h4.1.symm.trans z)
  by_cases c1 : v1 = 0
  · exact br_f c0 (br_t c1 (br_t rfl (br_f c0y (br_t c1 (br_f (by decide) ⟨rfl, R⟩)))))
  rcases h4.2 with z | ⟨o1, o2, o3, _⟩
  · exact absurd z c0
  subst o2
  have a9 := h3.2.2.2.2.2.2.2.2
  have hU := (jp_of a9).1
  have eU := h3.1.2.2.1
  have eE : b_entrySet 0 = nI U := by rw [h3.2.1.2.1, jf_E0 a9]
  subst eU
  rw [eE]
  by_cases c2 : (v1 &&& (nI U ^^^ (-1))) = 0
  · obtain ⟨S, hS, hS0, hSU, rfl⟩ := jz_set hU c1 c2
    have hv : vp_in (nI S) 64 := vp_in_nI hS (by decide)
    refine br_f c0 (br_f c1 (br_t c2 (br_f (by decide) ⟨hv, br_f c0y (br_f c1 (br_t c2 (br_t rfl ⟨hv, ?_, R⟩)))⟩)))
    rw [nI_clamp (by omega)]
    exact (o3 S hS0 hSU).2.symm
  · exact br_f c0 (br_f c1 (br_f c2 (br_t rfl (br_f c0y (br_f c1 (br_f c2 (br_f (by decide) ⟨rfl, R⟩)))))))
theorem jn_01 {x : Int32} (h0 : ¬ x < 0) (h1 : ¬ 1 < x) : ∃ w, w < 2 ∧ x = nI w := by
  rcases jn_cl x 0 1 (by decide) (by decide) with h | h | ⟨j, _, h, e⟩
  · exact absurd (Int32.not_lt.mp h0) h
  · exact absurd (Int32.not_lt.mp h1) h
  · exact ⟨j, by omega, e⟩
theorem i_vc_side {k : Nat} {u : SX} {v : SY} (I : i_Rel k u v) (hk : k + 5 ≤ 2562) (v1 : Int32) (v2 : Int32) (v3 : Int32) : wpX_side (fun r => wpY_side (fun r' => r' = r ∧ i_Rel (k + 5) u v) v v1 v2 v3) u v1 v2 v3 := by
  refine jz_el (P := fun u v => wpX_side (fun r => wpY_side (fun r' => r' = r ∧ i_Rel (k + 5) u v) v v1 v2 v3) u v1 v2 v3) ?_ I
  intro f_nullKey f_maxRows f_n f_rowLimit f_rowTotal f_entryCount f_usedRels f_opCount f_optimised f_initialCost f_resultRows a_rowCount a_values a_entryRels a_entryVisible a_estimates a_opKind a_opLeftAttrs a_opRightAttrs a_opDivisor a_opLeftRels a_opRightRels a_sideSet a_eligible a_opsIn a_bestCost a_planCount a_rootOf a_leftPart a_nodeAt a_slotRows a_slotCount a_keys a_grouped a_groupStart a_groupHit a_result g_n g_rowLimit g_entries g_ops g_optimised g_hasResult b_cells b_rowCount b_entrySet b_entryVisible b_estimates b_operators b_sides b_inPlan b_least b_ways b_root b_rootLeft b_found b_foundCount n rl rc e m U E V la ra s kd dv est h1 h2 h3 h4 h5
  have R := jz_mk (f_nullKey := f_nullKey) (f_maxRows := f_maxRows) (f_n := f_n) (f_rowLimit := f_rowLimit) (f_rowTotal := f_rowTotal) (f_entryCount := f_entryCount) (f_usedRels := f_usedRels) (f_opCount := f_opCount) (f_optimised := f_optimised) (f_initialCost := f_initialCost) (f_resultRows := f_resultRows) (a_rowCount := a_rowCount) (a_values := a_values) (a_entryRels := a_entryRels) (a_entryVisible := a_entryVisible) (a_estimates := a_estimates) (a_opKind := a_opKind) (a_opLeftAttrs := a_opLeftAttrs) (a_opRightAttrs := a_opRightAttrs) (a_opDivisor := a_opDivisor) (a_opLeftRels := a_opLeftRels) (a_opRightRels := a_opRightRels) (a_sideSet := a_sideSet) (a_eligible := a_eligible) (a_opsIn := a_opsIn) (a_bestCost := a_bestCost) (a_planCount := a_planCount) (a_rootOf := a_rootOf) (a_leftPart := a_leftPart) (a_nodeAt := a_nodeAt) (a_slotRows := a_slotRows) (a_slotCount := a_slotCount) (a_keys := a_keys) (a_grouped := a_grouped) (a_groupStart := a_groupStart) (a_groupHit := a_groupHit) (a_result := a_result) (g_n := g_n) (g_rowLimit := g_rowLimit) (g_entries := g_entries) (g_ops := g_ops) (g_optimised := g_optimised) (g_hasResult := g_hasResult) (b_cells := b_cells) (b_rowCount := b_rowCount) (b_entrySet := b_entrySet) (b_entryVisible := b_entryVisible) (b_estimates := b_estimates) (b_operators := b_operators) (b_sides := b_sides) (b_inPlan := b_inPlan) (b_least := b_least) (b_ways := b_ways) (b_root := b_root) (b_rootLeft := b_rootLeft) (b_found := b_found) (b_foundCount := b_foundCount) (k := k + 5) h1 h2 h3 h4 h5
  have m5 := (jf_m5 h3.2.2.2.2.2.2.2.2).1
  have em := h3.1.2.2.2.1
  have gm := h3.1.2.2.2.2
  by_cases c1 : v1 < 0
  · exact br_t c1 (br_t c1 ⟨rfl, R⟩)
  by_cases c2 : 1 < v1
  · exact br_f c1 (br_t c2 (br_f c1 (br_t c2 ⟨rfl, R⟩)))
  by_cases c3 : v3 < 0
  · exact br_f c1 (br_f c2 (br_t c3 (br_f c1 (br_f c2 (br_t c3 ⟨rfl, R⟩)))))
  by_cases c4 : 1 < v3
  · exact br_f c1 (br_f c2 (br_f c3 (br_t c4 (br_f c1 (br_f c2 (br_f c3 (br_t c4 ⟨rfl, R⟩)))))))
  by_cases c5 : v2 < 0
  · exact br_f c1 (br_f c2 (br_f c3 (br_f c4 (br_t c5 (br_f c1 (br_f c2 (br_f c3 (br_f c4 (br_t c5 ⟨rfl, R⟩)))))))))
  by_cases c6 : nI m ≤ v2
  · exact br_f c1 (br_f c2 (br_f c3 (br_f c4 (br_f c5 (br_f (by rw [em]; exact Int32.not_lt.mpr c6) (br_f c1 (br_f c2 (br_f c3 (br_f c4 (br_f c5 (br_t (by rw [gm]; exact c6) ⟨rfl, R⟩)))))))))))
  obtain ⟨w, hw, rfl⟩ := jn_01 c1 c2
  obtain ⟨t, ht, rfl⟩ := jn_01 c3 c4
  obtain ⟨q, hq, rfl⟩ := jn_ix (by omega) c5 c6
  have c6x : nI q < f_opCount := by rw [em]; exact Int32.not_le.mp c6
  have c6y : ¬ g_ops ≤ nI q := by rw [gm]; exact c6
  have ix : ((nI w * 5) + nI q) * 2 + nI t = nI (10 * w + 2 * q + t) := by
    rw [show nI w * 5 + nI q = nI (w * 5 + q) from jn_ma w 5 q, show nI (w * 5 + q) * 2 + nI t = nI ((w * 5 + q) * 2 + t) from jn_ma _ 2 t]
    congr 1
    omega
  have iy : (nI w * 10 + nI q * 2) + nI t = nI (10 * w + 2 * q + t) := by
    rw [show nI q * 2 = nI (q * 2) from pk_mul q 2, show nI w * 10 + nI (q * 2) = nI (w * 10 + q * 2) from jn_ma w 10 _, nI_add]
    congr 1
    omega
  have Y : wY_side_45 (fun r' => r' = nI (s (10 * w + 2 * q + t)) ∧ i_Rel (k + 5) (f_nullKey, f_maxRows, f_n, f_rowLimit, f_rowTotal, f_entryCount, f_usedRels, f_opCount, f_optimised, f_initialCost, f_resultRows, a_rowCount, a_values, a_entryRels, a_entryVisible, a_estimates, a_opKind, a_opLeftAttrs, a_opRightAttrs, a_opDivisor, a_opLeftRels, a_opRightRels, a_sideSet, a_eligible, a_opsIn, a_bestCost, a_planCount, a_rootOf, a_leftPart, a_nodeAt, a_slotRows, a_slotCount, a_keys, a_grouped, a_groupStart, a_groupHit, a_result) (g_n, g_rowLimit, g_entries, g_ops, g_optimised, g_hasResult, b_cells, b_rowCount, b_entrySet, b_entryVisible, b_estimates, b_operators, b_sides, b_inPlan, b_least, b_ways, b_root, b_rootLeft, b_found, b_foundCount)) (nI w) (nI q) (nI t) g_n g_rowLimit g_entries g_ops g_optimised g_hasResult b_cells b_rowCount b_entrySet b_entryVisible b_estimates b_operators b_sides b_inPlan b_least b_ways b_root b_rootLeft b_found b_foundCount := by
    unfold wY_side_45
    rw [iy, nI_clamp (by omega), h3.2.2.2.2.2.1.2]
    exact ⟨vp_in_nI (by omega) (by decide), rfl, R⟩
  have X : ∀ post : Int32 → Prop, post (nI (s (10 * w + 2 * q + t))) → wX_side_48 post (nI w) (nI q) (nI t) f_nullKey f_maxRows f_n f_rowLimit f_rowTotal f_entryCount f_usedRels f_opCount f_optimised f_initialCost f_resultRows a_rowCount a_values a_entryRels a_entryVisible a_estimates a_opKind a_opLeftAttrs a_opRightAttrs a_opDivisor a_opLeftRels a_opRightRels a_sideSet a_eligible a_opsIn a_bestCost a_planCount a_rootOf a_leftPart a_nodeAt a_slotRows a_slotCount a_keys a_grouped a_groupStart a_groupHit a_result := by
    intro post hp
    unfold wX_side_48
    rw [ix, nI_clamp (by omega), h3.2.2.2.2.2.1.1]
    exact ⟨vp_in_nI (by omega) (by decide), hp⟩
  refine br_f c1 (br_f c2 (br_f c3 (br_f c4 (br_f c5 (br_t c6x ?_)))))
  by_cases c7 : nI w = 1
  · by_cases c0 : f_optimised = 0
    · exact br_t c7 (br_t c0 (br_f c1 (br_f c2 (br_f c3 (br_f c4 (br_f c5 (br_f c6y (br_t c7 (br_t (h4.1.trans c0) ⟨rfl, R⟩)))))))))
    · exact br_t c7 (br_f c0 (X _ (br_f c1 (br_f c2 (br_f c3 (br_f c4 (br_f c5 (br_f c6y (br_t c7 (br_f (fun z => c0 (h4.1.symm.trans z)) Y))))))))))
  · exact br_f c7 (X _ (br_f c1 (br_f c2 (br_f c3 (br_f c4 (br_f c5 (br_f c6y (br_f c7 Y))))))))
theorem i_vc_may {k : Nat} {u : SX} {v : SY} (I : i_Rel k u v) (hk : k + 5 ≤ 2562) (v1 : Int32) (v2 : Int32) (v3 : Int32) : wpX_may (fun r => wpY_may (fun r' => r' = r ∧ i_Rel (k + 5) u v) v v1 v2 v3) u v1 v2 v3 := by
  refine jz_el (P := fun u v => wpX_may (fun r => wpY_may (fun r' => r' = r ∧ i_Rel (k + 5) u v) v v1 v2 v3) u v1 v2 v3) ?_ I
  intro f_nullKey f_maxRows f_n f_rowLimit f_rowTotal f_entryCount f_usedRels f_opCount f_optimised f_initialCost f_resultRows a_rowCount a_values a_entryRels a_entryVisible a_estimates a_opKind a_opLeftAttrs a_opRightAttrs a_opDivisor a_opLeftRels a_opRightRels a_sideSet a_eligible a_opsIn a_bestCost a_planCount a_rootOf a_leftPart a_nodeAt a_slotRows a_slotCount a_keys a_grouped a_groupStart a_groupHit a_result g_n g_rowLimit g_entries g_ops g_optimised g_hasResult b_cells b_rowCount b_entrySet b_entryVisible b_estimates b_operators b_sides b_inPlan b_least b_ways b_root b_rootLeft b_found b_foundCount n rl rc e m U E V la ra s kd dv est h1 h2 h3 h4 h5
  have R := jz_mk (f_nullKey := f_nullKey) (f_maxRows := f_maxRows) (f_n := f_n) (f_rowLimit := f_rowLimit) (f_rowTotal := f_rowTotal) (f_entryCount := f_entryCount) (f_usedRels := f_usedRels) (f_opCount := f_opCount) (f_optimised := f_optimised) (f_initialCost := f_initialCost) (f_resultRows := f_resultRows) (a_rowCount := a_rowCount) (a_values := a_values) (a_entryRels := a_entryRels) (a_entryVisible := a_entryVisible) (a_estimates := a_estimates) (a_opKind := a_opKind) (a_opLeftAttrs := a_opLeftAttrs) (a_opRightAttrs := a_opRightAttrs) (a_opDivisor := a_opDivisor) (a_opLeftRels := a_opLeftRels) (a_opRightRels := a_opRightRels) (a_sideSet := a_sideSet) (a_eligible := a_eligible) (a_opsIn := a_opsIn) (a_bestCost := a_bestCost) (a_planCount := a_planCount) (a_rootOf := a_rootOf) (a_leftPart := a_leftPart) (a_nodeAt := a_nodeAt) (a_slotRows := a_slotRows) (a_slotCount := a_slotCount) (a_keys := a_keys) (a_grouped := a_grouped) (a_groupStart := a_groupStart) (a_groupHit := a_groupHit) (a_result := a_result) (g_n := g_n) (g_rowLimit := g_rowLimit) (g_entries := g_entries) (g_ops := g_ops) (g_optimised := g_optimised) (g_hasResult := g_hasResult) (b_cells := b_cells) (b_rowCount := b_rowCount) (b_entrySet := b_entrySet) (b_entryVisible := b_entryVisible) (b_estimates := b_estimates) (b_operators := b_operators) (b_sides := b_sides) (b_inPlan := b_inPlan) (b_least := b_least) (b_ways := b_ways) (b_root := b_root) (b_rootLeft := b_rootLeft) (b_found := b_found) (b_foundCount := b_foundCount) (k := k + 5) h1 h2 h3 h4 h5
  have a9 := h3.2.2.2.2.2.2.2.2
  have m5 := (jf_m5 a9).1
  have em := h3.1.2.2.2.1
  have gm := h3.1.2.2.2.2
  by_cases c1 : v1 < 0
  · exact br_t c1 (br_t c1 ⟨rfl, R⟩)
  by_cases c2 : nI m ≤ v1
  · exact br_f c1 (br_t (by rw [em]; exact c2) (br_f c1 (br_t (by rw [gm]; exact c2) ⟨rfl, R⟩)))
  have c2x : ¬ f_opCount ≤ v1 := by rw [em]; exact c2
  have c2y : ¬ g_ops ≤ v1 := by rw [gm]; exact c2
  by_cases c3 : v2 < 0
  · exact br_f c1 (br_f c2x (br_t c3 (br_f c1 (br_f c2y (br_t c3 ⟨rfl, R⟩)))))
  by_cases c4 : nI m ≤ v2
  · exact br_f c1 (br_f c2x (br_f c3 (br_t (by rw [em]; exact c4) (br_f c1 (br_f c2y (br_f c3 (br_t (by rw [gm]; exact c4) ⟨rfl, R⟩)))))))
  have c4x : ¬ f_opCount ≤ v2 := by rw [em]; exact c4
  have c4y : ¬ g_ops ≤ v2 := by rw [gm]; exact c4
  by_cases c5 : v1 = v2
  · exact br_f c1 (br_f c2x (br_f c3 (br_f c4x (br_t c5 (br_f c1 (br_f c2y (br_f c3 (br_f c4y (br_t c5 ⟨rfl, R⟩)))))))))
  by_cases c6 : v3 < 0
  · exact br_f c1 (br_f c2x (br_f c3 (br_f c4x (br_f c5 (br_t c6 (br_f c1 (br_f c2y (br_f c3 (br_f c4y (br_f c5 (br_t c6 ⟨rfl, R⟩)))))))))))
  by_cases c7 : v3 ≤ 1
  case neg => exact br_f c1 (br_f c2x (br_f c3 (br_f c4x (br_f c5 (br_f c6 (br_f c7 (br_f c1 (br_f c2y (br_f c3 (br_f c4y (br_f c5 (br_f c6 (br_f c7 ⟨rfl, R⟩)))))))))))))
  obtain ⟨o, ho, rfl⟩ := jn_ix (by omega) c1 c2
  obtain ⟨w, hw, rfl⟩ := jn_ix (by omega) c3 c4
  obtain ⟨t, ht, rfl⟩ := jn_01 c6 (Int32.not_lt.mpr c7)
  have hne : o ≠ w := fun z => c5 (by rw [z])
  have hs := jf_s64 a9
  have hkd : ∀ i, i < m → kd i < 10 := fun i hi => (h3.2.2.2.2.2.2.2.1 i hi).1
  have Yal : ∀ (r : Int32), (jp_al s kd o w t → r = 1) → (¬ jp_al s kd o w t → r = 0) → wpY_may (fun r' => r' = r ∧ i_Rel (k + 5) (f_nullKey, f_maxRows, f_n, f_rowLimit, f_rowTotal, f_entryCount, f_usedRels, f_opCount, f_optimised, f_initialCost, f_resultRows, a_rowCount, a_values, a_entryRels, a_entryVisible, a_estimates, a_opKind, a_opLeftAttrs, a_opRightAttrs, a_opDivisor, a_opLeftRels, a_opRightRels, a_sideSet, a_eligible, a_opsIn, a_bestCost, a_planCount, a_rootOf, a_leftPart, a_nodeAt, a_slotRows, a_slotCount, a_keys, a_grouped, a_groupStart, a_groupHit, a_result) (g_n, g_rowLimit, g_entries, g_ops, g_optimised, g_hasResult, b_cells, b_rowCount, b_entrySet, b_entryVisible, b_estimates, b_operators, b_sides, b_inPlan, b_least, b_ways, b_root, b_rootLeft, b_found, b_foundCount)) (g_n, g_rowLimit, g_entries, g_ops, g_optimised, g_hasResult, b_cells, b_rowCount, b_entrySet, b_entryVisible, b_estimates, b_operators, b_sides, b_inPlan, b_least, b_ways, b_root, b_rootLeft, b_found, b_foundCount) (nI o) (nI w) (nI t) := by
    intro r k1 k0
    refine br_f c1 (br_f c2y (br_f c3 (br_f c4y (br_f c5 (br_f c6 (br_t c7 ?_))))))
    exact jy_allowed (s := s) (kd := kd) ho hw m5 h3.2.2.2.2.2.1.2 hs (fun i _ => h3.2.2.2.2.1.1 i) hkd ht (fun z => br_f (by decide) ⟨(k1 z).symm, R⟩) (fun z => br_t rfl ⟨(k0 z).symm, R⟩)
  refine br_f c1 (br_f c2x (br_f c3 (br_f c4x (br_f c5 (br_f c6 (br_t c7 ?_))))))
  exact jx_allowed (s := s) (kd := kd) ho hw m5 hne a9.2.2.2.2.1 h3.2.2.2.2.2.1.1 hs h3.2.2.2.1.1 hkd ht (fun z => br_f (by decide) (Yal 1 (fun _ => rfl) (fun y => absurd z y))) (fun z => br_t rfl (Yal 0 (fun y => absurd y z) (fun _ => rfl)))
theorem i_vc_entry {k : Nat} {u : SX} {v : SY} (I : i_Rel k u v) (hk : k + 5 ≤ 2562) (v1 : Int32) : wpX_entry (fun r => wpY_entry (fun r' => r' = r ∧ i_Rel (k + 5) u v) v v1) u v1 := by
  refine jz_el (P := fun u v => wpX_entry (fun r => wpY_entry (fun r' => r' = r ∧ i_Rel (k + 5) u v) v v1) u v1) ?_ I
  intro f_nullKey f_maxRows f_n f_rowLimit f_rowTotal f_entryCount f_usedRels f_opCount f_optimised f_initialCost f_resultRows a_rowCount a_values a_entryRels a_entryVisible a_estimates a_opKind a_opLeftAttrs a_opRightAttrs a_opDivisor a_opLeftRels a_opRightRels a_sideSet a_eligible a_opsIn a_bestCost a_planCount a_rootOf a_leftPart a_nodeAt a_slotRows a_slotCount a_keys a_grouped a_groupStart a_groupHit a_result g_n g_rowLimit g_entries g_ops g_optimised g_hasResult b_cells b_rowCount b_entrySet b_entryVisible b_estimates b_operators b_sides b_inPlan b_least b_ways b_root b_rootLeft b_found b_foundCount n rl rc e m U E V la ra s kd dv est h1 h2 h3 h4 h5
  have R := jz_mk (f_nullKey := f_nullKey) (f_maxRows := f_maxRows) (f_n := f_n) (f_rowLimit := f_rowLimit) (f_rowTotal := f_rowTotal) (f_entryCount := f_entryCount) (f_usedRels := f_usedRels) (f_opCount := f_opCount) (f_optimised := f_optimised) (f_initialCost := f_initialCost) (f_resultRows := f_resultRows) (a_rowCount := a_rowCount) (a_values := a_values) (a_entryRels := a_entryRels) (a_entryVisible := a_entryVisible) (a_estimates := a_estimates) (a_opKind := a_opKind) (a_opLeftAttrs := a_opLeftAttrs) (a_opRightAttrs := a_opRightAttrs) (a_opDivisor := a_opDivisor) (a_opLeftRels := a_opLeftRels) (a_opRightRels := a_opRightRels) (a_sideSet := a_sideSet) (a_eligible := a_eligible) (a_opsIn := a_opsIn) (a_bestCost := a_bestCost) (a_planCount := a_planCount) (a_rootOf := a_rootOf) (a_leftPart := a_leftPart) (a_nodeAt := a_nodeAt) (a_slotRows := a_slotRows) (a_slotCount := a_slotCount) (a_keys := a_keys) (a_grouped := a_grouped) (a_groupStart := a_groupStart) (a_groupHit := a_groupHit) (a_result := a_result) (g_n := g_n) (g_rowLimit := g_rowLimit) (g_entries := g_entries) (g_ops := g_ops) (g_optimised := g_optimised) (g_hasResult := g_hasResult) (b_cells := b_cells) (b_rowCount := b_rowCount) (b_entrySet := b_entrySet) (b_entryVisible := b_entryVisible) (b_estimates := b_estimates) (b_operators := b_operators) (b_sides := b_sides) (b_inPlan := b_inPlan) (b_least := b_least) (b_ways := b_ways) (b_root := b_root) (b_rootLeft := b_rootLeft) (b_found := b_found) (b_foundCount := b_foundCount) (k := k + 5) h1 h2 h3 h4 h5
  have e6 := (jf_m5 h3.2.2.2.2.2.2.2.2).2
  have ex := h3.1.1
  have ey := h3.1.2.1
  by_cases c1 : v1 < 0
  · exact br_t c1 (br_t c1 ⟨rfl, R⟩)
  by_cases c2 : nI e ≤ v1
  · exact br_f c1 (br_f (by rw [ex]; exact Int32.not_lt.mpr c2) (br_f c1 (br_f (by rw [ey]; exact Int32.not_lt.mpr c2) ⟨rfl, R⟩)))
  obtain ⟨i, hi, rfl⟩ := jn_ix (by omega) c1 c2
  have hv : vp_in (nI i) 6 := vp_in_nI (by omega) (by decide)
  refine br_f c1 (br_t (by rw [ex]; exact Int32.not_le.mp c2) ⟨hv, br_f c1 (br_t (by rw [ey]; exact Int32.not_le.mp c2) ⟨hv, ?_, R⟩)⟩)
  rw [h3.2.1.1, h3.2.1.2.1]
theorem i_vc_detail {k : Nat} {u : SX} {v : SY} (I : i_Rel k u v) (hk : k + 5 ≤ 2562) (v1 : Int32) (v2 : Int32) : wpX_detail (fun r => wpY_detail (fun r' => r' = r ∧ i_Rel (k + 5) u v) v v1 v2) u v1 v2 := by
  refine jz_el (P := fun u v => wpX_detail (fun r => wpY_detail (fun r' => r' = r ∧ i_Rel (k + 5) u v) v v1 v2) u v1 v2) ?_ I
  intro f_nullKey f_maxRows f_n f_rowLimit f_rowTotal f_entryCount f_usedRels f_opCount f_optimised f_initialCost f_resultRows a_rowCount a_values a_entryRels a_entryVisible a_estimates a_opKind a_opLeftAttrs a_opRightAttrs a_opDivisor a_opLeftRels a_opRightRels a_sideSet a_eligible a_opsIn a_bestCost a_planCount a_rootOf a_leftPart a_nodeAt a_slotRows a_slotCount a_keys a_grouped a_groupStart a_groupHit a_result g_n g_rowLimit g_entries g_ops g_optimised g_hasResult b_cells b_rowCount b_entrySet b_entryVisible b_estimates b_operators b_sides b_inPlan b_least b_ways b_root b_rootLeft b_found b_foundCount n rl rc e m U E V la ra s kd dv est h1 h2 h3 h4 h5
  have R := jz_mk (f_nullKey := f_nullKey) (f_maxRows := f_maxRows) (f_n := f_n) (f_rowLimit := f_rowLimit) (f_rowTotal := f_rowTotal) (f_entryCount := f_entryCount) (f_usedRels := f_usedRels) (f_opCount := f_opCount) (f_optimised := f_optimised) (f_initialCost := f_initialCost) (f_resultRows := f_resultRows) (a_rowCount := a_rowCount) (a_values := a_values) (a_entryRels := a_entryRels) (a_entryVisible := a_entryVisible) (a_estimates := a_estimates) (a_opKind := a_opKind) (a_opLeftAttrs := a_opLeftAttrs) (a_opRightAttrs := a_opRightAttrs) (a_opDivisor := a_opDivisor) (a_opLeftRels := a_opLeftRels) (a_opRightRels := a_opRightRels) (a_sideSet := a_sideSet) (a_eligible := a_eligible) (a_opsIn := a_opsIn) (a_bestCost := a_bestCost) (a_planCount := a_planCount) (a_rootOf := a_rootOf) (a_leftPart := a_leftPart) (a_nodeAt := a_nodeAt) (a_slotRows := a_slotRows) (a_slotCount := a_slotCount) (a_keys := a_keys) (a_grouped := a_grouped) (a_groupStart := a_groupStart) (a_groupHit := a_groupHit) (a_result := a_result) (g_n := g_n) (g_rowLimit := g_rowLimit) (g_entries := g_entries) (g_ops := g_ops) (g_optimised := g_optimised) (g_hasResult := g_hasResult) (b_cells := b_cells) (b_rowCount := b_rowCount) (b_entrySet := b_entrySet) (b_entryVisible := b_entryVisible) (b_estimates := b_estimates) (b_operators := b_operators) (b_sides := b_sides) (b_inPlan := b_inPlan) (b_least := b_least) (b_ways := b_ways) (b_root := b_root) (b_rootLeft := b_rootLeft) (b_found := b_found) (b_foundCount := b_foundCount) (k := k + 5) h1 h2 h3 h4 h5
  have a9 := h3.2.2.2.2.2.2.2.2
  obtain ⟨m5, e6⟩ := jf_m5 a9
  have em := h3.1.2.2.2.1
  have gm := h3.1.2.2.2.2
  have n6 := h1.2.2.2.1
  have hUn := a9.1.2.1
  have hU : U < 64 := Nat.lt_of_lt_of_le hUn (Nat.pow_le_pow_right (by decide) n6)
  have eU := h3.1.2.2.1
  subst eU
  by_cases c1 : v2 < 0
  · exact br_t c1 (br_t c1 ⟨rfl, R⟩)
  by_cases c2 : 4 < v2
  · exact br_f c1 (br_t c2 (br_f c1 (br_t c2 ⟨rfl, R⟩)))
  by_cases c3 : v1 < 0
  · exact br_f c1 (br_f c2 (br_t c3 (br_f c1 (br_f c2 (br_f (Int32.not_le.mpr c3) ⟨rfl, R⟩)))))
  have c3y : 0 ≤ v1 := Int32.not_lt.mp c3
  obtain ⟨f, hf, rfl⟩ : ∃ f, f ≤ 4 ∧ v2 = nI f := by
    rcases jn_cl v2 0 4 (by decide) (by decide) with h | h | ⟨j, _, h, e⟩
    · exact absurd (Int32.not_lt.mp c1) h
    · exact absurd (Int32.not_lt.mp c2) h
    · exact ⟨j, h, e⟩
  obtain ⟨q, hq, rfl⟩ := nI_of c3
  by_cases c4 : q ≤ 5
  · have c4' : nI q ≤ 5 := nI_le (b := 5) c4 (by decide)
    have hv6 : vp_in (nI q) 6 := vp_in_nI (by omega) (by decide)
    refine br_f c1 (br_f c2 (br_f c3 (br_t c4' ?_)))
    by_cases c5 : f = 4
    · subst c5
      refine br_t rfl ?_
      by_cases c6 : U.testBit q = true
      · have hqn := ja_bd hUn c6
        refine br_f (fun z => (ja_b0 (by omega) (by omega)).mp z c6) ⟨hv6, br_f c1 (br_f c2 (br_t c3y (br_t (by decide) (br_f (by rw [h1.2.1]; exact nI_ge hqn (by omega)) ?_))))⟩
        refine jy_isLeaf (U := U) (E := E) (V := V) (e := e) e6 (by omega) h3.1.2.1 h3.2.1.2.1 h3.2.1.2.2 a9.2.1 (fun _ => br_f (by decide) ⟨hv6, ?_, R⟩) (fun z => absurd c6 z)
        rw [nI_clamp (by omega), (h3.2.2.2.2.2.2.1 q c6).1, (h3.2.2.2.2.2.2.1 q c6).2.1]
      · refine br_t ((ja_b0 (by omega) (by omega)).mpr c6) (br_f c1 (br_f c2 (br_t c3y (br_t (by decide) ?_))))
        by_cases c7 : n ≤ q
        · exact br_t (by rw [h1.2.1]; exact nI_le c7 (by omega)) ⟨rfl, R⟩
        · refine br_f (by rw [h1.2.1]; exact nI_ge (by omega) (by omega)) ?_
          exact jy_isLeaf (U := U) (E := E) (V := V) (e := e) e6 (by omega) h3.1.2.1 h3.2.1.2.1 h3.2.1.2.2 a9.2.1 (fun z => absurd z c6) (fun _ => br_t rfl ⟨rfl, R⟩)
    · have c5' : ¬ nI f = 4 := fun z => c5 ((nI_eq (b := 4) (by omega) (by decide)).mp z)
      have c5y : ¬ 4 ≤ nI f := nI_ge (b := 4) (by omega) (by decide)
      refine br_f c5' ?_
      by_cases c6 : q < m
      · have hv5 : vp_in (nI q) 5 := vp_in_nI (by omega) (by decide)
        have e4 : nI q * 4 + nI f = nI (q * 4 + f) := jn_ma q 4 f
        have Y : ∀ r : Int32, b_operators (q * 4 + f) = r → wpY_detail (fun r' => r' = r ∧ i_Rel (k + 5) (f_nullKey, f_maxRows, f_n, f_rowLimit, f_rowTotal, f_entryCount, nI U, f_opCount, f_optimised, f_initialCost, f_resultRows, a_rowCount, a_values, a_entryRels, a_entryVisible, a_estimates, a_opKind, a_opLeftAttrs, a_opRightAttrs, a_opDivisor, a_opLeftRels, a_opRightRels, a_sideSet, a_eligible, a_opsIn, a_bestCost, a_planCount, a_rootOf, a_leftPart, a_nodeAt, a_slotRows, a_slotCount, a_keys, a_grouped, a_groupStart, a_groupHit, a_result) (g_n, g_rowLimit, g_entries, g_ops, g_optimised, g_hasResult, b_cells, b_rowCount, b_entrySet, b_entryVisible, b_estimates, b_operators, b_sides, b_inPlan, b_least, b_ways, b_root, b_rootLeft, b_found, b_foundCount)) (g_n, g_rowLimit, g_entries, g_ops, g_optimised, g_hasResult, b_cells, b_rowCount, b_entrySet, b_entryVisible, b_estimates, b_operators, b_sides, b_inPlan, b_least, b_ways, b_root, b_rootLeft, b_found, b_foundCount) (nI q) (nI f) := by
          intro r hr
          refine br_f c1 (br_f c2 (br_t c3y (br_f c5y (br_f (by rw [gm]; exact nI_ge c6 (by omega)) ⟨by rw [e4]; exact vp_in_nI (by omega) (by decide), ?_, R⟩))))
          rw [e4, nI_clamp (by omega)]
          exact hr
        have a4 := h3.2.2.2.1
        have a5 := h3.2.2.2.2.1
        refine br_t (by rw [em]; exact nI_lt c6 (by omega)) (pk_eq f 0 (fun z => ⟨hv5, Y _ ?_⟩) (fun z0 => pk_eq f 1 (fun z => ⟨hv5, Y _ ?_⟩) (fun z1 => pk_eq f 2 (fun z => ⟨hv5, Y _ ?_⟩) (fun z2 => ⟨hv5, Y _ ?_⟩))))
        · rw [z, nI_clamp (by omega), a4.1]; exact a5.1 q
        · rw [z, nI_clamp (by omega), a4.2.1]; exact a5.2.1 q
        · rw [z, nI_clamp (by omega), a4.2.2.1]; exact a5.2.2.1 q
        · rw [show f = 3 from by omega, nI_clamp (by omega), a4.2.2.2.1]; exact a5.2.2.2 q
      · exact br_f (by rw [em]; exact nI_nlt (by omega) (by omega)) (br_f c1 (br_f c2 (br_t c3y (br_f c5y (br_t (by rw [gm]; exact nI_le (by omega) (by omega)) ⟨rfl, R⟩)))))
  · have c4' : ¬ nI q ≤ 5 := nI_ge (a := 5) (by omega) (by omega)
    refine br_f c1 (br_f c2 (br_f c3 (br_f c4' (br_f c1 (br_f c2 (br_t c3y ?_))))))
    exact br_c (fun z => br_t (by rw [h1.2.1]; exact nI_le (by omega) (by omega)) ⟨rfl, R⟩) (fun z => br_t (by rw [gm]; exact nI_le (by omega) (by omega)) ⟨rfl, R⟩)
end
